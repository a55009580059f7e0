section
-- ===== PART A: goes FIRST, ahead of the names: the tables' words, and 'selects' of the private methods out of them =====
/-- a private method of a class that the tables say can be made, by its rows of tables_1 -/
def lw_okq (q : MethodName × Nat) : Prop := (q.1.cls ≠ "java/lang/invoke/MethodHandle" ∧ q.1.cls ≠ "java/lang/invoke/VarHandle") ∧ Cond.instantiable q.1.cls q.2 ∈ tables_1 ∧ Cond.privateMethod q.1 ∈ tables_1 ∧ Cond.instanceMethod q.1 ∈ tables_1
set_option maxRecDepth 100000
theorem lw_t1 {w : Cond} (h : w ∈ tables_1_1) : w ∈ tables_1 := List.mem_append_left _ h
theorem lw_t2 {w : Cond} (h : w ∈ tables_1_2) : w ∈ tables_1 := List.mem_append_right _ h
theorem lw_p0 : lw_okq (⟨"KeyedDigest", "row", "(IJ)V"⟩, 13) := ⟨⟨by decide +kernel, by decide +kernel⟩, lw_t1 (List.mem_of_getElem? (i := 4) rfl), lw_t1 (List.mem_of_getElem? (i := 59) rfl), lw_t1 (List.mem_of_getElem? (i := 60) rfl)⟩
theorem lw_p1 : lw_okq (⟨"KeyedDigest", "take", "(I)V"⟩, 13) := ⟨⟨by decide +kernel, by decide +kernel⟩, lw_t1 (List.mem_of_getElem? (i := 4) rfl), lw_t1 (List.mem_of_getElem? (i := 97) rfl), lw_t1 (List.mem_of_getElem? (i := 98) rfl)⟩
theorem lw_p2 : lw_okq (⟨"KeyedDigest", "mix", "(Z)V"⟩, 13) := ⟨⟨by decide +kernel, by decide +kernel⟩, lw_t1 (List.mem_of_getElem? (i := 4) rfl), lw_t1 (List.mem_of_getElem? (i := 102) rfl), lw_t1 (List.mem_of_getElem? (i := 103) rfl)⟩
theorem lw_p3 : lw_okq (⟨"KeyedDigest", "four", "(IIIII)V"⟩, 13) := ⟨⟨by decide +kernel, by decide +kernel⟩, lw_t1 (List.mem_of_getElem? (i := 4) rfl), lw_t1 (List.mem_of_getElem? (i := 106) rfl), lw_t1 (List.mem_of_getElem? (i := 107) rfl)⟩
theorem lw_p4 : lw_okq (⟨"KeyedDigest", "half", "(IIIIIII)V"⟩, 13) := ⟨⟨by decide +kernel, by decide +kernel⟩, lw_t1 (List.mem_of_getElem? (i := 4) rfl), lw_t1 (List.mem_of_getElem? (i := 110) rfl), lw_t1 (List.mem_of_getElem? (i := 111) rfl)⟩
theorem lw_p5 : lw_okq (⟨"KeyedDigestModel", "take", "(I)V"⟩, 13) := ⟨⟨by decide +kernel, by decide +kernel⟩, lw_t1 (List.mem_of_getElem? (i := 141) rfl), lw_t1 (List.mem_of_getElem? (i := 211) rfl), lw_t1 (List.mem_of_getElem? (i := 212) rfl)⟩
theorem lw_p6 : lw_okq (⟨"KeyedDigestModel", "mix", "(JZ)V"⟩, 13) := ⟨⟨by decide +kernel, by decide +kernel⟩, lw_t1 (List.mem_of_getElem? (i := 141) rfl), lw_t1 (List.mem_of_getElem? (i := 216) rfl), lw_t1 (List.mem_of_getElem? (i := 217) rfl)⟩
theorem lw_p7 : lw_okq (⟨"KeyedDigestModel", "g", "(IIIIII)V"⟩, 13) := ⟨⟨by decide +kernel, by decide +kernel⟩, lw_t1 (List.mem_of_getElem? (i := 141) rfl), lw_t1 (List.mem_of_getElem? (i := 220) rfl), lw_t1 (List.mem_of_getElem? (i := 221) rfl)⟩
def lw_privs_1 : List (MethodName × Nat) := [(⟨"KeyedDigest", "row", "(IJ)V"⟩, 13), (⟨"KeyedDigest", "take", "(I)V"⟩, 13), (⟨"KeyedDigest", "mix", "(Z)V"⟩, 13), (⟨"KeyedDigest", "four", "(IIIII)V"⟩, 13), (⟨"KeyedDigest", "half", "(IIIIIII)V"⟩, 13), (⟨"KeyedDigestModel", "take", "(I)V"⟩, 13), (⟨"KeyedDigestModel", "mix", "(JZ)V"⟩, 13), (⟨"KeyedDigestModel", "g", "(IIIIII)V"⟩, 13)]
theorem lw_r1 : ∀ q ∈ lw_privs_1, lw_okq q := List.forall_mem_cons.mpr ⟨lw_p0, List.forall_mem_cons.mpr ⟨lw_p1, List.forall_mem_cons.mpr ⟨lw_p2, List.forall_mem_cons.mpr ⟨lw_p3, List.forall_mem_cons.mpr ⟨lw_p4, List.forall_mem_cons.mpr ⟨lw_p5, List.forall_mem_cons.mpr ⟨lw_p6, List.forall_mem_cons.mpr ⟨lw_p7, fun _ h => absurd h List.not_mem_nil⟩⟩⟩⟩⟩⟩⟩⟩
def lw_privs : List (MethodName × Nat) := lw_privs_1
def lw_tbl : List Cond := k2_sels lw_privs ++ tables_1
theorem lw_privs_ok : ∀ q ∈ lw_privs, lw_okq q := lw_r1
-- ===== ONE list of words for every method: the tables' words that hold all through a run =====
def lw_all : List Cond := lw_tbl.filter goodWord
/-- a word of the tables by its place: claim/WORDS.tsv -/
theorem lw_w {w : Cond} (i : Nat) (h : lw_tbl[i]? = some w) (g : goodWord w = true) : w ∈ lw_all := List.mem_filter.mpr ⟨List.mem_of_getElem? h, g⟩
theorem lw_all_tbl {w : Cond} (h : w ∈ lw_all) : w ∈ lw_tbl := (List.mem_filter.mp h).1
theorem lw_self : GoodIn lw_all lw_all := fun w h => ⟨h, good_of_word (List.mem_filter.mp h).2⟩
/-- a class's field words, by their places -/
theorem lw_in (ws : List Cond) (ps : List Nat) (hp : ws = ps.filterMap (fun i => lw_tbl[i]?)) (hg : ws.all goodWord = true) : ∀ w ∈ ws, w ∈ lw_all := by
  intro w h
  have h1 := List.all_eq_true.mp hg w h
  rw [hp] at h
  obtain ⟨i, -, hi⟩ := List.mem_filterMap.mp h
  exact lw_w i hi h1
/-- the words of a contract for the method y with code b, L locals, answer r -/
abbrev ws_ (y : MethodName) (b : ByteArray) (L : Nat) (r : Option FieldType) : List Cond := Cond.code y b L r :: lw_all
theorem lw_meth {y : MethodName} {b : ByteArray} {L : Nat} {r : Option FieldType} (h : Cond.code y b L r ∈ lw_all) : GoodIn lw_all (ws_ y b L r) := by
  intro w hw
  rcases List.mem_cons.mp hw with e | e
  · rw [e]
    exact lw_self _ h
  · exact lw_self _ e
theorem lw_app {a c : List Cond} (ha : ∀ w ∈ a, w ∈ lw_all) (hc : GoodIn lw_all c) : GoodIn lw_all (a ++ c) := by
  intro w hw
  rcases List.mem_append.mp hw with e | e
  · exact lw_self w (ha w e)
  · exact hc w e
/-- what a call through an object asks: cwV n hts (lw_V ..) -/
theorem lw_V {own : String} {idx : Nat} {C : String} {y : MethodName} {b : ByteArray} {L : Nat} {r : Option FieldType} (h1 : Cond.methodLink own idx y ∈ lw_all) (h2 : Cond.instanceMethod y ∈ lw_all) (h3 : Cond.selects C y y ∈ lw_all) (h4 : Cond.initialized C ∈ lw_all) (h5 : Cond.code y b L r ∈ lw_all) : GoodIn lw_all (wsV own idx C y (ws_ y b L r)) := by
  refine lw_app ?_ (lw_meth h5)
  intro w hw
  simp only [List.mem_cons, List.not_mem_nil, or_false] at hw
  rcases hw with e | e | e | e
  · rw [e]; exact h1
  · rw [e]; exact h2
  · rw [e]; exact h3
  · rw [e]; exact h4
/-- what a static call asks: va_cwS n hts (lw_S ..) -/
theorem lw_S {own : String} {idx : Nat} {y : MethodName} {b : ByteArray} {L : Nat} {r : Option FieldType} (h1 : Cond.methodLink own idx y ∈ lw_all) (h2 : Cond.static y ∈ lw_all) (h3 : Cond.initialized y.cls ∈ lw_all) (h4 : Cond.code y b L r ∈ lw_all) : GoodIn lw_all (va_wsS own idx y (ws_ y b L r)) := by
  refine lw_app ?_ (lw_meth h4)
  intro w hw
  simp only [List.mem_cons, List.not_mem_nil, or_false] at hw
  rcases hw with e | e | e
  · rw [e]; exact h1
  · rw [e]; exact h2
  · rw [e]; exact h3
/-- the words of a contract for a method WITH HANDLERS (hh: its table) -/
abbrev wsW_ (y : MethodName) (b : ByteArray) (L : Nat) (r : Option FieldType) (hh : List (Nat × Nat × Nat × Nat)) : List Cond := Cond.codeWith y b L r hh :: lw_all
theorem lw_methW {y : MethodName} {b : ByteArray} {L : Nat} {r : Option FieldType} {hh : List (Nat × Nat × Nat × Nat)} (h : Cond.codeWith y b L r hh ∈ lw_all) : GoodIn lw_all (wsW_ y b L r hh) := by
  intro w hw
  rcases List.mem_cons.mp hw with e | e
  · rw [e]
    exact lw_self _ h
  · exact lw_self _ e
/-- any list of words by their places (lw_in), good -/
theorem lw_good {ws : List Cond} (h : ∀ w ∈ ws, w ∈ lw_all) : GoodIn lw_all ws := fun w hw => lw_self w (h w hw)
/-- what a call of a method with handlers asks: vx_cwVW n hts (lw_VW ..), vx_cwSW n hts (lw_SW ..) -/
theorem lw_VW {own : String} {idx : Nat} {C : String} {y : MethodName} {b : ByteArray} {L : Nat} {r : Option FieldType} {hh : List (Nat × Nat × Nat × Nat)} (h1 : Cond.methodLink own idx y ∈ lw_all) (h2 : Cond.instanceMethod y ∈ lw_all) (h3 : Cond.selects C y y ∈ lw_all) (h4 : Cond.initialized C ∈ lw_all) (h5 : Cond.codeWith y b L r hh ∈ lw_all) : GoodIn lw_all (wsV own idx C y (wsW_ y b L r hh)) := by
  refine lw_app ?_ (lw_methW h5)
  intro w hw
  simp only [List.mem_cons, List.not_mem_nil, or_false] at hw
  rcases hw with e | e | e | e
  · rw [e]; exact h1
  · rw [e]; exact h2
  · rw [e]; exact h3
  · rw [e]; exact h4
theorem lw_SW {own : String} {idx : Nat} {y : MethodName} {b : ByteArray} {L : Nat} {r : Option FieldType} {hh : List (Nat × Nat × Nat × Nat)} (h1 : Cond.methodLink own idx y ∈ lw_all) (h2 : Cond.static y ∈ lw_all) (h3 : Cond.initialized y.cls ∈ lw_all) (h4 : Cond.codeWith y b L r hh ∈ lw_all) : GoodIn lw_all (va_wsS own idx y (wsW_ y b L r hh)) := by
  refine lw_app ?_ (lw_methW h4)
  intro w hw
  simp only [List.mem_cons, List.not_mem_nil, or_false] at hw
  rcases hw with e | e | e
  · rw [e]; exact h1
  · rw [e]; exact h2
  · rw [e]; exact h3
/-- a word by its place in its run of the tables -/
theorem lw_at {r : List Cond} (hr : ∀ w ∈ r, w ∈ lw_tbl) {w : Cond} (i : Nat) (h : r[i]? = some w) : w ∈ lw_tbl := hr w (List.mem_of_getElem? h)
theorem lw_g {w : Cond} (h : w ∈ lw_tbl) (g : goodWord w = true) : w ∈ lw_all := List.mem_filter.mpr ⟨h, g⟩
theorem lw_ms : ∀ w ∈ k2_sels lw_privs, w ∈ lw_tbl := fun w h => show w ∈ k2_sels lw_privs ++ tables_1 from List.mem_append_left _ h
theorem lw_m1 : ∀ w ∈ tables_1_1, w ∈ lw_tbl := fun w h => show w ∈ k2_sels lw_privs ++ tables_1 from List.mem_append_right (k2_sels lw_privs) (show w ∈ tables_1 from List.mem_append_left _ h)
theorem lw_m2 : ∀ w ∈ tables_1_2, w ∈ lw_tbl := fun w h => show w ∈ k2_sels lw_privs ++ tables_1 from List.mem_append_right (k2_sels lw_privs) (show w ∈ tables_1 from List.mem_append_right _ h)
theorem qs0 : (Cond.selects "KeyedDigest" ⟨"KeyedDigest", "row", "(IJ)V"⟩ ⟨"KeyedDigest", "row", "(IJ)V"⟩) ∈ lw_all := lw_g (lw_at lw_ms 0 rfl) rfl
theorem qs1 : (Cond.selects "KeyedDigest" ⟨"KeyedDigest", "take", "(I)V"⟩ ⟨"KeyedDigest", "take", "(I)V"⟩) ∈ lw_all := lw_g (lw_at lw_ms 1 rfl) rfl
theorem qs2 : (Cond.selects "KeyedDigest" ⟨"KeyedDigest", "mix", "(Z)V"⟩ ⟨"KeyedDigest", "mix", "(Z)V"⟩) ∈ lw_all := lw_g (lw_at lw_ms 2 rfl) rfl
theorem qs3 : (Cond.selects "KeyedDigest" ⟨"KeyedDigest", "four", "(IIIII)V"⟩ ⟨"KeyedDigest", "four", "(IIIII)V"⟩) ∈ lw_all := lw_g (lw_at lw_ms 3 rfl) rfl
theorem qs4 : (Cond.selects "KeyedDigest" ⟨"KeyedDigest", "half", "(IIIIIII)V"⟩ ⟨"KeyedDigest", "half", "(IIIIIII)V"⟩) ∈ lw_all := lw_g (lw_at lw_ms 4 rfl) rfl
theorem qs5 : (Cond.selects "KeyedDigestModel" ⟨"KeyedDigestModel", "take", "(I)V"⟩ ⟨"KeyedDigestModel", "take", "(I)V"⟩) ∈ lw_all := lw_g (lw_at lw_ms 5 rfl) rfl
theorem qs6 : (Cond.selects "KeyedDigestModel" ⟨"KeyedDigestModel", "mix", "(JZ)V"⟩ ⟨"KeyedDigestModel", "mix", "(JZ)V"⟩) ∈ lw_all := lw_g (lw_at lw_ms 6 rfl) rfl
theorem qs7 : (Cond.selects "KeyedDigestModel" ⟨"KeyedDigestModel", "g", "(IIIIII)V"⟩ ⟨"KeyedDigestModel", "g", "(IIIIII)V"⟩) ∈ lw_all := lw_g (lw_at lw_ms 7 rfl) rfl
end
section
/-! KeyedDigest: the pure functions, one mathematical value for both sides -/
set_option maxRecDepth 100000
/-- filled from below: f under i, g from i on -/
def kd_fill {α : Type} (f g : Nat → α) (i : Nat) : Nat → α := fun k => if k < i then f k else g k
theorem kd_fill_0 {α : Type} (f g : Nat → α) : kd_fill f g 0 = g := funext fun k => if_neg (Nat.not_lt_zero k)
theorem kd_fill_in {α : Type} {f g : Nat → α} {i k : Nat} (h : k < i) : kd_fill f g i k = f k := if_pos h
theorem kd_fill_out {α : Type} {f g : Nat → α} {i k : Nat} (h : i ≤ k) : kd_fill f g i k = g k := if_neg (Nat.not_lt.mpr h)
theorem kd_fill_s {f g : Nat → Int32} {i : Nat} {x : Int32} (e : x = f i) : upd (kd_fill f g i) i x = kd_fill f g (i + 1) := by
  funext k
  unfold upd kd_fill
  by_cases hk : k = i
  · subst hk
    rw [if_pos rfl, if_pos (Nat.lt_succ_self k)]
    exact e
  · rw [if_neg hk]
    by_cases h2 : k < i
    · rw [if_pos h2, if_pos (by omega)]
    · rw [if_neg h2, if_neg (by omega)]
theorem kd_upd_same {f : Nat → Int32} {i : Nat} {x : Int32} (h : f i = x) : upd f i x = f := by
  funext k
  unfold upd
  by_cases hk : k = i
  · subst hk
    rw [if_pos rfl, h]
  · rw [if_neg hk]
/-- an index: i within n, at the place j -/
def kd_ix (i : Int32) (j n : Nat) : Prop := vp_in i n ∧ i.toNatClampNeg = j
theorem kd_ix_n {j n : Nat} (h : j < n) (hn : n ≤ 1000) : kd_ix (nI j) j n := ⟨vp_in_nI h (by omega), nI_clamp (by omega)⟩
theorem kd_ix_e {i : Int32} {j n : Nat} (e : i = nI j) (h : j < n) (hn : n ≤ 1000) : kd_ix i j n := by
  rw [e]
  exact kd_ix_n h hn
/-- a byte as a Java byte keeps it -/
def kd_sx (x : Int32) : Int32 := x.toInt8.toInt32
theorem kd_sx_sx (x : Int32) : (kd_sx x).toInt8.toInt32 = kd_sx x := pk_vb x
/-- an int that is an unsigned byte -/
def kd_by (x : Int32) : Prop := x &&& 255 = x
/-- the first words -/
def kd_iv : Nat → Int32 := fun k => match k with
  | 0 => 1779033703
  | 1 => -1150833019
  | 2 => 1013904242
  | 3 => -1521486534
  | 4 => 1359893119
  | 5 => -1694144372
  | 6 => 528734635
  | _ => 1541459225
/-- the rows of places -/
def kd_tl : List Nat := [0, 1, 2, 3, 4, 5, 6, 7, 8, 9, 10, 11, 12, 13, 14, 15, 14, 10, 4, 8, 9, 15, 13, 6, 1, 12, 0, 2, 11, 7, 5, 3, 11, 8, 12, 0, 5, 2, 15, 13, 10, 14, 3, 6, 7, 1, 9, 4, 7, 9, 3, 1, 13, 12, 11, 14, 2, 6, 5, 10, 4, 0, 15, 8, 9, 0, 5, 7, 2, 4, 10, 15, 14, 1, 11, 12, 6, 8, 3, 13, 2, 12, 6, 10, 0, 11, 8, 3, 4, 13, 7, 5, 15, 14, 1, 9, 12, 5, 1, 15, 14, 13, 4, 10, 0, 7, 6, 3, 9, 2, 8, 11, 13, 11, 7, 14, 12, 1, 3, 9, 5, 0, 15, 4, 8, 6, 2, 10, 6, 15, 14, 9, 11, 3, 0, 8, 12, 2, 13, 7, 1, 4, 10, 5, 10, 2, 8, 4, 7, 6, 1, 5, 15, 11, 9, 14, 3, 12, 13, 0]
def kd_pn (k : Nat) : Nat := kd_tl.getD k 0
def kd_tbl (k : Nat) : Int32 := nI (kd_pn k)
theorem kd_pn_lt : ∀ k, k < 160 → kd_pn k < 16 := by decide +kernel
theorem kd_tbl_ix {k : Nat} (h : k < 160) : kd_ix (kd_tbl k) (kd_pn k) 16 := kd_ix_n (kd_pn_lt k h) (by omega)
def kd_dn (x b : Int32) : Int32 := (x.toUInt32 >>> (b.toUInt32 &&& Int32.toUInt32 31)).toInt32 ||| (x <<< ((32 - b) &&& 31))
def kd_h1 (v : Nat → Int32) (a b : Nat) (x : Int32) : Nat → Int32 := upd v a (v a + (v b + x))
def kd_h2 (v : Nat → Int32) (a d : Nat) (s : Int32) : Nat → Int32 := upd v d (kd_dn (v d ^^^ v a) s)
def kd_h3 (v : Nat → Int32) (c d : Nat) : Nat → Int32 := upd v c (v c + v d)
def kd_hf (v : Nat → Int32) (a b c d : Nat) (x s1 s2 : Int32) : Nat → Int32 := kd_h2 (kd_h3 (kd_h2 (kd_h1 v a b x) a d s1) c d) c b s2
def kd_G (v : Nat → Int32) (a b c d : Nat) (x y : Int32) : Nat → Int32 := kd_hf (kd_hf v a b c d x 16 12) a b c d y 8 7
/-- the message's word at a place -/
def kd_px (w : Nat → Int32) (k : Nat) : Int32 := w (kd_pn k)
def kd_rnd (w v : Nat → Int32) (i : Nat) : Nat → Int32 :=
  kd_G (kd_G (kd_G (kd_G (kd_G (kd_G (kd_G (kd_G v 0 4 8 12 (kd_px w (16 * i)) (kd_px w (16 * i + 1))) 1 5 9 13 (kd_px w (16 * i + 2)) (kd_px w (16 * i + 3))) 2 6 10 14 (kd_px w (16 * i + 4)) (kd_px w (16 * i + 5))) 3 7 11 15 (kd_px w (16 * i + 6)) (kd_px w (16 * i + 7))) 0 5 10 15 (kd_px w (16 * i + 8)) (kd_px w (16 * i + 9))) 1 6 11 12 (kd_px w (16 * i + 10)) (kd_px w (16 * i + 11))) 2 7 8 13 (kd_px w (16 * i + 12)) (kd_px w (16 * i + 13))) 3 4 9 14 (kd_px w (16 * i + 14)) (kd_px w (16 * i + 15))
def kd_rs (w v : Nat → Int32) : Nat → (Nat → Int32)
  | 0 => v
  | i + 1 => kd_rnd w (kd_rs w v i) i
def kd_vs (h : Nat → Int32) : Nat → Int32 := fun j => if j < 8 then h j else kd_iv (j - 8)
def kd_x12 (v : Nat → Int32) (n : Int64) : Nat → Int32 := upd v 12 (v 12 ^^^ n.toInt32)
def kd_x13 (v : Nat → Int32) (n : Int64) : Nat → Int32 := upd v 13 (v 13 ^^^ ((n.toUInt64 >>> ((32 : Int32).toInt64.toUInt64 &&& Int64.toUInt64 63)).toInt64).toInt32)
def kd_x14 (v : Nat → Int32) : Nat → Int32 := upd v 14 (v 14 ^^^ (-1))
def kd_v0 (h : Nat → Int32) (n : Int64) (last : Int32) : Nat → Int32 := if last = 0 then kd_x13 (kd_x12 (kd_vs h) n) n else kd_x14 (kd_x13 (kd_x12 (kd_vs h) n) n)
def kd_xo (h v : Nat → Int32) : Nat → Int32 := fun j => h j ^^^ (v j ^^^ v (8 + j))
def kd_mx (w h : Nat → Int32) (n : Int64) (last : Int32) : Nat → Int32 := kd_xo h (kd_rs w (kd_v0 h n last) 10)
/-- the block's words -/
def kd_w (bk : Nat → Int32) : Nat → Int32 := fun k => ((bk (4 * k) ||| (bk (4 * k + 1) <<< ((8 : Int32) &&& 31))) ||| (bk (4 * k + 2) <<< ((16 : Int32) &&& 31))) ||| (bk (4 * k + 3) <<< ((24 : Int32) &&& 31))
/-- what a message is at: the words, the block, how full it is, the bytes that were mixed in -/
abbrev kd_C : Type := (Nat → Int32) × (Nat → Int32) × Nat × Int64
def kd_tk (K : kd_C) (b : Int32) : kd_C := if K.2.2.1 = 64 then (kd_mx (kd_w K.2.1) K.1 (K.2.2.2 + 64) 0, upd K.2.1 0 b, 1, K.2.2.2 + 64) else (K.1, upd K.2.1 K.2.2.1 b, K.2.2.1 + 1, K.2.2.2)
def kd_tN (K : kd_C) (es : Nat → Int32) : Nat → kd_C
  | 0 => K
  | i + 1 => kd_tk (kd_tN K es i) (es i)
def kd_pad (bk : Nat → Int32) (f k : Nat) : Nat → Int32 := fun j => if f ≤ j ∧ j < k then 0 else bk j
theorem kd_pad_0 (bk : Nat → Int32) (f : Nat) : kd_pad bk f f = bk := by
  funext j
  unfold kd_pad
  rw [if_neg (by omega)]
theorem kd_pad_s (bk : Nat → Int32) {f k : Nat} (h : f ≤ k) : upd (kd_pad bk f k) k 0 = kd_pad bk f (k + 1) := by
  funext j
  unfold upd kd_pad
  by_cases hj : j = k
  · subst hj
    rw [if_pos rfl, if_pos (by omega)]
  · rw [if_neg hj]
    by_cases h2 : f ≤ j ∧ j < k
    · rw [if_pos h2, if_pos (by omega)]
    · rw [if_neg h2, if_neg (by omega)]
/-- X's block and key: each byte as a Java byte -/
def kd_e (f : Nat → Int32) : Nat → Int32 := fun j => kd_sx (f j)
theorem kd_e_upd (f : Nat → Int32) (k : Nat) (x : Int32) : upd (kd_e f) k (kd_sx x) = kd_e (upd f k x) := by
  funext j
  show (if j = k then kd_sx x else kd_sx (f j)) = kd_sx (if j = k then x else f j)
  by_cases hj : j = k
  · rw [if_pos hj, if_pos hj]
  · rw [if_neg hj, if_neg hj]
theorem kd_sx_0 : kd_sx 0 = 0 := by decide
theorem kd_e_pad (bk : Nat → Int32) {f k : Nat} (h : f ≤ k) : upd (kd_e (kd_pad bk f k)) k 0 = kd_e (kd_pad bk f (k + 1)) := by
  have e := kd_e_upd (kd_pad bk f k) k 0
  rw [kd_sx_0] at e
  rw [e, kd_pad_s bk h]
/-- the key's block -/
def kd_kb (ky : Nat → Int32) (kk : Int32) : Nat → Int32 := fun j => if nI j < kk then ky j else 0
/-- the first word at a start -/
def kd_hd (nn kk : Int32) : Int32 := kd_iv 0 ^^^ ((16842752 ^^^ (kk <<< ((8 : Int32) &&& 31))) ^^^ nn)
def kd_sel (a b c d : Int32) (k : Nat) : Int32 := if k < 4 then a else if k < 8 then b else if k < 12 then c else d
def kd_ub (a b c d : Int32) (k : Nat) : Int32 := (kd_sel a b c d k >>> ((24 - 8 * (nI k - nI k / 4 * 4)) &&& 31)) &&& 255
/-- the message's start -/
def kd_st (K : kd_C) (ky : Nat → Int32) (nn kk : Int32) : kd_C := if 0 < kk then (upd kd_iv 0 (kd_hd nn kk), kd_fill (kd_kb ky kk) K.2.1 64, 64, 0) else (upd kd_iv 0 (kd_hd nn kk), K.2.1, 0, 0)
/-- the message's end -/
def kd_fin (K : kd_C) : kd_C := (kd_mx (kd_w (kd_pad K.2.1 K.2.2.1 64)) K.1 (K.2.2.2 + (nI K.2.2.1).toInt64) 1, kd_pad K.2.1 K.2.2.1 64, K.2.2.1, K.2.2.2 + (nI K.2.2.1).toInt64)
def kd_out (ph dg : Int32) (h : Nat → Int32) (i : Int32) : Int32 := if ph = 2 ∧ ¬ i < 0 ∧ i < dg then ((h (i / 4).toNatClampNeg).toUInt32 >>> ((8 * (i - i / 4 * 4)).toUInt32 &&& Int32.toUInt32 31)).toInt32 &&& 255 else -1
def kd_len (ph : Int32) (ct : Int64) : Int32 := if ph = 0 then -1 else ct.toInt32
def kd_wd (ph : Int32) (h : Nat → Int32) (i : Int32) : Int32 := if ¬ ph = 0 ∧ ¬ i < 0 ∧ i ≤ 7 then h i.toNatClampNeg else 0
def kd_op (ph : Int32) : Int32 := if ph = 1 then 1 else 0
def kd_do (ph : Int32) : Int32 := if ph = 2 then 1 else 0
/-- what holds of a message all along -/
def kd_ok (K : kd_C) : Prop := K.2.2.1 ≤ 64 ∧ ∀ j, kd_by (K.2.1 j)
theorem kd_by_0 : kd_by 0 := by unfold kd_by; decide
theorem kd_by_and (x : Int32) : kd_by (x &&& 255) := by
  unfold kd_by
  rw [Int32.and_assoc]
  rfl
theorem kd_by_upd {f : Nat → Int32} {k : Nat} {x : Int32} (h : ∀ j, kd_by (f j)) (hx : kd_by x) : ∀ j, kd_by (upd f k x j) := by
  intro j
  unfold upd
  by_cases hj : j = k
  · rw [if_pos hj]; exact hx
  · rw [if_neg hj]; exact h j
theorem kd_tk_ok {K : kd_C} {b : Int32} (h : kd_ok K) (hb : kd_by b) : kd_ok (kd_tk K b) := by
  unfold kd_tk
  by_cases hf : K.2.2.1 = 64
  · rw [if_pos hf]
    exact ⟨by show 1 ≤ 64; omega, kd_by_upd h.2 hb⟩
  · rw [if_neg hf]
    have := h.1
    exact ⟨by show K.2.2.1 + 1 ≤ 64; omega, kd_by_upd h.2 hb⟩
theorem kd_tN_ok {K : kd_C} {es : Nat → Int32} (h : kd_ok K) (hb : ∀ j, kd_by (es j)) : ∀ n, kd_ok (kd_tN K es n)
  | 0 => h
  | n + 1 => kd_tk_ok (kd_tN_ok h hb n) (hb n)
theorem kd_pad_by {bk : Nat → Int32} (h : ∀ j, kd_by (bk j)) (f k : Nat) : ∀ j, kd_by (kd_pad bk f k j) := by
  intro j
  unfold kd_pad
  by_cases hj : f ≤ j ∧ j < k
  · rw [if_pos hj]; exact kd_by_0
  · rw [if_neg hj]; exact h j
theorem kd_fin_ok {K : kd_C} (h : kd_ok K) : kd_ok (kd_fin K) := ⟨h.1, kd_pad_by h.2 _ _⟩
theorem kd_st_ok {K : kd_C} {ky : Nat → Int32} (nn kk : Int32) (h : kd_ok K) (hk : ∀ j, kd_by (ky j)) : kd_ok (kd_st K ky nn kk) := by
  unfold kd_st
  by_cases hq : 0 < kk
  · rw [if_pos hq]
    refine ⟨by show 64 ≤ 64; omega, fun j => ?_⟩
    show kd_by (kd_fill (kd_kb ky kk) K.2.1 64 j)
    unfold kd_fill kd_kb
    by_cases h1 : j < 64
    · rw [if_pos h1]
      by_cases h2 : nI j < kk
      · rw [if_pos h2]; exact hk j
      · rw [if_neg h2]; exact kd_by_0
    · rw [if_neg h1]; exact h.2 j
  · rw [if_neg hq]
    exact ⟨by show 0 ≤ 64; omega, h.2⟩
theorem kd_ub_by (a b c d : Int32) (k : Nat) : kd_by (kd_ub a b c d k) := kd_by_and _
/-- bytes by their tests -/
theorem kd_by_of {b : Int32} (h0 : ¬ b < 0) (h1 : ¬ 256 ≤ b) : kd_by b := by
  obtain ⟨j, hj, rfl⟩ := nI_of h0
  have hlt : j < 256 := by
    rcases Nat.lt_or_ge j 256 with q | q
    · exact q
    · exact absurd (show (256 : Int32) ≤ nI j from nI_le (a := 256) q hj) h1
  unfold kd_by
  have e := pk_andN (n := j) (by omega) (m := 255) 8 (by decide)
  rw [e, Nat.mod_eq_of_lt (by omega)]
end
section
set_option maxRecDepth 100000
/-! java/lang/Object -/
def RJ0 : String := "java/lang/Object"
abbrev cJ0_init : ByteArray := object_method_1_code
def yJ0_init : MethodName := ⟨RJ0, "<init>", "()V"⟩
theorem q17 : (Jvm.Cond.instanceMethod ({ cls := "java/lang/Object", name := "<init>", desc := "()V" } : Jvm.MethodName)) ∈ lw_all := lw_g (lw_at lw_m1 9 rfl) rfl
theorem q18 : (Jvm.Cond.code ({ cls := "java/lang/Object", name := "<init>", desc := "()V" } : Jvm.MethodName) object_method_1_code (1 : Nat) (Option.none : Option Jvm.ClassFile.FieldType)) ∈ lw_all := lw_g (lw_at lw_m1 10 rfl) rfl

/-! KeyedDigest -/
def RX0 : String := "KeyedDigest"
def TX0 : u_T := fun k => match k with
  | 0 => ("KeyedDigest", "ready", "Z", false)
  | 1 => ("KeyedDigest", "phase", "I", false)
  | 2 => ("KeyedDigest", "key", "[B", true)
  | 3 => ("KeyedDigest", "places", "[B", true)
  | 4 => ("KeyedDigest", "begin", "[I", true)
  | 5 => ("KeyedDigest", "h", "[I", true)
  | 6 => ("KeyedDigest", "m", "[I", true)
  | 7 => ("KeyedDigest", "v", "[I", true)
  | 8 => ("KeyedDigest", "block", "[B", true)
  | 9 => ("KeyedDigest", "filled", "I", false)
  | 10 => ("KeyedDigest", "mixed", "J", false)
  | 11 => ("KeyedDigest", "digest", "I", false)
  | _ => ("KeyedDigest", "count", "J", false)
def tyX0 : Nat → FieldType := fun k => match k with
  | 0 => .boolean
  | 1 => .int
  | 2 => .array .byte
  | 3 => .array .byte
  | 4 => .array .int
  | 5 => .array .int
  | 6 => .array .int
  | 7 => .array .int
  | 8 => .array .byte
  | 9 => .int
  | 10 => .long
  | 11 => .int
  | _ => .long
abbrev wsX00 : List Cond := u_ws RX0 TX0 13
set_option maxRecDepth 100000 in
theorem nmX0 : ∀ a, a < 13 → ∀ b, b < 13 → a ≠ b → (TX0 a).2.1 ≠ (TX0 b).2.1 := by decide +kernel
set_option maxRecDepth 100000 in
theorem tyX0_ok : ∀ k, k < 13 → parseFieldDescriptor (TX0 k).2.2.1 = some (tyX0 k) := by decide +kernel
abbrev cX0_init : ByteArray := prog_1_method_1_code
def yX0_init : MethodName := ⟨RX0, "<init>", "()V"⟩
abbrev cX0_init_2 : ByteArray := prog_1_method_3_code
def yX0_init_2 : MethodName := ⟨RX0, "init", "()V"⟩
abbrev cX0_row : ByteArray := prog_1_method_2_code
def yX0_row : MethodName := ⟨RX0, "row", "(IJ)V"⟩
abbrev cX0_setKeyByte : ByteArray := prog_1_method_5_code
def yX0_setKeyByte : MethodName := ⟨RX0, "setKeyByte", "(II)Z"⟩
abbrev cX0_isByte : ByteArray := prog_1_method_4_code
def yX0_isByte : MethodName := ⟨RX0, "isByte", "(I)Z"⟩
abbrev cX0_start : ByteArray := prog_1_method_10_code
def yX0_start : MethodName := ⟨RX0, "start", "(II)Z"⟩
abbrev cX0_update : ByteArray := prog_1_method_12_code
def yX0_update : MethodName := ⟨RX0, "update", "(I)Z"⟩
abbrev cX0_take : ByteArray := prog_1_method_11_code
def yX0_take : MethodName := ⟨RX0, "take", "(I)V"⟩
abbrev cX0_mix : ByteArray := prog_1_method_9_code
def yX0_mix : MethodName := ⟨RX0, "mix", "(Z)V"⟩
abbrev cX0_four : ByteArray := prog_1_method_8_code
def yX0_four : MethodName := ⟨RX0, "four", "(IIIII)V"⟩
abbrev cX0_half : ByteArray := prog_1_method_7_code
def yX0_half : MethodName := ⟨RX0, "half", "(IIIIIII)V"⟩
abbrev cX0_down : ByteArray := prog_1_method_6_code
def yX0_down : MethodName := ⟨RX0, "down", "(II)I"⟩
abbrev cX0_updates : ByteArray := prog_1_method_13_code
def yX0_updates : MethodName := ⟨RX0, "updates", "(IIIII)Z"⟩
abbrev cX0_fill : ByteArray := prog_1_method_14_code
def yX0_fill : MethodName := ⟨RX0, "fill", "(II)Z"⟩
abbrev cX0_finish : ByteArray := prog_1_method_15_code
def yX0_finish : MethodName := ⟨RX0, "finish", "()Z"⟩
abbrev cX0_out : ByteArray := prog_1_method_16_code
def yX0_out : MethodName := ⟨RX0, "out", "(I)I"⟩
abbrev cX0_length : ByteArray := prog_1_method_17_code
def yX0_length : MethodName := ⟨RX0, "length", "()I"⟩
abbrev cX0_word : ByteArray := prog_1_method_18_code
def yX0_word : MethodName := ⟨RX0, "word", "(I)I"⟩
theorem q9 : (Jvm.Cond.initialized "KeyedDigest") ∈ lw_all := lw_g (lw_at lw_m1 1 rfl) rfl
theorem q12 : (Jvm.Cond.instantiable "KeyedDigest" (13 : Nat)) ∈ lw_all := lw_g (lw_at lw_m1 4 rfl) rfl
theorem q14 : (Jvm.Cond.instanceMethod ({ cls := "KeyedDigest", name := "<init>", desc := "()V" } : Jvm.MethodName)) ∈ lw_all := lw_g (lw_at lw_m1 6 rfl) rfl
theorem q15 : (Jvm.Cond.code ({ cls := "KeyedDigest", name := "<init>", desc := "()V" } : Jvm.MethodName) prog_1_method_1_code (1 : Nat) (Option.none : Option Jvm.ClassFile.FieldType)) ∈ lw_all := lw_g (lw_at lw_m1 7 rfl) rfl
theorem q16 : (Jvm.Cond.methodLink "KeyedDigest" (1 : Nat) ({ cls := "java/lang/Object", name := "<init>", desc := "()V" } : Jvm.MethodName)) ∈ lw_all := lw_g (lw_at lw_m1 8 rfl) rfl
theorem q19 : (Jvm.Cond.fieldLink "KeyedDigest" (66 : Nat) "KeyedDigest" "ready" "Z") ∈ lw_all := lw_g (lw_at lw_m1 11 rfl) rfl
theorem q20 : (Jvm.Cond.fieldLink "KeyedDigest" (70 : Nat) "KeyedDigest" "phase" "I") ∈ lw_all := lw_g (lw_at lw_m1 12 rfl) rfl
theorem q21 : (Jvm.Cond.fieldLink "KeyedDigest" (9 : Nat) "KeyedDigest" "key" "[B") ∈ lw_all := lw_g (lw_at lw_m1 13 rfl) rfl
theorem q22 : (Jvm.Cond.fieldLink "KeyedDigest" (13 : Nat) "KeyedDigest" "places" "[B") ∈ lw_all := lw_g (lw_at lw_m1 14 rfl) rfl
theorem q23 : (Jvm.Cond.fieldLink "KeyedDigest" (16 : Nat) "KeyedDigest" "begin" "[I") ∈ lw_all := lw_g (lw_at lw_m1 15 rfl) rfl
theorem q24 : (Jvm.Cond.fieldLink "KeyedDigest" (20 : Nat) "KeyedDigest" "h" "[I") ∈ lw_all := lw_g (lw_at lw_m1 16 rfl) rfl
theorem q25 : (Jvm.Cond.fieldLink "KeyedDigest" (23 : Nat) "KeyedDigest" "m" "[I") ∈ lw_all := lw_g (lw_at lw_m1 17 rfl) rfl
theorem q26 : (Jvm.Cond.fieldLink "KeyedDigest" (26 : Nat) "KeyedDigest" "v" "[I") ∈ lw_all := lw_g (lw_at lw_m1 18 rfl) rfl
theorem q27 : (Jvm.Cond.fieldLink "KeyedDigest" (29 : Nat) "KeyedDigest" "block" "[B") ∈ lw_all := lw_g (lw_at lw_m1 19 rfl) rfl
theorem q28 : (Jvm.Cond.fieldLink "KeyedDigest" (98 : Nat) "KeyedDigest" "filled" "I") ∈ lw_all := lw_g (lw_at lw_m1 20 rfl) rfl
theorem q29 : (Jvm.Cond.fieldLink "KeyedDigest" (86 : Nat) "KeyedDigest" "mixed" "J") ∈ lw_all := lw_g (lw_at lw_m1 21 rfl) rfl
theorem q30 : (Jvm.Cond.fieldLink "KeyedDigest" (95 : Nat) "KeyedDigest" "digest" "I") ∈ lw_all := lw_g (lw_at lw_m1 22 rfl) rfl
theorem q31 : (Jvm.Cond.fieldLink "KeyedDigest" (101 : Nat) "KeyedDigest" "count" "J") ∈ lw_all := lw_g (lw_at lw_m1 23 rfl) rfl
theorem q32 : (Jvm.Cond.lays "KeyedDigest" "KeyedDigest" "ready" "Z") ∈ lw_all := lw_g (lw_at lw_m1 24 rfl) rfl
theorem q33 : (Jvm.Cond.soleField "KeyedDigest" "ready") ∈ lw_all := lw_g (lw_at lw_m1 25 rfl) rfl
theorem q34 : (Jvm.Cond.lays "KeyedDigest" "KeyedDigest" "phase" "I") ∈ lw_all := lw_g (lw_at lw_m1 26 rfl) rfl
theorem q35 : (Jvm.Cond.soleField "KeyedDigest" "phase") ∈ lw_all := lw_g (lw_at lw_m1 27 rfl) rfl
theorem q36 : (Jvm.Cond.laysFinal "KeyedDigest" "KeyedDigest" "key" "[B") ∈ lw_all := lw_g (lw_at lw_m1 28 rfl) rfl
theorem q37 : (Jvm.Cond.soleField "KeyedDigest" "key") ∈ lw_all := lw_g (lw_at lw_m1 29 rfl) rfl
theorem q38 : (Jvm.Cond.laysFinal "KeyedDigest" "KeyedDigest" "places" "[B") ∈ lw_all := lw_g (lw_at lw_m1 30 rfl) rfl
theorem q39 : (Jvm.Cond.soleField "KeyedDigest" "places") ∈ lw_all := lw_g (lw_at lw_m1 31 rfl) rfl
theorem q40 : (Jvm.Cond.laysFinal "KeyedDigest" "KeyedDigest" "begin" "[I") ∈ lw_all := lw_g (lw_at lw_m1 32 rfl) rfl
theorem q41 : (Jvm.Cond.soleField "KeyedDigest" "begin") ∈ lw_all := lw_g (lw_at lw_m1 33 rfl) rfl
theorem q42 : (Jvm.Cond.laysFinal "KeyedDigest" "KeyedDigest" "h" "[I") ∈ lw_all := lw_g (lw_at lw_m1 34 rfl) rfl
theorem q43 : (Jvm.Cond.soleField "KeyedDigest" "h") ∈ lw_all := lw_g (lw_at lw_m1 35 rfl) rfl
theorem q44 : (Jvm.Cond.laysFinal "KeyedDigest" "KeyedDigest" "m" "[I") ∈ lw_all := lw_g (lw_at lw_m1 36 rfl) rfl
theorem q45 : (Jvm.Cond.soleField "KeyedDigest" "m") ∈ lw_all := lw_g (lw_at lw_m1 37 rfl) rfl
theorem q46 : (Jvm.Cond.laysFinal "KeyedDigest" "KeyedDigest" "v" "[I") ∈ lw_all := lw_g (lw_at lw_m1 38 rfl) rfl
theorem q47 : (Jvm.Cond.soleField "KeyedDigest" "v") ∈ lw_all := lw_g (lw_at lw_m1 39 rfl) rfl
theorem q48 : (Jvm.Cond.laysFinal "KeyedDigest" "KeyedDigest" "block" "[B") ∈ lw_all := lw_g (lw_at lw_m1 40 rfl) rfl
theorem q49 : (Jvm.Cond.soleField "KeyedDigest" "block") ∈ lw_all := lw_g (lw_at lw_m1 41 rfl) rfl
theorem q50 : (Jvm.Cond.lays "KeyedDigest" "KeyedDigest" "filled" "I") ∈ lw_all := lw_g (lw_at lw_m1 42 rfl) rfl
theorem q51 : (Jvm.Cond.soleField "KeyedDigest" "filled") ∈ lw_all := lw_g (lw_at lw_m1 43 rfl) rfl
theorem q52 : (Jvm.Cond.lays "KeyedDigest" "KeyedDigest" "mixed" "J") ∈ lw_all := lw_g (lw_at lw_m1 44 rfl) rfl
theorem q53 : (Jvm.Cond.soleField "KeyedDigest" "mixed") ∈ lw_all := lw_g (lw_at lw_m1 45 rfl) rfl
theorem q54 : (Jvm.Cond.lays "KeyedDigest" "KeyedDigest" "digest" "I") ∈ lw_all := lw_g (lw_at lw_m1 46 rfl) rfl
theorem q55 : (Jvm.Cond.soleField "KeyedDigest" "digest") ∈ lw_all := lw_g (lw_at lw_m1 47 rfl) rfl
theorem q56 : (Jvm.Cond.lays "KeyedDigest" "KeyedDigest" "count" "J") ∈ lw_all := lw_g (lw_at lw_m1 48 rfl) rfl
theorem q57 : (Jvm.Cond.soleField "KeyedDigest" "count") ∈ lw_all := lw_g (lw_at lw_m1 49 rfl) rfl
theorem q58 : (Jvm.Cond.superclass "KeyedDigest" "java/lang/Object") ∈ lw_all := lw_g (lw_at lw_m1 50 rfl) rfl
theorem q62 : (Jvm.Cond.instanceMethod ({ cls := "KeyedDigest", name := "init", desc := "()V" } : Jvm.MethodName)) ∈ lw_all := lw_g (lw_at lw_m1 54 rfl) rfl
theorem q63 : (Jvm.Cond.selects "KeyedDigest" ({ cls := "KeyedDigest", name := "init", desc := "()V" } : Jvm.MethodName) ({ cls := "KeyedDigest", name := "init", desc := "()V" } : Jvm.MethodName)) ∈ lw_all := lw_g (lw_at lw_m1 55 rfl) rfl
theorem q64 : (Jvm.Cond.code ({ cls := "KeyedDigest", name := "init", desc := "()V" } : Jvm.MethodName) prog_1_method_3_code (2 : Nat) (Option.none : Option Jvm.ClassFile.FieldType)) ∈ lw_all := lw_g (lw_at lw_m1 56 rfl) rfl
theorem q65 : (Jvm.Cond.constantLong "KeyedDigest" (34 : Nat) (81985529216486895 : Int64)) ∈ lw_all := lw_g (lw_at lw_m1 57 rfl) rfl
theorem q66 : (Jvm.Cond.methodLink "KeyedDigest" (36 : Nat) ({ cls := "KeyedDigest", name := "row", desc := "(IJ)V" } : Jvm.MethodName)) ∈ lw_all := lw_g (lw_at lw_m1 58 rfl) rfl
theorem q67 : (Jvm.Cond.privateMethod ({ cls := "KeyedDigest", name := "row", desc := "(IJ)V" } : Jvm.MethodName)) ∈ lw_tbl := lw_at lw_m1 59 rfl
theorem q68 : (Jvm.Cond.instanceMethod ({ cls := "KeyedDigest", name := "row", desc := "(IJ)V" } : Jvm.MethodName)) ∈ lw_all := lw_g (lw_at lw_m1 60 rfl) rfl
theorem q69 : (Jvm.Cond.code ({ cls := "KeyedDigest", name := "row", desc := "(IJ)V" } : Jvm.MethodName) prog_1_method_2_code (5 : Nat) (Option.none : Option Jvm.ClassFile.FieldType)) ∈ lw_all := lw_g (lw_at lw_m1 61 rfl) rfl
theorem q70 : (Jvm.Cond.constantLong "KeyedDigest" (32 : Nat) (15 : Int64)) ∈ lw_all := lw_g (lw_at lw_m1 62 rfl) rfl
theorem q71 : (Jvm.Cond.constantLong "KeyedDigest" (40 : Nat) (-1564825128569489581 : Int64)) ∈ lw_all := lw_g (lw_at lw_m1 63 rfl) rfl
theorem q72 : (Jvm.Cond.constantLong "KeyedDigest" (42 : Nat) (-5134012325699358316 : Int64)) ∈ lw_all := lw_g (lw_at lw_m1 64 rfl) rfl
theorem q73 : (Jvm.Cond.constantLong "KeyedDigest" (44 : Nat) (8733003861693448440 : Int64)) ∈ lw_all := lw_g (lw_at lw_m1 65 rfl) rfl
theorem q74 : (Jvm.Cond.constantLong "KeyedDigest" (46 : Nat) (-8045921871449003971 : Int64)) ∈ lw_all := lw_g (lw_at lw_m1 66 rfl) rfl
theorem q75 : (Jvm.Cond.constantLong "KeyedDigest" (48 : Nat) (3200383143768358425 : Int64)) ∈ lw_all := lw_g (lw_at lw_m1 67 rfl) rfl
theorem q76 : (Jvm.Cond.constantLong "KeyedDigest" (50 : Nat) (-4242411421752388981 : Int64)) ∈ lw_all := lw_g (lw_at lw_m1 68 rfl) rfl
theorem q77 : (Jvm.Cond.constantLong "KeyedDigest" (52 : Nat) (-2630452680422291926 : Int64)) ∈ lw_all := lw_g (lw_at lw_m1 69 rfl) rfl
theorem q78 : (Jvm.Cond.constantLong "KeyedDigest" (54 : Nat) (8064173457993569445 : Int64)) ∈ lw_all := lw_g (lw_at lw_m1 70 rfl) rfl
theorem q79 : (Jvm.Cond.constantLong "KeyedDigest" (56 : Nat) (-6736129305851577136 : Int64)) ∈ lw_all := lw_g (lw_at lw_m1 71 rfl) rfl
theorem q80 : (Jvm.Cond.constant "KeyedDigest" (58 : Nat) (1779033703 : Int32)) ∈ lw_all := lw_g (lw_at lw_m1 72 rfl) rfl
theorem q81 : (Jvm.Cond.constant "KeyedDigest" (59 : Nat) (-1150833019 : Int32)) ∈ lw_all := lw_g (lw_at lw_m1 73 rfl) rfl
theorem q82 : (Jvm.Cond.constant "KeyedDigest" (60 : Nat) (1013904242 : Int32)) ∈ lw_all := lw_g (lw_at lw_m1 74 rfl) rfl
theorem q83 : (Jvm.Cond.constant "KeyedDigest" (61 : Nat) (-1521486534 : Int32)) ∈ lw_all := lw_g (lw_at lw_m1 75 rfl) rfl
theorem q84 : (Jvm.Cond.constant "KeyedDigest" (62 : Nat) (1359893119 : Int32)) ∈ lw_all := lw_g (lw_at lw_m1 76 rfl) rfl
theorem q85 : (Jvm.Cond.constant "KeyedDigest" (63 : Nat) (-1694144372 : Int32)) ∈ lw_all := lw_g (lw_at lw_m1 77 rfl) rfl
theorem q86 : (Jvm.Cond.constant "KeyedDigest" (64 : Nat) (528734635 : Int32)) ∈ lw_all := lw_g (lw_at lw_m1 78 rfl) rfl
theorem q87 : (Jvm.Cond.constant "KeyedDigest" (65 : Nat) (1541459225 : Int32)) ∈ lw_all := lw_g (lw_at lw_m1 79 rfl) rfl
theorem q89 : (Jvm.Cond.instanceMethod ({ cls := "KeyedDigest", name := "setKeyByte", desc := "(II)Z" } : Jvm.MethodName)) ∈ lw_all := lw_g (lw_at lw_m1 81 rfl) rfl
theorem q90 : (Jvm.Cond.selects "KeyedDigest" ({ cls := "KeyedDigest", name := "setKeyByte", desc := "(II)Z" } : Jvm.MethodName) ({ cls := "KeyedDigest", name := "setKeyByte", desc := "(II)Z" } : Jvm.MethodName)) ∈ lw_all := lw_g (lw_at lw_m1 82 rfl) rfl
theorem q91 : (Jvm.Cond.code ({ cls := "KeyedDigest", name := "setKeyByte", desc := "(II)Z" } : Jvm.MethodName) prog_1_method_5_code (3 : Nat) (Option.some Jvm.ClassFile.FieldType.boolean)) ∈ lw_all := lw_g (lw_at lw_m1 83 rfl) rfl
theorem q92 : (Jvm.Cond.methodLink "KeyedDigest" (74 : Nat) ({ cls := "KeyedDigest", name := "isByte", desc := "(I)Z" } : Jvm.MethodName)) ∈ lw_all := lw_g (lw_at lw_m1 84 rfl) rfl
theorem q93 : (Jvm.Cond.static ({ cls := "KeyedDigest", name := "isByte", desc := "(I)Z" } : Jvm.MethodName)) ∈ lw_all := lw_g (lw_at lw_m1 85 rfl) rfl
theorem q94 : (Jvm.Cond.code ({ cls := "KeyedDigest", name := "isByte", desc := "(I)Z" } : Jvm.MethodName) prog_1_method_4_code (1 : Nat) (Option.some Jvm.ClassFile.FieldType.boolean)) ∈ lw_all := lw_g (lw_at lw_m1 86 rfl) rfl
theorem q96 : (Jvm.Cond.instanceMethod ({ cls := "KeyedDigest", name := "start", desc := "(II)Z" } : Jvm.MethodName)) ∈ lw_all := lw_g (lw_at lw_m1 88 rfl) rfl
theorem q97 : (Jvm.Cond.selects "KeyedDigest" ({ cls := "KeyedDigest", name := "start", desc := "(II)Z" } : Jvm.MethodName) ({ cls := "KeyedDigest", name := "start", desc := "(II)Z" } : Jvm.MethodName)) ∈ lw_all := lw_g (lw_at lw_m1 89 rfl) rfl
theorem q98 : (Jvm.Cond.code ({ cls := "KeyedDigest", name := "start", desc := "(II)Z" } : Jvm.MethodName) prog_1_method_10_code (4 : Nat) (Option.some Jvm.ClassFile.FieldType.boolean)) ∈ lw_all := lw_g (lw_at lw_m1 90 rfl) rfl
theorem q99 : (Jvm.Cond.constant "KeyedDigest" (94 : Nat) (16842752 : Int32)) ∈ lw_all := lw_g (lw_at lw_m1 91 rfl) rfl
theorem q101 : (Jvm.Cond.instanceMethod ({ cls := "KeyedDigest", name := "update", desc := "(I)Z" } : Jvm.MethodName)) ∈ lw_all := lw_g (lw_at lw_m1 93 rfl) rfl
theorem q102 : (Jvm.Cond.selects "KeyedDigest" ({ cls := "KeyedDigest", name := "update", desc := "(I)Z" } : Jvm.MethodName) ({ cls := "KeyedDigest", name := "update", desc := "(I)Z" } : Jvm.MethodName)) ∈ lw_all := lw_g (lw_at lw_m1 94 rfl) rfl
theorem q103 : (Jvm.Cond.code ({ cls := "KeyedDigest", name := "update", desc := "(I)Z" } : Jvm.MethodName) prog_1_method_12_code (2 : Nat) (Option.some Jvm.ClassFile.FieldType.boolean)) ∈ lw_all := lw_g (lw_at lw_m1 95 rfl) rfl
theorem q104 : (Jvm.Cond.methodLink "KeyedDigest" (110 : Nat) ({ cls := "KeyedDigest", name := "take", desc := "(I)V" } : Jvm.MethodName)) ∈ lw_all := lw_g (lw_at lw_m1 96 rfl) rfl
theorem q105 : (Jvm.Cond.privateMethod ({ cls := "KeyedDigest", name := "take", desc := "(I)V" } : Jvm.MethodName)) ∈ lw_tbl := lw_at lw_m1 97 rfl
theorem q106 : (Jvm.Cond.instanceMethod ({ cls := "KeyedDigest", name := "take", desc := "(I)V" } : Jvm.MethodName)) ∈ lw_all := lw_g (lw_at lw_m1 98 rfl) rfl
theorem q107 : (Jvm.Cond.code ({ cls := "KeyedDigest", name := "take", desc := "(I)V" } : Jvm.MethodName) prog_1_method_11_code (2 : Nat) (Option.none : Option Jvm.ClassFile.FieldType)) ∈ lw_all := lw_g (lw_at lw_m1 99 rfl) rfl
theorem q108 : (Jvm.Cond.constantLong "KeyedDigest" (104 : Nat) (64 : Int64)) ∈ lw_all := lw_g (lw_at lw_m1 100 rfl) rfl
theorem q109 : (Jvm.Cond.methodLink "KeyedDigest" (106 : Nat) ({ cls := "KeyedDigest", name := "mix", desc := "(Z)V" } : Jvm.MethodName)) ∈ lw_all := lw_g (lw_at lw_m1 101 rfl) rfl
theorem q110 : (Jvm.Cond.privateMethod ({ cls := "KeyedDigest", name := "mix", desc := "(Z)V" } : Jvm.MethodName)) ∈ lw_tbl := lw_at lw_m1 102 rfl
theorem q111 : (Jvm.Cond.instanceMethod ({ cls := "KeyedDigest", name := "mix", desc := "(Z)V" } : Jvm.MethodName)) ∈ lw_all := lw_g (lw_at lw_m1 103 rfl) rfl
theorem q112 : (Jvm.Cond.code ({ cls := "KeyedDigest", name := "mix", desc := "(Z)V" } : Jvm.MethodName) prog_1_method_9_code (3 : Nat) (Option.none : Option Jvm.ClassFile.FieldType)) ∈ lw_all := lw_g (lw_at lw_m1 104 rfl) rfl
theorem q113 : (Jvm.Cond.methodLink "KeyedDigest" (90 : Nat) ({ cls := "KeyedDigest", name := "four", desc := "(IIIII)V" } : Jvm.MethodName)) ∈ lw_all := lw_g (lw_at lw_m1 105 rfl) rfl
theorem q114 : (Jvm.Cond.privateMethod ({ cls := "KeyedDigest", name := "four", desc := "(IIIII)V" } : Jvm.MethodName)) ∈ lw_tbl := lw_at lw_m1 106 rfl
theorem q115 : (Jvm.Cond.instanceMethod ({ cls := "KeyedDigest", name := "four", desc := "(IIIII)V" } : Jvm.MethodName)) ∈ lw_all := lw_g (lw_at lw_m1 107 rfl) rfl
theorem q116 : (Jvm.Cond.code ({ cls := "KeyedDigest", name := "four", desc := "(IIIII)V" } : Jvm.MethodName) prog_1_method_8_code (6 : Nat) (Option.none : Option Jvm.ClassFile.FieldType)) ∈ lw_all := lw_g (lw_at lw_m1 108 rfl) rfl
theorem q117 : (Jvm.Cond.methodLink "KeyedDigest" (82 : Nat) ({ cls := "KeyedDigest", name := "half", desc := "(IIIIIII)V" } : Jvm.MethodName)) ∈ lw_all := lw_g (lw_at lw_m1 109 rfl) rfl
theorem q118 : (Jvm.Cond.privateMethod ({ cls := "KeyedDigest", name := "half", desc := "(IIIIIII)V" } : Jvm.MethodName)) ∈ lw_tbl := lw_at lw_m1 110 rfl
theorem q119 : (Jvm.Cond.instanceMethod ({ cls := "KeyedDigest", name := "half", desc := "(IIIIIII)V" } : Jvm.MethodName)) ∈ lw_all := lw_g (lw_at lw_m1 111 rfl) rfl
theorem q120 : (Jvm.Cond.code ({ cls := "KeyedDigest", name := "half", desc := "(IIIIIII)V" } : Jvm.MethodName) prog_1_method_7_code (8 : Nat) (Option.none : Option Jvm.ClassFile.FieldType)) ∈ lw_all := lw_g (lw_at lw_m1 112 rfl) rfl
theorem q121 : (Jvm.Cond.methodLink "KeyedDigest" (78 : Nat) ({ cls := "KeyedDigest", name := "down", desc := "(II)I" } : Jvm.MethodName)) ∈ lw_all := lw_g (lw_at lw_m1 113 rfl) rfl
theorem q122 : (Jvm.Cond.static ({ cls := "KeyedDigest", name := "down", desc := "(II)I" } : Jvm.MethodName)) ∈ lw_all := lw_g (lw_at lw_m1 114 rfl) rfl
theorem q123 : (Jvm.Cond.code ({ cls := "KeyedDigest", name := "down", desc := "(II)I" } : Jvm.MethodName) prog_1_method_6_code (2 : Nat) (Option.some Jvm.ClassFile.FieldType.int)) ∈ lw_all := lw_g (lw_at lw_m1 115 rfl) rfl
theorem q125 : (Jvm.Cond.instanceMethod ({ cls := "KeyedDigest", name := "updates", desc := "(IIIII)Z" } : Jvm.MethodName)) ∈ lw_all := lw_g (lw_at lw_m1 117 rfl) rfl
theorem q126 : (Jvm.Cond.selects "KeyedDigest" ({ cls := "KeyedDigest", name := "updates", desc := "(IIIII)Z" } : Jvm.MethodName) ({ cls := "KeyedDigest", name := "updates", desc := "(IIIII)Z" } : Jvm.MethodName)) ∈ lw_all := lw_g (lw_at lw_m1 118 rfl) rfl
theorem q127 : (Jvm.Cond.code ({ cls := "KeyedDigest", name := "updates", desc := "(IIIII)Z" } : Jvm.MethodName) prog_1_method_13_code (8 : Nat) (Option.some Jvm.ClassFile.FieldType.boolean)) ∈ lw_all := lw_g (lw_at lw_m1 119 rfl) rfl
theorem q129 : (Jvm.Cond.instanceMethod ({ cls := "KeyedDigest", name := "fill", desc := "(II)Z" } : Jvm.MethodName)) ∈ lw_all := lw_g (lw_at lw_m1 121 rfl) rfl
theorem q130 : (Jvm.Cond.selects "KeyedDigest" ({ cls := "KeyedDigest", name := "fill", desc := "(II)Z" } : Jvm.MethodName) ({ cls := "KeyedDigest", name := "fill", desc := "(II)Z" } : Jvm.MethodName)) ∈ lw_all := lw_g (lw_at lw_m1 122 rfl) rfl
theorem q131 : (Jvm.Cond.code ({ cls := "KeyedDigest", name := "fill", desc := "(II)Z" } : Jvm.MethodName) prog_1_method_14_code (4 : Nat) (Option.some Jvm.ClassFile.FieldType.boolean)) ∈ lw_all := lw_g (lw_at lw_m1 123 rfl) rfl
theorem q133 : (Jvm.Cond.instanceMethod ({ cls := "KeyedDigest", name := "finish", desc := "()Z" } : Jvm.MethodName)) ∈ lw_all := lw_g (lw_at lw_m1 125 rfl) rfl
theorem q134 : (Jvm.Cond.selects "KeyedDigest" ({ cls := "KeyedDigest", name := "finish", desc := "()Z" } : Jvm.MethodName) ({ cls := "KeyedDigest", name := "finish", desc := "()Z" } : Jvm.MethodName)) ∈ lw_all := lw_g (lw_at lw_m1 126 rfl) rfl
theorem q135 : (Jvm.Cond.code ({ cls := "KeyedDigest", name := "finish", desc := "()Z" } : Jvm.MethodName) prog_1_method_15_code (2 : Nat) (Option.some Jvm.ClassFile.FieldType.boolean)) ∈ lw_all := lw_g (lw_at lw_m1 127 rfl) rfl
theorem q137 : (Jvm.Cond.instanceMethod ({ cls := "KeyedDigest", name := "out", desc := "(I)I" } : Jvm.MethodName)) ∈ lw_all := lw_g (lw_at lw_m1 129 rfl) rfl
theorem q138 : (Jvm.Cond.selects "KeyedDigest" ({ cls := "KeyedDigest", name := "out", desc := "(I)I" } : Jvm.MethodName) ({ cls := "KeyedDigest", name := "out", desc := "(I)I" } : Jvm.MethodName)) ∈ lw_all := lw_g (lw_at lw_m1 130 rfl) rfl
theorem q139 : (Jvm.Cond.code ({ cls := "KeyedDigest", name := "out", desc := "(I)I" } : Jvm.MethodName) prog_1_method_16_code (2 : Nat) (Option.some Jvm.ClassFile.FieldType.int)) ∈ lw_all := lw_g (lw_at lw_m1 131 rfl) rfl
theorem q141 : (Jvm.Cond.instanceMethod ({ cls := "KeyedDigest", name := "length", desc := "()I" } : Jvm.MethodName)) ∈ lw_all := lw_g (lw_at lw_m1 133 rfl) rfl
theorem q142 : (Jvm.Cond.selects "KeyedDigest" ({ cls := "KeyedDigest", name := "length", desc := "()I" } : Jvm.MethodName) ({ cls := "KeyedDigest", name := "length", desc := "()I" } : Jvm.MethodName)) ∈ lw_all := lw_g (lw_at lw_m1 134 rfl) rfl
theorem q143 : (Jvm.Cond.code ({ cls := "KeyedDigest", name := "length", desc := "()I" } : Jvm.MethodName) prog_1_method_17_code (1 : Nat) (Option.some Jvm.ClassFile.FieldType.int)) ∈ lw_all := lw_g (lw_at lw_m1 135 rfl) rfl
theorem q145 : (Jvm.Cond.instanceMethod ({ cls := "KeyedDigest", name := "word", desc := "(I)I" } : Jvm.MethodName)) ∈ lw_all := lw_g (lw_at lw_m1 137 rfl) rfl
theorem q146 : (Jvm.Cond.selects "KeyedDigest" ({ cls := "KeyedDigest", name := "word", desc := "(I)I" } : Jvm.MethodName) ({ cls := "KeyedDigest", name := "word", desc := "(I)I" } : Jvm.MethodName)) ∈ lw_all := lw_g (lw_at lw_m1 138 rfl) rfl
theorem q147 : (Jvm.Cond.code ({ cls := "KeyedDigest", name := "word", desc := "(I)I" } : Jvm.MethodName) prog_1_method_18_code (2 : Nat) (Option.some Jvm.ClassFile.FieldType.int)) ∈ lw_all := lw_g (lw_at lw_m1 139 rfl) rfl
theorem in_X0 : ∀ w ∈ wsX00, w ∈ lw_all := lw_in wsX00 [32, 34, 36, 38, 40, 42, 44, 46, 48, 50, 52, 54, 56] (by decide +kernel) (by decide +kernel)

/-! KeyedDigestModel -/
def RX1 : String := "KeyedDigestModel"
def TX1 : u_T := fun k => match k with
  | 0 => ("KeyedDigestModel", "ready", "Z", false)
  | 1 => ("KeyedDigestModel", "isOpen", "Z", false)
  | 2 => ("KeyedDigestModel", "isDone", "Z", false)
  | 3 => ("KeyedDigestModel", "key", "[I", true)
  | 4 => ("KeyedDigestModel", "h", "[I", true)
  | 5 => ("KeyedDigestModel", "v", "[I", true)
  | 6 => ("KeyedDigestModel", "m", "[I", true)
  | 7 => ("KeyedDigestModel", "block", "[I", true)
  | 8 => ("KeyedDigestModel", "filled", "I", false)
  | 9 => ("KeyedDigestModel", "mixed", "J", false)
  | 10 => ("KeyedDigestModel", "came", "I", false)
  | 11 => ("KeyedDigestModel", "size", "I", false)
  | _ => ("KeyedDigestModel", "rows", "[I", true)
def tyX1 : Nat → FieldType := fun k => match k with
  | 0 => .boolean
  | 1 => .boolean
  | 2 => .boolean
  | 3 => .array .int
  | 4 => .array .int
  | 5 => .array .int
  | 6 => .array .int
  | 7 => .array .int
  | 8 => .int
  | 9 => .long
  | 10 => .int
  | 11 => .int
  | _ => .array .int
abbrev wsX10 : List Cond := u_ws RX1 TX1 13
set_option maxRecDepth 100000 in
theorem nmX1 : ∀ a, a < 13 → ∀ b, b < 13 → a ≠ b → (TX1 a).2.1 ≠ (TX1 b).2.1 := by decide +kernel
set_option maxRecDepth 100000 in
theorem tyX1_ok : ∀ k, k < 13 → parseFieldDescriptor (TX1 k).2.2.1 = some (tyX1 k) := by decide +kernel
abbrev cX1_init : ByteArray := prog_3_method_1_code
def yX1_init : MethodName := ⟨RX1, "<init>", "()V"⟩
abbrev cX1_init_2 : ByteArray := prog_3_method_3_code
def yX1_init_2 : MethodName := ⟨RX1, "init", "()V"⟩
abbrev cX1_setKeyByte : ByteArray := prog_3_method_4_code
def yX1_setKeyByte : MethodName := ⟨RX1, "setKeyByte", "(II)Z"⟩
abbrev cX1_start : ByteArray := prog_3_method_6_code
def yX1_start : MethodName := ⟨RX1, "start", "(II)Z"⟩
abbrev cX1_first : ByteArray := prog_3_method_5_code
def yX1_first : MethodName := ⟨RX1, "first", "(I)I"⟩
abbrev cX1_take : ByteArray := prog_3_method_7_code
def yX1_take : MethodName := ⟨RX1, "take", "(I)V"⟩
abbrev cX1_mix : ByteArray := prog_3_method_10_code
def yX1_mix : MethodName := ⟨RX1, "mix", "(JZ)V"⟩
abbrev cX1_g : ByteArray := prog_3_method_9_code
def yX1_g : MethodName := ⟨RX1, "g", "(IIIIII)V"⟩
abbrev cX1_down : ByteArray := prog_3_method_8_code
def yX1_down : MethodName := ⟨RX1, "down", "(II)I"⟩
abbrev cX1_update : ByteArray := prog_3_method_11_code
def yX1_update : MethodName := ⟨RX1, "update", "(I)Z"⟩
abbrev cX1_updates : ByteArray := prog_3_method_12_code
def yX1_updates : MethodName := ⟨RX1, "updates", "(IIIII)Z"⟩
abbrev cX1_fill : ByteArray := prog_3_method_13_code
def yX1_fill : MethodName := ⟨RX1, "fill", "(II)Z"⟩
abbrev cX1_finish : ByteArray := prog_3_method_14_code
def yX1_finish : MethodName := ⟨RX1, "finish", "()Z"⟩
abbrev cX1_out : ByteArray := prog_3_method_15_code
def yX1_out : MethodName := ⟨RX1, "out", "(I)I"⟩
abbrev cX1_length : ByteArray := prog_3_method_16_code
def yX1_length : MethodName := ⟨RX1, "length", "()I"⟩
abbrev cX1_word : ByteArray := prog_3_method_17_code
def yX1_word : MethodName := ⟨RX1, "word", "(I)I"⟩
theorem q10 : (Jvm.Cond.initialized "KeyedDigestModel") ∈ lw_all := lw_g (lw_at lw_m1 2 rfl) rfl
theorem q149 : (Jvm.Cond.instantiable "KeyedDigestModel" (13 : Nat)) ∈ lw_all := lw_g (lw_at lw_m1 141 rfl) rfl
theorem q151 : (Jvm.Cond.instanceMethod ({ cls := "KeyedDigestModel", name := "<init>", desc := "()V" } : Jvm.MethodName)) ∈ lw_all := lw_g (lw_at lw_m1 143 rfl) rfl
theorem q152 : (Jvm.Cond.code ({ cls := "KeyedDigestModel", name := "<init>", desc := "()V" } : Jvm.MethodName) prog_3_method_1_code (1 : Nat) (Option.none : Option Jvm.ClassFile.FieldType)) ∈ lw_all := lw_g (lw_at lw_m1 144 rfl) rfl
theorem q153 : (Jvm.Cond.methodLink "KeyedDigestModel" (1 : Nat) ({ cls := "java/lang/Object", name := "<init>", desc := "()V" } : Jvm.MethodName)) ∈ lw_all := lw_g (lw_at lw_m1 145 rfl) rfl
theorem q154 : (Jvm.Cond.fieldLink "KeyedDigestModel" (28 : Nat) "KeyedDigestModel" "ready" "Z") ∈ lw_all := lw_g (lw_at lw_m1 146 rfl) rfl
theorem q155 : (Jvm.Cond.fieldLink "KeyedDigestModel" (32 : Nat) "KeyedDigestModel" "isOpen" "Z") ∈ lw_all := lw_g (lw_at lw_m1 147 rfl) rfl
theorem q156 : (Jvm.Cond.fieldLink "KeyedDigestModel" (35 : Nat) "KeyedDigestModel" "isDone" "Z") ∈ lw_all := lw_g (lw_at lw_m1 148 rfl) rfl
theorem q157 : (Jvm.Cond.fieldLink "KeyedDigestModel" (7 : Nat) "KeyedDigestModel" "key" "[I") ∈ lw_all := lw_g (lw_at lw_m1 149 rfl) rfl
theorem q158 : (Jvm.Cond.fieldLink "KeyedDigestModel" (13 : Nat) "KeyedDigestModel" "h" "[I") ∈ lw_all := lw_g (lw_at lw_m1 150 rfl) rfl
theorem q159 : (Jvm.Cond.fieldLink "KeyedDigestModel" (16 : Nat) "KeyedDigestModel" "v" "[I") ∈ lw_all := lw_g (lw_at lw_m1 151 rfl) rfl
theorem q160 : (Jvm.Cond.fieldLink "KeyedDigestModel" (19 : Nat) "KeyedDigestModel" "m" "[I") ∈ lw_all := lw_g (lw_at lw_m1 152 rfl) rfl
theorem q161 : (Jvm.Cond.fieldLink "KeyedDigestModel" (22 : Nat) "KeyedDigestModel" "block" "[I") ∈ lw_all := lw_g (lw_at lw_m1 153 rfl) rfl
theorem q162 : (Jvm.Cond.fieldLink "KeyedDigestModel" (55 : Nat) "KeyedDigestModel" "filled" "I") ∈ lw_all := lw_g (lw_at lw_m1 154 rfl) rfl
theorem q163 : (Jvm.Cond.fieldLink "KeyedDigestModel" (58 : Nat) "KeyedDigestModel" "mixed" "J") ∈ lw_all := lw_g (lw_at lw_m1 155 rfl) rfl
theorem q164 : (Jvm.Cond.fieldLink "KeyedDigestModel" (62 : Nat) "KeyedDigestModel" "came" "I") ∈ lw_all := lw_g (lw_at lw_m1 156 rfl) rfl
theorem q165 : (Jvm.Cond.fieldLink "KeyedDigestModel" (51 : Nat) "KeyedDigestModel" "size" "I") ∈ lw_all := lw_g (lw_at lw_m1 157 rfl) rfl
theorem q166 : (Jvm.Cond.fieldLink "KeyedDigestModel" (25 : Nat) "KeyedDigestModel" "rows" "[I") ∈ lw_all := lw_g (lw_at lw_m1 158 rfl) rfl
theorem q167 : (Jvm.Cond.lays "KeyedDigestModel" "KeyedDigestModel" "ready" "Z") ∈ lw_all := lw_g (lw_at lw_m1 159 rfl) rfl
theorem q168 : (Jvm.Cond.soleField "KeyedDigestModel" "ready") ∈ lw_all := lw_g (lw_at lw_m1 160 rfl) rfl
theorem q169 : (Jvm.Cond.lays "KeyedDigestModel" "KeyedDigestModel" "isOpen" "Z") ∈ lw_all := lw_g (lw_at lw_m1 161 rfl) rfl
theorem q170 : (Jvm.Cond.soleField "KeyedDigestModel" "isOpen") ∈ lw_all := lw_g (lw_at lw_m1 162 rfl) rfl
theorem q171 : (Jvm.Cond.lays "KeyedDigestModel" "KeyedDigestModel" "isDone" "Z") ∈ lw_all := lw_g (lw_at lw_m1 163 rfl) rfl
theorem q172 : (Jvm.Cond.soleField "KeyedDigestModel" "isDone") ∈ lw_all := lw_g (lw_at lw_m1 164 rfl) rfl
theorem q173 : (Jvm.Cond.laysFinal "KeyedDigestModel" "KeyedDigestModel" "key" "[I") ∈ lw_all := lw_g (lw_at lw_m1 165 rfl) rfl
theorem q174 : (Jvm.Cond.soleField "KeyedDigestModel" "key") ∈ lw_all := lw_g (lw_at lw_m1 166 rfl) rfl
theorem q175 : (Jvm.Cond.laysFinal "KeyedDigestModel" "KeyedDigestModel" "h" "[I") ∈ lw_all := lw_g (lw_at lw_m1 167 rfl) rfl
theorem q176 : (Jvm.Cond.soleField "KeyedDigestModel" "h") ∈ lw_all := lw_g (lw_at lw_m1 168 rfl) rfl
theorem q177 : (Jvm.Cond.laysFinal "KeyedDigestModel" "KeyedDigestModel" "v" "[I") ∈ lw_all := lw_g (lw_at lw_m1 169 rfl) rfl
theorem q178 : (Jvm.Cond.soleField "KeyedDigestModel" "v") ∈ lw_all := lw_g (lw_at lw_m1 170 rfl) rfl
theorem q179 : (Jvm.Cond.laysFinal "KeyedDigestModel" "KeyedDigestModel" "m" "[I") ∈ lw_all := lw_g (lw_at lw_m1 171 rfl) rfl
theorem q180 : (Jvm.Cond.soleField "KeyedDigestModel" "m") ∈ lw_all := lw_g (lw_at lw_m1 172 rfl) rfl
theorem q181 : (Jvm.Cond.laysFinal "KeyedDigestModel" "KeyedDigestModel" "block" "[I") ∈ lw_all := lw_g (lw_at lw_m1 173 rfl) rfl
theorem q182 : (Jvm.Cond.soleField "KeyedDigestModel" "block") ∈ lw_all := lw_g (lw_at lw_m1 174 rfl) rfl
theorem q183 : (Jvm.Cond.lays "KeyedDigestModel" "KeyedDigestModel" "filled" "I") ∈ lw_all := lw_g (lw_at lw_m1 175 rfl) rfl
theorem q184 : (Jvm.Cond.soleField "KeyedDigestModel" "filled") ∈ lw_all := lw_g (lw_at lw_m1 176 rfl) rfl
theorem q185 : (Jvm.Cond.lays "KeyedDigestModel" "KeyedDigestModel" "mixed" "J") ∈ lw_all := lw_g (lw_at lw_m1 177 rfl) rfl
theorem q186 : (Jvm.Cond.soleField "KeyedDigestModel" "mixed") ∈ lw_all := lw_g (lw_at lw_m1 178 rfl) rfl
theorem q187 : (Jvm.Cond.lays "KeyedDigestModel" "KeyedDigestModel" "came" "I") ∈ lw_all := lw_g (lw_at lw_m1 179 rfl) rfl
theorem q188 : (Jvm.Cond.soleField "KeyedDigestModel" "came") ∈ lw_all := lw_g (lw_at lw_m1 180 rfl) rfl
theorem q189 : (Jvm.Cond.lays "KeyedDigestModel" "KeyedDigestModel" "size" "I") ∈ lw_all := lw_g (lw_at lw_m1 181 rfl) rfl
theorem q190 : (Jvm.Cond.soleField "KeyedDigestModel" "size") ∈ lw_all := lw_g (lw_at lw_m1 182 rfl) rfl
theorem q191 : (Jvm.Cond.laysFinal "KeyedDigestModel" "KeyedDigestModel" "rows" "[I") ∈ lw_all := lw_g (lw_at lw_m1 183 rfl) rfl
theorem q192 : (Jvm.Cond.soleField "KeyedDigestModel" "rows") ∈ lw_all := lw_g (lw_at lw_m1 184 rfl) rfl
theorem q193 : (Jvm.Cond.superclass "KeyedDigestModel" "java/lang/Object") ∈ lw_all := lw_g (lw_at lw_m1 185 rfl) rfl
theorem q195 : (Jvm.Cond.instanceMethod ({ cls := "KeyedDigestModel", name := "init", desc := "()V" } : Jvm.MethodName)) ∈ lw_all := lw_g (lw_at lw_m1 187 rfl) rfl
theorem q196 : (Jvm.Cond.selects "KeyedDigestModel" ({ cls := "KeyedDigestModel", name := "init", desc := "()V" } : Jvm.MethodName) ({ cls := "KeyedDigestModel", name := "init", desc := "()V" } : Jvm.MethodName)) ∈ lw_all := lw_g (lw_at lw_m1 188 rfl) rfl
theorem q197 : (Jvm.Cond.code ({ cls := "KeyedDigestModel", name := "init", desc := "()V" } : Jvm.MethodName) prog_3_method_3_code (2 : Nat) (Option.none : Option Jvm.ClassFile.FieldType)) ∈ lw_all := lw_g (lw_at lw_m1 189 rfl) rfl
theorem q199 : (Jvm.Cond.instanceMethod ({ cls := "KeyedDigestModel", name := "setKeyByte", desc := "(II)Z" } : Jvm.MethodName)) ∈ lw_all := lw_g (lw_at lw_m1 191 rfl) rfl
theorem q200 : (Jvm.Cond.selects "KeyedDigestModel" ({ cls := "KeyedDigestModel", name := "setKeyByte", desc := "(II)Z" } : Jvm.MethodName) ({ cls := "KeyedDigestModel", name := "setKeyByte", desc := "(II)Z" } : Jvm.MethodName)) ∈ lw_all := lw_g (lw_at lw_m1 192 rfl) rfl
theorem q201 : (Jvm.Cond.code ({ cls := "KeyedDigestModel", name := "setKeyByte", desc := "(II)Z" } : Jvm.MethodName) prog_3_method_4_code (4 : Nat) (Option.some Jvm.ClassFile.FieldType.boolean)) ∈ lw_all := lw_g (lw_at lw_m1 193 rfl) rfl
theorem q203 : (Jvm.Cond.instanceMethod ({ cls := "KeyedDigestModel", name := "start", desc := "(II)Z" } : Jvm.MethodName)) ∈ lw_all := lw_g (lw_at lw_m1 195 rfl) rfl
theorem q204 : (Jvm.Cond.selects "KeyedDigestModel" ({ cls := "KeyedDigestModel", name := "start", desc := "(II)Z" } : Jvm.MethodName) ({ cls := "KeyedDigestModel", name := "start", desc := "(II)Z" } : Jvm.MethodName)) ∈ lw_all := lw_g (lw_at lw_m1 196 rfl) rfl
theorem q205 : (Jvm.Cond.code ({ cls := "KeyedDigestModel", name := "start", desc := "(II)Z" } : Jvm.MethodName) prog_3_method_6_code (4 : Nat) (Option.some Jvm.ClassFile.FieldType.boolean)) ∈ lw_all := lw_g (lw_at lw_m1 197 rfl) rfl
theorem q206 : (Jvm.Cond.methodLink "KeyedDigestModel" (46 : Nat) ({ cls := "KeyedDigestModel", name := "first", desc := "(I)I" } : Jvm.MethodName)) ∈ lw_all := lw_g (lw_at lw_m1 198 rfl) rfl
theorem q207 : (Jvm.Cond.static ({ cls := "KeyedDigestModel", name := "first", desc := "(I)I" } : Jvm.MethodName)) ∈ lw_all := lw_g (lw_at lw_m1 199 rfl) rfl
theorem q208 : (Jvm.Cond.code ({ cls := "KeyedDigestModel", name := "first", desc := "(I)I" } : Jvm.MethodName) prog_3_method_5_code (1 : Nat) (Option.some Jvm.ClassFile.FieldType.int)) ∈ lw_all := lw_g (lw_at lw_m1 200 rfl) rfl
theorem q209 : (Jvm.Cond.constant "KeyedDigestModel" (38 : Nat) (1779033703 : Int32)) ∈ lw_all := lw_g (lw_at lw_m1 201 rfl) rfl
theorem q210 : (Jvm.Cond.constant "KeyedDigestModel" (39 : Nat) (-1150833019 : Int32)) ∈ lw_all := lw_g (lw_at lw_m1 202 rfl) rfl
theorem q211 : (Jvm.Cond.constant "KeyedDigestModel" (40 : Nat) (1013904242 : Int32)) ∈ lw_all := lw_g (lw_at lw_m1 203 rfl) rfl
theorem q212 : (Jvm.Cond.constant "KeyedDigestModel" (41 : Nat) (-1521486534 : Int32)) ∈ lw_all := lw_g (lw_at lw_m1 204 rfl) rfl
theorem q213 : (Jvm.Cond.constant "KeyedDigestModel" (42 : Nat) (1359893119 : Int32)) ∈ lw_all := lw_g (lw_at lw_m1 205 rfl) rfl
theorem q214 : (Jvm.Cond.constant "KeyedDigestModel" (43 : Nat) (-1694144372 : Int32)) ∈ lw_all := lw_g (lw_at lw_m1 206 rfl) rfl
theorem q215 : (Jvm.Cond.constant "KeyedDigestModel" (44 : Nat) (528734635 : Int32)) ∈ lw_all := lw_g (lw_at lw_m1 207 rfl) rfl
theorem q216 : (Jvm.Cond.constant "KeyedDigestModel" (45 : Nat) (1541459225 : Int32)) ∈ lw_all := lw_g (lw_at lw_m1 208 rfl) rfl
theorem q217 : (Jvm.Cond.constant "KeyedDigestModel" (50 : Nat) (16842752 : Int32)) ∈ lw_all := lw_g (lw_at lw_m1 209 rfl) rfl
theorem q218 : (Jvm.Cond.methodLink "KeyedDigestModel" (65 : Nat) ({ cls := "KeyedDigestModel", name := "take", desc := "(I)V" } : Jvm.MethodName)) ∈ lw_all := lw_g (lw_at lw_m1 210 rfl) rfl
theorem q219 : (Jvm.Cond.privateMethod ({ cls := "KeyedDigestModel", name := "take", desc := "(I)V" } : Jvm.MethodName)) ∈ lw_tbl := lw_at lw_m1 211 rfl
theorem q220 : (Jvm.Cond.instanceMethod ({ cls := "KeyedDigestModel", name := "take", desc := "(I)V" } : Jvm.MethodName)) ∈ lw_all := lw_g (lw_at lw_m1 212 rfl) rfl
theorem q221 : (Jvm.Cond.code ({ cls := "KeyedDigestModel", name := "take", desc := "(I)V" } : Jvm.MethodName) prog_3_method_7_code (2 : Nat) (Option.none : Option Jvm.ClassFile.FieldType)) ∈ lw_all := lw_g (lw_at lw_m1 213 rfl) rfl
theorem q222 : (Jvm.Cond.constantLong "KeyedDigestModel" (69 : Nat) (64 : Int64)) ∈ lw_all := lw_g (lw_at lw_m1 214 rfl) rfl
theorem q223 : (Jvm.Cond.methodLink "KeyedDigestModel" (71 : Nat) ({ cls := "KeyedDigestModel", name := "mix", desc := "(JZ)V" } : Jvm.MethodName)) ∈ lw_all := lw_g (lw_at lw_m1 215 rfl) rfl
theorem q224 : (Jvm.Cond.privateMethod ({ cls := "KeyedDigestModel", name := "mix", desc := "(JZ)V" } : Jvm.MethodName)) ∈ lw_tbl := lw_at lw_m1 216 rfl
theorem q225 : (Jvm.Cond.instanceMethod ({ cls := "KeyedDigestModel", name := "mix", desc := "(JZ)V" } : Jvm.MethodName)) ∈ lw_all := lw_g (lw_at lw_m1 217 rfl) rfl
theorem q226 : (Jvm.Cond.code ({ cls := "KeyedDigestModel", name := "mix", desc := "(JZ)V" } : Jvm.MethodName) prog_3_method_10_code (5 : Nat) (Option.none : Option Jvm.ClassFile.FieldType)) ∈ lw_all := lw_g (lw_at lw_m1 218 rfl) rfl
theorem q227 : (Jvm.Cond.methodLink "KeyedDigestModel" (79 : Nat) ({ cls := "KeyedDigestModel", name := "g", desc := "(IIIIII)V" } : Jvm.MethodName)) ∈ lw_all := lw_g (lw_at lw_m1 219 rfl) rfl
theorem q228 : (Jvm.Cond.privateMethod ({ cls := "KeyedDigestModel", name := "g", desc := "(IIIIII)V" } : Jvm.MethodName)) ∈ lw_tbl := lw_at lw_m1 220 rfl
theorem q229 : (Jvm.Cond.instanceMethod ({ cls := "KeyedDigestModel", name := "g", desc := "(IIIIII)V" } : Jvm.MethodName)) ∈ lw_all := lw_g (lw_at lw_m1 221 rfl) rfl
theorem q230 : (Jvm.Cond.code ({ cls := "KeyedDigestModel", name := "g", desc := "(IIIIII)V" } : Jvm.MethodName) prog_3_method_9_code (7 : Nat) (Option.none : Option Jvm.ClassFile.FieldType)) ∈ lw_all := lw_g (lw_at lw_m1 222 rfl) rfl
theorem q231 : (Jvm.Cond.methodLink "KeyedDigestModel" (75 : Nat) ({ cls := "KeyedDigestModel", name := "down", desc := "(II)I" } : Jvm.MethodName)) ∈ lw_all := lw_g (lw_at lw_m1 223 rfl) rfl
theorem q232 : (Jvm.Cond.static ({ cls := "KeyedDigestModel", name := "down", desc := "(II)I" } : Jvm.MethodName)) ∈ lw_all := lw_g (lw_at lw_m1 224 rfl) rfl
theorem q233 : (Jvm.Cond.code ({ cls := "KeyedDigestModel", name := "down", desc := "(II)I" } : Jvm.MethodName) prog_3_method_8_code (2 : Nat) (Option.some Jvm.ClassFile.FieldType.int)) ∈ lw_all := lw_g (lw_at lw_m1 225 rfl) rfl
theorem q235 : (Jvm.Cond.instanceMethod ({ cls := "KeyedDigestModel", name := "update", desc := "(I)Z" } : Jvm.MethodName)) ∈ lw_all := lw_g (lw_at lw_m1 227 rfl) rfl
theorem q236 : (Jvm.Cond.selects "KeyedDigestModel" ({ cls := "KeyedDigestModel", name := "update", desc := "(I)Z" } : Jvm.MethodName) ({ cls := "KeyedDigestModel", name := "update", desc := "(I)Z" } : Jvm.MethodName)) ∈ lw_all := lw_g (lw_at lw_m1 228 rfl) rfl
theorem q237 : (Jvm.Cond.code ({ cls := "KeyedDigestModel", name := "update", desc := "(I)Z" } : Jvm.MethodName) prog_3_method_11_code (3 : Nat) (Option.some Jvm.ClassFile.FieldType.boolean)) ∈ lw_all := lw_g (lw_at lw_m1 229 rfl) rfl
theorem q239 : (Jvm.Cond.instanceMethod ({ cls := "KeyedDigestModel", name := "updates", desc := "(IIIII)Z" } : Jvm.MethodName)) ∈ lw_all := lw_g (lw_at lw_m1 231 rfl) rfl
theorem q240 : (Jvm.Cond.selects "KeyedDigestModel" ({ cls := "KeyedDigestModel", name := "updates", desc := "(IIIII)Z" } : Jvm.MethodName) ({ cls := "KeyedDigestModel", name := "updates", desc := "(IIIII)Z" } : Jvm.MethodName)) ∈ lw_all := lw_g (lw_at lw_m1 232 rfl) rfl
theorem q241 : (Jvm.Cond.code ({ cls := "KeyedDigestModel", name := "updates", desc := "(IIIII)Z" } : Jvm.MethodName) prog_3_method_12_code (9 : Nat) (Option.some Jvm.ClassFile.FieldType.boolean)) ∈ lw_all := lw_g (lw_at lw_m1 233 rfl) rfl
theorem q243 : (Jvm.Cond.instanceMethod ({ cls := "KeyedDigestModel", name := "fill", desc := "(II)Z" } : Jvm.MethodName)) ∈ lw_all := lw_g (lw_at lw_m1 235 rfl) rfl
theorem q244 : (Jvm.Cond.selects "KeyedDigestModel" ({ cls := "KeyedDigestModel", name := "fill", desc := "(II)Z" } : Jvm.MethodName) ({ cls := "KeyedDigestModel", name := "fill", desc := "(II)Z" } : Jvm.MethodName)) ∈ lw_all := lw_g (lw_at lw_m1 236 rfl) rfl
theorem q245 : (Jvm.Cond.code ({ cls := "KeyedDigestModel", name := "fill", desc := "(II)Z" } : Jvm.MethodName) prog_3_method_13_code (5 : Nat) (Option.some Jvm.ClassFile.FieldType.boolean)) ∈ lw_all := lw_g (lw_at lw_m1 237 rfl) rfl
theorem q247 : (Jvm.Cond.instanceMethod ({ cls := "KeyedDigestModel", name := "finish", desc := "()Z" } : Jvm.MethodName)) ∈ lw_all := lw_g (lw_at lw_m1 239 rfl) rfl
theorem q248 : (Jvm.Cond.selects "KeyedDigestModel" ({ cls := "KeyedDigestModel", name := "finish", desc := "()Z" } : Jvm.MethodName) ({ cls := "KeyedDigestModel", name := "finish", desc := "()Z" } : Jvm.MethodName)) ∈ lw_all := lw_g (lw_at lw_m2 0 rfl) rfl
theorem q249 : (Jvm.Cond.code ({ cls := "KeyedDigestModel", name := "finish", desc := "()Z" } : Jvm.MethodName) prog_3_method_14_code (2 : Nat) (Option.some Jvm.ClassFile.FieldType.boolean)) ∈ lw_all := lw_g (lw_at lw_m2 1 rfl) rfl
theorem q251 : (Jvm.Cond.instanceMethod ({ cls := "KeyedDigestModel", name := "out", desc := "(I)I" } : Jvm.MethodName)) ∈ lw_all := lw_g (lw_at lw_m2 3 rfl) rfl
theorem q252 : (Jvm.Cond.selects "KeyedDigestModel" ({ cls := "KeyedDigestModel", name := "out", desc := "(I)I" } : Jvm.MethodName) ({ cls := "KeyedDigestModel", name := "out", desc := "(I)I" } : Jvm.MethodName)) ∈ lw_all := lw_g (lw_at lw_m2 4 rfl) rfl
theorem q253 : (Jvm.Cond.code ({ cls := "KeyedDigestModel", name := "out", desc := "(I)I" } : Jvm.MethodName) prog_3_method_15_code (2 : Nat) (Option.some Jvm.ClassFile.FieldType.int)) ∈ lw_all := lw_g (lw_at lw_m2 5 rfl) rfl
theorem q255 : (Jvm.Cond.instanceMethod ({ cls := "KeyedDigestModel", name := "length", desc := "()I" } : Jvm.MethodName)) ∈ lw_all := lw_g (lw_at lw_m2 7 rfl) rfl
theorem q256 : (Jvm.Cond.selects "KeyedDigestModel" ({ cls := "KeyedDigestModel", name := "length", desc := "()I" } : Jvm.MethodName) ({ cls := "KeyedDigestModel", name := "length", desc := "()I" } : Jvm.MethodName)) ∈ lw_all := lw_g (lw_at lw_m2 8 rfl) rfl
theorem q257 : (Jvm.Cond.code ({ cls := "KeyedDigestModel", name := "length", desc := "()I" } : Jvm.MethodName) prog_3_method_16_code (1 : Nat) (Option.some Jvm.ClassFile.FieldType.int)) ∈ lw_all := lw_g (lw_at lw_m2 9 rfl) rfl
theorem q259 : (Jvm.Cond.instanceMethod ({ cls := "KeyedDigestModel", name := "word", desc := "(I)I" } : Jvm.MethodName)) ∈ lw_all := lw_g (lw_at lw_m2 11 rfl) rfl
theorem q260 : (Jvm.Cond.selects "KeyedDigestModel" ({ cls := "KeyedDigestModel", name := "word", desc := "(I)I" } : Jvm.MethodName) ({ cls := "KeyedDigestModel", name := "word", desc := "(I)I" } : Jvm.MethodName)) ∈ lw_all := lw_g (lw_at lw_m2 12 rfl) rfl
theorem q261 : (Jvm.Cond.code ({ cls := "KeyedDigestModel", name := "word", desc := "(I)I" } : Jvm.MethodName) prog_3_method_17_code (2 : Nat) (Option.some Jvm.ClassFile.FieldType.int)) ∈ lw_all := lw_g (lw_at lw_m2 13 rfl) rfl
theorem in_X1 : ∀ w ∈ wsX10, w ∈ lw_all := lw_in wsX10 [167, 169, 171, 173, 175, 177, 179, 181, 183, 185, 187, 189, 191] (by decide +kernel) (by decide +kernel)

theorem q8 : (Jvm.Cond.initialized "KeyedDigestLaw") ∈ lw_all := lw_g (lw_at lw_m1 0 rfl) rfl
theorem q11 : (Jvm.Cond.classLink "KeyedDigestLaw" (7 : Nat) "KeyedDigest") ∈ lw_all := lw_g (lw_at lw_m1 3 rfl) rfl
theorem q13 : (Jvm.Cond.methodLink "KeyedDigestLaw" (9 : Nat) ({ cls := "KeyedDigest", name := "<init>", desc := "()V" } : Jvm.MethodName)) ∈ lw_all := lw_g (lw_at lw_m1 5 rfl) rfl
theorem q61 : (Jvm.Cond.methodLink "KeyedDigestLaw" (13 : Nat) ({ cls := "KeyedDigest", name := "init", desc := "()V" } : Jvm.MethodName)) ∈ lw_all := lw_g (lw_at lw_m1 53 rfl) rfl
theorem q88 : (Jvm.Cond.methodLink "KeyedDigestLaw" (17 : Nat) ({ cls := "KeyedDigest", name := "setKeyByte", desc := "(II)Z" } : Jvm.MethodName)) ∈ lw_all := lw_g (lw_at lw_m1 80 rfl) rfl
theorem q95 : (Jvm.Cond.methodLink "KeyedDigestLaw" (22 : Nat) ({ cls := "KeyedDigest", name := "start", desc := "(II)Z" } : Jvm.MethodName)) ∈ lw_all := lw_g (lw_at lw_m1 87 rfl) rfl
theorem q100 : (Jvm.Cond.methodLink "KeyedDigestLaw" (26 : Nat) ({ cls := "KeyedDigest", name := "update", desc := "(I)Z" } : Jvm.MethodName)) ∈ lw_all := lw_g (lw_at lw_m1 92 rfl) rfl
theorem q124 : (Jvm.Cond.methodLink "KeyedDigestLaw" (31 : Nat) ({ cls := "KeyedDigest", name := "updates", desc := "(IIIII)Z" } : Jvm.MethodName)) ∈ lw_all := lw_g (lw_at lw_m1 116 rfl) rfl
theorem q128 : (Jvm.Cond.methodLink "KeyedDigestLaw" (36 : Nat) ({ cls := "KeyedDigest", name := "fill", desc := "(II)Z" } : Jvm.MethodName)) ∈ lw_all := lw_g (lw_at lw_m1 120 rfl) rfl
theorem q132 : (Jvm.Cond.methodLink "KeyedDigestLaw" (40 : Nat) ({ cls := "KeyedDigest", name := "finish", desc := "()Z" } : Jvm.MethodName)) ∈ lw_all := lw_g (lw_at lw_m1 124 rfl) rfl
theorem q136 : (Jvm.Cond.methodLink "KeyedDigestLaw" (45 : Nat) ({ cls := "KeyedDigest", name := "out", desc := "(I)I" } : Jvm.MethodName)) ∈ lw_all := lw_g (lw_at lw_m1 128 rfl) rfl
theorem q140 : (Jvm.Cond.methodLink "KeyedDigestLaw" (50 : Nat) ({ cls := "KeyedDigest", name := "length", desc := "()I" } : Jvm.MethodName)) ∈ lw_all := lw_g (lw_at lw_m1 132 rfl) rfl
theorem q144 : (Jvm.Cond.methodLink "KeyedDigestLaw" (55 : Nat) ({ cls := "KeyedDigest", name := "word", desc := "(I)I" } : Jvm.MethodName)) ∈ lw_all := lw_g (lw_at lw_m1 136 rfl) rfl
theorem q148 : (Jvm.Cond.classLink "KeyedDigestLaw" (10 : Nat) "KeyedDigestModel") ∈ lw_all := lw_g (lw_at lw_m1 140 rfl) rfl
theorem q150 : (Jvm.Cond.methodLink "KeyedDigestLaw" (12 : Nat) ({ cls := "KeyedDigestModel", name := "<init>", desc := "()V" } : Jvm.MethodName)) ∈ lw_all := lw_g (lw_at lw_m1 142 rfl) rfl
theorem q194 : (Jvm.Cond.methodLink "KeyedDigestLaw" (16 : Nat) ({ cls := "KeyedDigestModel", name := "init", desc := "()V" } : Jvm.MethodName)) ∈ lw_all := lw_g (lw_at lw_m1 186 rfl) rfl
theorem q198 : (Jvm.Cond.methodLink "KeyedDigestLaw" (21 : Nat) ({ cls := "KeyedDigestModel", name := "setKeyByte", desc := "(II)Z" } : Jvm.MethodName)) ∈ lw_all := lw_g (lw_at lw_m1 190 rfl) rfl
theorem q202 : (Jvm.Cond.methodLink "KeyedDigestLaw" (25 : Nat) ({ cls := "KeyedDigestModel", name := "start", desc := "(II)Z" } : Jvm.MethodName)) ∈ lw_all := lw_g (lw_at lw_m1 194 rfl) rfl
theorem q234 : (Jvm.Cond.methodLink "KeyedDigestLaw" (30 : Nat) ({ cls := "KeyedDigestModel", name := "update", desc := "(I)Z" } : Jvm.MethodName)) ∈ lw_all := lw_g (lw_at lw_m1 226 rfl) rfl
theorem q238 : (Jvm.Cond.methodLink "KeyedDigestLaw" (35 : Nat) ({ cls := "KeyedDigestModel", name := "updates", desc := "(IIIII)Z" } : Jvm.MethodName)) ∈ lw_all := lw_g (lw_at lw_m1 230 rfl) rfl
theorem q242 : (Jvm.Cond.methodLink "KeyedDigestLaw" (39 : Nat) ({ cls := "KeyedDigestModel", name := "fill", desc := "(II)Z" } : Jvm.MethodName)) ∈ lw_all := lw_g (lw_at lw_m1 234 rfl) rfl
theorem q246 : (Jvm.Cond.methodLink "KeyedDigestLaw" (44 : Nat) ({ cls := "KeyedDigestModel", name := "finish", desc := "()Z" } : Jvm.MethodName)) ∈ lw_all := lw_g (lw_at lw_m1 238 rfl) rfl
theorem q250 : (Jvm.Cond.methodLink "KeyedDigestLaw" (49 : Nat) ({ cls := "KeyedDigestModel", name := "out", desc := "(I)I" } : Jvm.MethodName)) ∈ lw_all := lw_g (lw_at lw_m2 2 rfl) rfl
theorem q254 : (Jvm.Cond.methodLink "KeyedDigestLaw" (54 : Nat) ({ cls := "KeyedDigestModel", name := "length", desc := "()I" } : Jvm.MethodName)) ∈ lw_all := lw_g (lw_at lw_m2 6 rfl) rfl
theorem q258 : (Jvm.Cond.methodLink "KeyedDigestLaw" (58 : Nat) ({ cls := "KeyedDigestModel", name := "word", desc := "(I)I" } : Jvm.MethodName)) ∈ lw_all := lw_g (lw_at lw_m2 10 rfl) rfl

theorem q59 : (Jvm.Cond.arrayClass Jvm.ClassFile.FieldType.byte) ∈ lw_all := lw_g (lw_at lw_m1 51 rfl) rfl
theorem q60 : (Jvm.Cond.arrayClass Jvm.ClassFile.FieldType.int) ∈ lw_all := lw_g (lw_at lw_m1 52 rfl) rfl

/-! the law's own entry -/
abbrev cL_law : ByteArray := code

abbrev vwCl : List vw_C := [(RX0, TX0, 13), (RX1, TX1, 13)]
end
section
set_option maxRecDepth 100000
theorem dJ0_init_0 : decode cJ0_init 0 = .ok (.return_, 1) := by decide +kernel
theorem dX0_init_0 : decode cX0_init 0 = .ok (.aload_n 0, 1) := by decide +kernel
theorem dX0_init_1 : decode cX0_init 1 = .ok (.invokespecial 1, 3) := by decide +kernel
theorem dX0_init_4 : decode cX0_init 4 = .ok (.aload_n 0, 1) := by decide +kernel
theorem dX0_init_5 : decode cX0_init 5 = .ok (.bipush 32, 2) := by decide +kernel
theorem dX0_init_7 : decode cX0_init 7 = .ok (.newarray .byte, 2) := by decide +kernel
theorem dX0_init_9 : decode cX0_init 9 = .ok (.putfield 9, 3) := by decide +kernel
theorem dX0_init_12 : decode cX0_init 12 = .ok (.aload_n 0, 1) := by decide +kernel
theorem dX0_init_13 : decode cX0_init 13 = .ok (.sipush 160, 3) := by decide +kernel
theorem dX0_init_16 : decode cX0_init 16 = .ok (.newarray .byte, 2) := by decide +kernel
theorem dX0_init_18 : decode cX0_init 18 = .ok (.putfield 13, 3) := by decide +kernel
theorem dX0_init_21 : decode cX0_init 21 = .ok (.aload_n 0, 1) := by decide +kernel
theorem dX0_init_22 : decode cX0_init 22 = .ok (.bipush 8, 2) := by decide +kernel
theorem dX0_init_24 : decode cX0_init 24 = .ok (.newarray .int, 2) := by decide +kernel
theorem dX0_init_26 : decode cX0_init 26 = .ok (.putfield 16, 3) := by decide +kernel
theorem dX0_init_29 : decode cX0_init 29 = .ok (.aload_n 0, 1) := by decide +kernel
theorem dX0_init_30 : decode cX0_init 30 = .ok (.bipush 8, 2) := by decide +kernel
theorem dX0_init_32 : decode cX0_init 32 = .ok (.newarray .int, 2) := by decide +kernel
theorem dX0_init_34 : decode cX0_init 34 = .ok (.putfield 20, 3) := by decide +kernel
theorem dX0_init_37 : decode cX0_init 37 = .ok (.aload_n 0, 1) := by decide +kernel
theorem dX0_init_38 : decode cX0_init 38 = .ok (.bipush 16, 2) := by decide +kernel
theorem dX0_init_40 : decode cX0_init 40 = .ok (.newarray .int, 2) := by decide +kernel
theorem dX0_init_42 : decode cX0_init 42 = .ok (.putfield 23, 3) := by decide +kernel
theorem dX0_init_45 : decode cX0_init 45 = .ok (.aload_n 0, 1) := by decide +kernel
theorem dX0_init_46 : decode cX0_init 46 = .ok (.bipush 16, 2) := by decide +kernel
theorem dX0_init_48 : decode cX0_init 48 = .ok (.newarray .int, 2) := by decide +kernel
theorem dX0_init_50 : decode cX0_init 50 = .ok (.putfield 26, 3) := by decide +kernel
theorem dX0_init_53 : decode cX0_init 53 = .ok (.aload_n 0, 1) := by decide +kernel
theorem dX0_init_54 : decode cX0_init 54 = .ok (.bipush 64, 2) := by decide +kernel
theorem dX0_init_56 : decode cX0_init 56 = .ok (.newarray .byte, 2) := by decide +kernel
theorem dX0_init_58 : decode cX0_init 58 = .ok (.putfield 29, 3) := by decide +kernel
theorem dX0_init_61 : decode cX0_init 61 = .ok (.return_, 1) := by decide +kernel
theorem dX0_init_2_0 : decode cX0_init_2 0 = .ok (.aload_n 0, 1) := by decide +kernel
theorem dX0_init_2_1 : decode cX0_init_2 1 = .ok (.iconst 0, 1) := by decide +kernel
theorem dX0_init_2_2 : decode cX0_init_2 2 = .ok (.ldc2_w 34, 3) := by decide +kernel
theorem dX0_init_2_5 : decode cX0_init_2 5 = .ok (.invokevirtual 36, 3) := by decide +kernel
theorem dX0_init_2_8 : decode cX0_init_2 8 = .ok (.aload_n 0, 1) := by decide +kernel
theorem dX0_init_2_9 : decode cX0_init_2 9 = .ok (.iconst 1, 1) := by decide +kernel
theorem dX0_init_2_10 : decode cX0_init_2 10 = .ok (.ldc2_w 40, 3) := by decide +kernel
theorem dX0_init_2_13 : decode cX0_init_2 13 = .ok (.invokevirtual 36, 3) := by decide +kernel
theorem dX0_init_2_16 : decode cX0_init_2 16 = .ok (.aload_n 0, 1) := by decide +kernel
theorem dX0_init_2_17 : decode cX0_init_2 17 = .ok (.iconst 2, 1) := by decide +kernel
theorem dX0_init_2_18 : decode cX0_init_2 18 = .ok (.ldc2_w 42, 3) := by decide +kernel
theorem dX0_init_2_21 : decode cX0_init_2 21 = .ok (.invokevirtual 36, 3) := by decide +kernel
theorem dX0_init_2_24 : decode cX0_init_2 24 = .ok (.aload_n 0, 1) := by decide +kernel
theorem dX0_init_2_25 : decode cX0_init_2 25 = .ok (.iconst 3, 1) := by decide +kernel
theorem dX0_init_2_26 : decode cX0_init_2 26 = .ok (.ldc2_w 44, 3) := by decide +kernel
theorem dX0_init_2_29 : decode cX0_init_2 29 = .ok (.invokevirtual 36, 3) := by decide +kernel
theorem dX0_init_2_32 : decode cX0_init_2 32 = .ok (.aload_n 0, 1) := by decide +kernel
theorem dX0_init_2_33 : decode cX0_init_2 33 = .ok (.iconst 4, 1) := by decide +kernel
theorem dX0_init_2_34 : decode cX0_init_2 34 = .ok (.ldc2_w 46, 3) := by decide +kernel
theorem dX0_init_2_37 : decode cX0_init_2 37 = .ok (.invokevirtual 36, 3) := by decide +kernel
theorem dX0_init_2_40 : decode cX0_init_2 40 = .ok (.aload_n 0, 1) := by decide +kernel
theorem dX0_init_2_41 : decode cX0_init_2 41 = .ok (.iconst 5, 1) := by decide +kernel
theorem dX0_init_2_42 : decode cX0_init_2 42 = .ok (.ldc2_w 48, 3) := by decide +kernel
theorem dX0_init_2_45 : decode cX0_init_2 45 = .ok (.invokevirtual 36, 3) := by decide +kernel
theorem dX0_init_2_48 : decode cX0_init_2 48 = .ok (.aload_n 0, 1) := by decide +kernel
theorem dX0_init_2_49 : decode cX0_init_2 49 = .ok (.bipush 6, 2) := by decide +kernel
theorem dX0_init_2_51 : decode cX0_init_2 51 = .ok (.ldc2_w 50, 3) := by decide +kernel
theorem dX0_init_2_54 : decode cX0_init_2 54 = .ok (.invokevirtual 36, 3) := by decide +kernel
theorem dX0_init_2_57 : decode cX0_init_2 57 = .ok (.aload_n 0, 1) := by decide +kernel
theorem dX0_init_2_58 : decode cX0_init_2 58 = .ok (.bipush 7, 2) := by decide +kernel
theorem dX0_init_2_60 : decode cX0_init_2 60 = .ok (.ldc2_w 52, 3) := by decide +kernel
theorem dX0_init_2_63 : decode cX0_init_2 63 = .ok (.invokevirtual 36, 3) := by decide +kernel
theorem dX0_init_2_66 : decode cX0_init_2 66 = .ok (.aload_n 0, 1) := by decide +kernel
theorem dX0_init_2_67 : decode cX0_init_2 67 = .ok (.bipush 8, 2) := by decide +kernel
theorem dX0_init_2_69 : decode cX0_init_2 69 = .ok (.ldc2_w 54, 3) := by decide +kernel
theorem dX0_init_2_72 : decode cX0_init_2 72 = .ok (.invokevirtual 36, 3) := by decide +kernel
theorem dX0_init_2_75 : decode cX0_init_2 75 = .ok (.aload_n 0, 1) := by decide +kernel
theorem dX0_init_2_76 : decode cX0_init_2 76 = .ok (.bipush 9, 2) := by decide +kernel
theorem dX0_init_2_78 : decode cX0_init_2 78 = .ok (.ldc2_w 56, 3) := by decide +kernel
theorem dX0_init_2_81 : decode cX0_init_2 81 = .ok (.invokevirtual 36, 3) := by decide +kernel
theorem dX0_init_2_84 : decode cX0_init_2 84 = .ok (.aload_n 0, 1) := by decide +kernel
theorem dX0_init_2_85 : decode cX0_init_2 85 = .ok (.getfield 16, 3) := by decide +kernel
theorem dX0_init_2_88 : decode cX0_init_2 88 = .ok (.iconst 0, 1) := by decide +kernel
theorem dX0_init_2_89 : decode cX0_init_2 89 = .ok (.ldc 58, 2) := by decide +kernel
theorem dX0_init_2_91 : decode cX0_init_2 91 = .ok (.iastore, 1) := by decide +kernel
theorem dX0_init_2_92 : decode cX0_init_2 92 = .ok (.aload_n 0, 1) := by decide +kernel
theorem dX0_init_2_93 : decode cX0_init_2 93 = .ok (.getfield 16, 3) := by decide +kernel
theorem dX0_init_2_96 : decode cX0_init_2 96 = .ok (.iconst 1, 1) := by decide +kernel
theorem dX0_init_2_97 : decode cX0_init_2 97 = .ok (.ldc 59, 2) := by decide +kernel
theorem dX0_init_2_99 : decode cX0_init_2 99 = .ok (.iastore, 1) := by decide +kernel
theorem dX0_init_2_100 : decode cX0_init_2 100 = .ok (.aload_n 0, 1) := by decide +kernel
theorem dX0_init_2_101 : decode cX0_init_2 101 = .ok (.getfield 16, 3) := by decide +kernel
theorem dX0_init_2_104 : decode cX0_init_2 104 = .ok (.iconst 2, 1) := by decide +kernel
theorem dX0_init_2_105 : decode cX0_init_2 105 = .ok (.ldc 60, 2) := by decide +kernel
theorem dX0_init_2_107 : decode cX0_init_2 107 = .ok (.iastore, 1) := by decide +kernel
theorem dX0_init_2_108 : decode cX0_init_2 108 = .ok (.aload_n 0, 1) := by decide +kernel
theorem dX0_init_2_109 : decode cX0_init_2 109 = .ok (.getfield 16, 3) := by decide +kernel
theorem dX0_init_2_112 : decode cX0_init_2 112 = .ok (.iconst 3, 1) := by decide +kernel
theorem dX0_init_2_113 : decode cX0_init_2 113 = .ok (.ldc 61, 2) := by decide +kernel
theorem dX0_init_2_115 : decode cX0_init_2 115 = .ok (.iastore, 1) := by decide +kernel
theorem dX0_init_2_116 : decode cX0_init_2 116 = .ok (.aload_n 0, 1) := by decide +kernel
theorem dX0_init_2_117 : decode cX0_init_2 117 = .ok (.getfield 16, 3) := by decide +kernel
theorem dX0_init_2_120 : decode cX0_init_2 120 = .ok (.iconst 4, 1) := by decide +kernel
theorem dX0_init_2_121 : decode cX0_init_2 121 = .ok (.ldc 62, 2) := by decide +kernel
theorem dX0_init_2_123 : decode cX0_init_2 123 = .ok (.iastore, 1) := by decide +kernel
theorem dX0_init_2_124 : decode cX0_init_2 124 = .ok (.aload_n 0, 1) := by decide +kernel
theorem dX0_init_2_125 : decode cX0_init_2 125 = .ok (.getfield 16, 3) := by decide +kernel
theorem dX0_init_2_128 : decode cX0_init_2 128 = .ok (.iconst 5, 1) := by decide +kernel
theorem dX0_init_2_129 : decode cX0_init_2 129 = .ok (.ldc 63, 2) := by decide +kernel
theorem dX0_init_2_131 : decode cX0_init_2 131 = .ok (.iastore, 1) := by decide +kernel
theorem dX0_init_2_132 : decode cX0_init_2 132 = .ok (.aload_n 0, 1) := by decide +kernel
theorem dX0_init_2_133 : decode cX0_init_2 133 = .ok (.getfield 16, 3) := by decide +kernel
theorem dX0_init_2_136 : decode cX0_init_2 136 = .ok (.bipush 6, 2) := by decide +kernel
theorem dX0_init_2_138 : decode cX0_init_2 138 = .ok (.ldc 64, 2) := by decide +kernel
theorem dX0_init_2_140 : decode cX0_init_2 140 = .ok (.iastore, 1) := by decide +kernel
theorem dX0_init_2_141 : decode cX0_init_2 141 = .ok (.aload_n 0, 1) := by decide +kernel
theorem dX0_init_2_142 : decode cX0_init_2 142 = .ok (.getfield 16, 3) := by decide +kernel
theorem dX0_init_2_145 : decode cX0_init_2 145 = .ok (.bipush 7, 2) := by decide +kernel
theorem dX0_init_2_147 : decode cX0_init_2 147 = .ok (.ldc 65, 2) := by decide +kernel
theorem dX0_init_2_149 : decode cX0_init_2 149 = .ok (.iastore, 1) := by decide +kernel
theorem dX0_init_2_150 : decode cX0_init_2 150 = .ok (.iconst 0, 1) := by decide +kernel
theorem dX0_init_2_151 : decode cX0_init_2 151 = .ok (.istore_n 1, 1) := by decide +kernel
theorem dX0_init_2_152 : decode cX0_init_2 152 = .ok (.iload_n 1, 1) := by decide +kernel
theorem dX0_init_2_153 : decode cX0_init_2 153 = .ok (.bipush 32, 2) := by decide +kernel
theorem dX0_init_2_155 : decode cX0_init_2 155 = .ok (.if_icmp .ge 16, 3) := by decide +kernel
theorem dX0_init_2_158 : decode cX0_init_2 158 = .ok (.aload_n 0, 1) := by decide +kernel
theorem dX0_init_2_159 : decode cX0_init_2 159 = .ok (.getfield 9, 3) := by decide +kernel
theorem dX0_init_2_162 : decode cX0_init_2 162 = .ok (.iload_n 1, 1) := by decide +kernel
theorem dX0_init_2_163 : decode cX0_init_2 163 = .ok (.iconst 0, 1) := by decide +kernel
theorem dX0_init_2_164 : decode cX0_init_2 164 = .ok (.bastore, 1) := by decide +kernel
theorem dX0_init_2_165 : decode cX0_init_2 165 = .ok (.iinc 1 1, 3) := by decide +kernel
theorem dX0_init_2_168 : decode cX0_init_2 168 = .ok (.goto (-16), 3) := by decide +kernel
theorem dX0_init_2_171 : decode cX0_init_2 171 = .ok (.aload_n 0, 1) := by decide +kernel
theorem dX0_init_2_172 : decode cX0_init_2 172 = .ok (.iconst 1, 1) := by decide +kernel
theorem dX0_init_2_173 : decode cX0_init_2 173 = .ok (.putfield 66, 3) := by decide +kernel
theorem dX0_init_2_176 : decode cX0_init_2 176 = .ok (.aload_n 0, 1) := by decide +kernel
theorem dX0_init_2_177 : decode cX0_init_2 177 = .ok (.iconst 0, 1) := by decide +kernel
theorem dX0_init_2_178 : decode cX0_init_2 178 = .ok (.putfield 70, 3) := by decide +kernel
theorem dX0_init_2_181 : decode cX0_init_2 181 = .ok (.return_, 1) := by decide +kernel
theorem dX0_row_0 : decode cX0_row 0 = .ok (.iconst 0, 1) := by decide +kernel
theorem dX0_row_1 : decode cX0_row 1 = .ok (.istore 4, 2) := by decide +kernel
theorem dX0_row_3 : decode cX0_row 3 = .ok (.iload 4, 2) := by decide +kernel
theorem dX0_row_5 : decode cX0_row 5 = .ok (.bipush 16, 2) := by decide +kernel
theorem dX0_row_7 : decode cX0_row 7 = .ok (.if_icmp .ge 36, 3) := by decide +kernel
theorem dX0_row_10 : decode cX0_row 10 = .ok (.aload_n 0, 1) := by decide +kernel
theorem dX0_row_11 : decode cX0_row 11 = .ok (.getfield 13, 3) := by decide +kernel
theorem dX0_row_14 : decode cX0_row 14 = .ok (.bipush 16, 2) := by decide +kernel
theorem dX0_row_16 : decode cX0_row 16 = .ok (.iload_n 1, 1) := by decide +kernel
theorem dX0_row_17 : decode cX0_row 17 = .ok (.imul, 1) := by decide +kernel
theorem dX0_row_18 : decode cX0_row 18 = .ok (.iload 4, 2) := by decide +kernel
theorem dX0_row_20 : decode cX0_row 20 = .ok (.iadd, 1) := by decide +kernel
theorem dX0_row_21 : decode cX0_row 21 = .ok (.lload_n 2, 1) := by decide +kernel
theorem dX0_row_22 : decode cX0_row 22 = .ok (.bipush 60, 2) := by decide +kernel
theorem dX0_row_24 : decode cX0_row 24 = .ok (.iconst 4, 1) := by decide +kernel
theorem dX0_row_25 : decode cX0_row 25 = .ok (.iload 4, 2) := by decide +kernel
theorem dX0_row_27 : decode cX0_row 27 = .ok (.imul, 1) := by decide +kernel
theorem dX0_row_28 : decode cX0_row 28 = .ok (.isub, 1) := by decide +kernel
theorem dX0_row_29 : decode cX0_row 29 = .ok (.lushr, 1) := by decide +kernel
theorem dX0_row_30 : decode cX0_row 30 = .ok (.ldc2_w 32, 3) := by decide +kernel
theorem dX0_row_33 : decode cX0_row 33 = .ok (.land, 1) := by decide +kernel
theorem dX0_row_34 : decode cX0_row 34 = .ok (.l2i, 1) := by decide +kernel
theorem dX0_row_35 : decode cX0_row 35 = .ok (.i2b, 1) := by decide +kernel
theorem dX0_row_36 : decode cX0_row 36 = .ok (.bastore, 1) := by decide +kernel
theorem dX0_row_37 : decode cX0_row 37 = .ok (.iinc 4 1, 3) := by decide +kernel
theorem dX0_row_40 : decode cX0_row 40 = .ok (.goto (-37), 3) := by decide +kernel
theorem dX0_row_43 : decode cX0_row 43 = .ok (.return_, 1) := by decide +kernel
theorem dX0_setKeyByte_0 : decode cX0_setKeyByte 0 = .ok (.iload_n 1, 1) := by decide +kernel
theorem dX0_setKeyByte_1 : decode cX0_setKeyByte 1 = .ok (.ifCond .lt 24, 3) := by decide +kernel
theorem dX0_setKeyByte_4 : decode cX0_setKeyByte 4 = .ok (.iload_n 1, 1) := by decide +kernel
theorem dX0_setKeyByte_5 : decode cX0_setKeyByte 5 = .ok (.bipush 32, 2) := by decide +kernel
theorem dX0_setKeyByte_7 : decode cX0_setKeyByte 7 = .ok (.if_icmp .ge 18, 3) := by decide +kernel
theorem dX0_setKeyByte_10 : decode cX0_setKeyByte 10 = .ok (.iload_n 2, 1) := by decide +kernel
theorem dX0_setKeyByte_11 : decode cX0_setKeyByte 11 = .ok (.invokestatic 74, 3) := by decide +kernel
theorem dX0_setKeyByte_14 : decode cX0_setKeyByte 14 = .ok (.ifCond .eq 11, 3) := by decide +kernel
theorem dX0_setKeyByte_17 : decode cX0_setKeyByte 17 = .ok (.aload_n 0, 1) := by decide +kernel
theorem dX0_setKeyByte_18 : decode cX0_setKeyByte 18 = .ok (.getfield 70, 3) := by decide +kernel
theorem dX0_setKeyByte_21 : decode cX0_setKeyByte 21 = .ok (.iconst 1, 1) := by decide +kernel
theorem dX0_setKeyByte_22 : decode cX0_setKeyByte 22 = .ok (.if_icmp .ne 5, 3) := by decide +kernel
theorem dX0_setKeyByte_25 : decode cX0_setKeyByte 25 = .ok (.iconst 0, 1) := by decide +kernel
theorem dX0_setKeyByte_26 : decode cX0_setKeyByte 26 = .ok (.ireturn, 1) := by decide +kernel
theorem dX0_setKeyByte_27 : decode cX0_setKeyByte 27 = .ok (.aload_n 0, 1) := by decide +kernel
theorem dX0_setKeyByte_28 : decode cX0_setKeyByte 28 = .ok (.getfield 9, 3) := by decide +kernel
theorem dX0_setKeyByte_31 : decode cX0_setKeyByte 31 = .ok (.iload_n 1, 1) := by decide +kernel
theorem dX0_setKeyByte_32 : decode cX0_setKeyByte 32 = .ok (.iload_n 2, 1) := by decide +kernel
theorem dX0_setKeyByte_33 : decode cX0_setKeyByte 33 = .ok (.i2b, 1) := by decide +kernel
theorem dX0_setKeyByte_34 : decode cX0_setKeyByte 34 = .ok (.bastore, 1) := by decide +kernel
theorem dX0_setKeyByte_35 : decode cX0_setKeyByte 35 = .ok (.iconst 1, 1) := by decide +kernel
theorem dX0_setKeyByte_36 : decode cX0_setKeyByte 36 = .ok (.ireturn, 1) := by decide +kernel
theorem dX0_isByte_0 : decode cX0_isByte 0 = .ok (.iload_n 0, 1) := by decide +kernel
theorem dX0_isByte_1 : decode cX0_isByte 1 = .ok (.ifCond .lt 14, 3) := by decide +kernel
theorem dX0_isByte_4 : decode cX0_isByte 4 = .ok (.iload_n 0, 1) := by decide +kernel
theorem dX0_isByte_5 : decode cX0_isByte 5 = .ok (.sipush 256, 3) := by decide +kernel
theorem dX0_isByte_8 : decode cX0_isByte 8 = .ok (.if_icmp .ge 7, 3) := by decide +kernel
theorem dX0_isByte_11 : decode cX0_isByte 11 = .ok (.iconst 1, 1) := by decide +kernel
theorem dX0_isByte_12 : decode cX0_isByte 12 = .ok (.goto 4, 3) := by decide +kernel
theorem dX0_isByte_15 : decode cX0_isByte 15 = .ok (.iconst 0, 1) := by decide +kernel
theorem dX0_isByte_16 : decode cX0_isByte 16 = .ok (.ireturn, 1) := by decide +kernel
theorem dX0_start_0 : decode cX0_start 0 = .ok (.aload_n 0, 1) := by decide +kernel
theorem dX0_start_1 : decode cX0_start 1 = .ok (.getfield 66, 3) := by decide +kernel
theorem dX0_start_4 : decode cX0_start 4 = .ok (.ifCond .eq 24, 3) := by decide +kernel
theorem dX0_start_7 : decode cX0_start 7 = .ok (.iload_n 1, 1) := by decide +kernel
theorem dX0_start_8 : decode cX0_start 8 = .ok (.iconst 1, 1) := by decide +kernel
theorem dX0_start_9 : decode cX0_start 9 = .ok (.if_icmp .lt 19, 3) := by decide +kernel
theorem dX0_start_12 : decode cX0_start 12 = .ok (.iload_n 1, 1) := by decide +kernel
theorem dX0_start_13 : decode cX0_start 13 = .ok (.bipush 32, 2) := by decide +kernel
theorem dX0_start_15 : decode cX0_start 15 = .ok (.if_icmp .gt 13, 3) := by decide +kernel
theorem dX0_start_18 : decode cX0_start 18 = .ok (.iload_n 2, 1) := by decide +kernel
theorem dX0_start_19 : decode cX0_start 19 = .ok (.ifCond .lt 9, 3) := by decide +kernel
theorem dX0_start_22 : decode cX0_start 22 = .ok (.iload_n 2, 1) := by decide +kernel
theorem dX0_start_23 : decode cX0_start 23 = .ok (.bipush 32, 2) := by decide +kernel
theorem dX0_start_25 : decode cX0_start 25 = .ok (.if_icmp .le 5, 3) := by decide +kernel
theorem dX0_start_28 : decode cX0_start 28 = .ok (.iconst 0, 1) := by decide +kernel
theorem dX0_start_29 : decode cX0_start 29 = .ok (.ireturn, 1) := by decide +kernel
theorem dX0_start_30 : decode cX0_start 30 = .ok (.iconst 0, 1) := by decide +kernel
theorem dX0_start_31 : decode cX0_start 31 = .ok (.istore_n 3, 1) := by decide +kernel
theorem dX0_start_32 : decode cX0_start 32 = .ok (.iload_n 3, 1) := by decide +kernel
theorem dX0_start_33 : decode cX0_start 33 = .ok (.bipush 8, 2) := by decide +kernel
theorem dX0_start_35 : decode cX0_start 35 = .ok (.if_icmp .ge 21, 3) := by decide +kernel
theorem dX0_start_38 : decode cX0_start 38 = .ok (.aload_n 0, 1) := by decide +kernel
theorem dX0_start_39 : decode cX0_start 39 = .ok (.getfield 20, 3) := by decide +kernel
theorem dX0_start_42 : decode cX0_start 42 = .ok (.iload_n 3, 1) := by decide +kernel
theorem dX0_start_43 : decode cX0_start 43 = .ok (.aload_n 0, 1) := by decide +kernel
theorem dX0_start_44 : decode cX0_start 44 = .ok (.getfield 16, 3) := by decide +kernel
theorem dX0_start_47 : decode cX0_start 47 = .ok (.iload_n 3, 1) := by decide +kernel
theorem dX0_start_48 : decode cX0_start 48 = .ok (.iaload, 1) := by decide +kernel
theorem dX0_start_49 : decode cX0_start 49 = .ok (.iastore, 1) := by decide +kernel
theorem dX0_start_50 : decode cX0_start 50 = .ok (.iinc 3 1, 3) := by decide +kernel
theorem dX0_start_53 : decode cX0_start 53 = .ok (.goto (-21), 3) := by decide +kernel
theorem dX0_start_56 : decode cX0_start 56 = .ok (.aload_n 0, 1) := by decide +kernel
theorem dX0_start_57 : decode cX0_start 57 = .ok (.getfield 20, 3) := by decide +kernel
theorem dX0_start_60 : decode cX0_start 60 = .ok (.iconst 0, 1) := by decide +kernel
theorem dX0_start_61 : decode cX0_start 61 = .ok (.dup2, 1) := by decide +kernel
theorem dX0_start_62 : decode cX0_start 62 = .ok (.iaload, 1) := by decide +kernel
theorem dX0_start_63 : decode cX0_start 63 = .ok (.ldc 94, 2) := by decide +kernel
theorem dX0_start_65 : decode cX0_start 65 = .ok (.iload_n 2, 1) := by decide +kernel
theorem dX0_start_66 : decode cX0_start 66 = .ok (.bipush 8, 2) := by decide +kernel
theorem dX0_start_68 : decode cX0_start 68 = .ok (.ishl, 1) := by decide +kernel
theorem dX0_start_69 : decode cX0_start 69 = .ok (.ixor, 1) := by decide +kernel
theorem dX0_start_70 : decode cX0_start 70 = .ok (.iload_n 1, 1) := by decide +kernel
theorem dX0_start_71 : decode cX0_start 71 = .ok (.ixor, 1) := by decide +kernel
theorem dX0_start_72 : decode cX0_start 72 = .ok (.ixor, 1) := by decide +kernel
theorem dX0_start_73 : decode cX0_start 73 = .ok (.iastore, 1) := by decide +kernel
theorem dX0_start_74 : decode cX0_start 74 = .ok (.aload_n 0, 1) := by decide +kernel
theorem dX0_start_75 : decode cX0_start 75 = .ok (.iload_n 1, 1) := by decide +kernel
theorem dX0_start_76 : decode cX0_start 76 = .ok (.putfield 95, 3) := by decide +kernel
theorem dX0_start_79 : decode cX0_start 79 = .ok (.aload_n 0, 1) := by decide +kernel
theorem dX0_start_80 : decode cX0_start 80 = .ok (.iconst 0, 1) := by decide +kernel
theorem dX0_start_81 : decode cX0_start 81 = .ok (.putfield 98, 3) := by decide +kernel
theorem dX0_start_84 : decode cX0_start 84 = .ok (.aload_n 0, 1) := by decide +kernel
theorem dX0_start_85 : decode cX0_start 85 = .ok (.lconst 0, 1) := by decide +kernel
theorem dX0_start_86 : decode cX0_start 86 = .ok (.putfield 86, 3) := by decide +kernel
theorem dX0_start_89 : decode cX0_start 89 = .ok (.aload_n 0, 1) := by decide +kernel
theorem dX0_start_90 : decode cX0_start 90 = .ok (.lconst 0, 1) := by decide +kernel
theorem dX0_start_91 : decode cX0_start 91 = .ok (.putfield 101, 3) := by decide +kernel
theorem dX0_start_94 : decode cX0_start 94 = .ok (.iload_n 2, 1) := by decide +kernel
theorem dX0_start_95 : decode cX0_start 95 = .ok (.ifCond .le 44, 3) := by decide +kernel
theorem dX0_start_98 : decode cX0_start 98 = .ok (.iconst 0, 1) := by decide +kernel
theorem dX0_start_99 : decode cX0_start 99 = .ok (.istore_n 3, 1) := by decide +kernel
theorem dX0_start_100 : decode cX0_start 100 = .ok (.iload_n 3, 1) := by decide +kernel
theorem dX0_start_101 : decode cX0_start 101 = .ok (.bipush 64, 2) := by decide +kernel
theorem dX0_start_103 : decode cX0_start 103 = .ok (.if_icmp .ge 30, 3) := by decide +kernel
theorem dX0_start_106 : decode cX0_start 106 = .ok (.aload_n 0, 1) := by decide +kernel
theorem dX0_start_107 : decode cX0_start 107 = .ok (.getfield 29, 3) := by decide +kernel
theorem dX0_start_110 : decode cX0_start 110 = .ok (.iload_n 3, 1) := by decide +kernel
theorem dX0_start_111 : decode cX0_start 111 = .ok (.iload_n 3, 1) := by decide +kernel
theorem dX0_start_112 : decode cX0_start 112 = .ok (.iload_n 2, 1) := by decide +kernel
theorem dX0_start_113 : decode cX0_start 113 = .ok (.if_icmp .ge 12, 3) := by decide +kernel
theorem dX0_start_116 : decode cX0_start 116 = .ok (.aload_n 0, 1) := by decide +kernel
theorem dX0_start_117 : decode cX0_start 117 = .ok (.getfield 9, 3) := by decide +kernel
theorem dX0_start_120 : decode cX0_start 120 = .ok (.iload_n 3, 1) := by decide +kernel
theorem dX0_start_121 : decode cX0_start 121 = .ok (.baload, 1) := by decide +kernel
theorem dX0_start_122 : decode cX0_start 122 = .ok (.goto 4, 3) := by decide +kernel
theorem dX0_start_125 : decode cX0_start 125 = .ok (.iconst 0, 1) := by decide +kernel
theorem dX0_start_126 : decode cX0_start 126 = .ok (.bastore, 1) := by decide +kernel
theorem dX0_start_127 : decode cX0_start 127 = .ok (.iinc 3 1, 3) := by decide +kernel
theorem dX0_start_130 : decode cX0_start 130 = .ok (.goto (-30), 3) := by decide +kernel
theorem dX0_start_133 : decode cX0_start 133 = .ok (.aload_n 0, 1) := by decide +kernel
theorem dX0_start_134 : decode cX0_start 134 = .ok (.bipush 64, 2) := by decide +kernel
theorem dX0_start_136 : decode cX0_start 136 = .ok (.putfield 98, 3) := by decide +kernel
theorem dX0_start_139 : decode cX0_start 139 = .ok (.aload_n 0, 1) := by decide +kernel
theorem dX0_start_140 : decode cX0_start 140 = .ok (.iconst 1, 1) := by decide +kernel
theorem dX0_start_141 : decode cX0_start 141 = .ok (.putfield 70, 3) := by decide +kernel
theorem dX0_start_144 : decode cX0_start 144 = .ok (.iconst 1, 1) := by decide +kernel
theorem dX0_start_145 : decode cX0_start 145 = .ok (.ireturn, 1) := by decide +kernel
theorem dX0_update_0 : decode cX0_update 0 = .ok (.aload_n 0, 1) := by decide +kernel
theorem dX0_update_1 : decode cX0_update 1 = .ok (.getfield 70, 3) := by decide +kernel
theorem dX0_update_4 : decode cX0_update 4 = .ok (.iconst 1, 1) := by decide +kernel
theorem dX0_update_5 : decode cX0_update 5 = .ok (.if_icmp .ne 10, 3) := by decide +kernel
theorem dX0_update_8 : decode cX0_update 8 = .ok (.iload_n 1, 1) := by decide +kernel
theorem dX0_update_9 : decode cX0_update 9 = .ok (.invokestatic 74, 3) := by decide +kernel
theorem dX0_update_12 : decode cX0_update 12 = .ok (.ifCond .ne 5, 3) := by decide +kernel
theorem dX0_update_15 : decode cX0_update 15 = .ok (.iconst 0, 1) := by decide +kernel
theorem dX0_update_16 : decode cX0_update 16 = .ok (.ireturn, 1) := by decide +kernel
theorem dX0_update_17 : decode cX0_update 17 = .ok (.aload_n 0, 1) := by decide +kernel
theorem dX0_update_18 : decode cX0_update 18 = .ok (.iload_n 1, 1) := by decide +kernel
theorem dX0_update_19 : decode cX0_update 19 = .ok (.invokevirtual 110, 3) := by decide +kernel
theorem dX0_update_22 : decode cX0_update 22 = .ok (.iconst 1, 1) := by decide +kernel
theorem dX0_update_23 : decode cX0_update 23 = .ok (.ireturn, 1) := by decide +kernel
theorem dX0_take_0 : decode cX0_take 0 = .ok (.aload_n 0, 1) := by decide +kernel
theorem dX0_take_1 : decode cX0_take 1 = .ok (.getfield 98, 3) := by decide +kernel
theorem dX0_take_4 : decode cX0_take 4 = .ok (.bipush 64, 2) := by decide +kernel
theorem dX0_take_6 : decode cX0_take 6 = .ok (.if_icmp .ne 25, 3) := by decide +kernel
theorem dX0_take_9 : decode cX0_take 9 = .ok (.aload_n 0, 1) := by decide +kernel
theorem dX0_take_10 : decode cX0_take 10 = .ok (.dup, 1) := by decide +kernel
theorem dX0_take_11 : decode cX0_take 11 = .ok (.getfield 86, 3) := by decide +kernel
theorem dX0_take_14 : decode cX0_take 14 = .ok (.ldc2_w 104, 3) := by decide +kernel
theorem dX0_take_17 : decode cX0_take 17 = .ok (.ladd, 1) := by decide +kernel
theorem dX0_take_18 : decode cX0_take 18 = .ok (.putfield 86, 3) := by decide +kernel
theorem dX0_take_21 : decode cX0_take 21 = .ok (.aload_n 0, 1) := by decide +kernel
theorem dX0_take_22 : decode cX0_take 22 = .ok (.iconst 0, 1) := by decide +kernel
theorem dX0_take_23 : decode cX0_take 23 = .ok (.invokevirtual 106, 3) := by decide +kernel
theorem dX0_take_26 : decode cX0_take 26 = .ok (.aload_n 0, 1) := by decide +kernel
theorem dX0_take_27 : decode cX0_take 27 = .ok (.iconst 0, 1) := by decide +kernel
theorem dX0_take_28 : decode cX0_take 28 = .ok (.putfield 98, 3) := by decide +kernel
theorem dX0_take_31 : decode cX0_take 31 = .ok (.aload_n 0, 1) := by decide +kernel
theorem dX0_take_32 : decode cX0_take 32 = .ok (.getfield 29, 3) := by decide +kernel
theorem dX0_take_35 : decode cX0_take 35 = .ok (.aload_n 0, 1) := by decide +kernel
theorem dX0_take_36 : decode cX0_take 36 = .ok (.getfield 98, 3) := by decide +kernel
theorem dX0_take_39 : decode cX0_take 39 = .ok (.iload_n 1, 1) := by decide +kernel
theorem dX0_take_40 : decode cX0_take 40 = .ok (.i2b, 1) := by decide +kernel
theorem dX0_take_41 : decode cX0_take 41 = .ok (.bastore, 1) := by decide +kernel
theorem dX0_take_42 : decode cX0_take 42 = .ok (.aload_n 0, 1) := by decide +kernel
theorem dX0_take_43 : decode cX0_take 43 = .ok (.dup, 1) := by decide +kernel
theorem dX0_take_44 : decode cX0_take 44 = .ok (.getfield 98, 3) := by decide +kernel
theorem dX0_take_47 : decode cX0_take 47 = .ok (.iconst 1, 1) := by decide +kernel
theorem dX0_take_48 : decode cX0_take 48 = .ok (.iadd, 1) := by decide +kernel
theorem dX0_take_49 : decode cX0_take 49 = .ok (.putfield 98, 3) := by decide +kernel
theorem dX0_take_52 : decode cX0_take 52 = .ok (.aload_n 0, 1) := by decide +kernel
theorem dX0_take_53 : decode cX0_take 53 = .ok (.dup, 1) := by decide +kernel
theorem dX0_take_54 : decode cX0_take 54 = .ok (.getfield 101, 3) := by decide +kernel
theorem dX0_take_57 : decode cX0_take 57 = .ok (.lconst 1, 1) := by decide +kernel
theorem dX0_take_58 : decode cX0_take 58 = .ok (.ladd, 1) := by decide +kernel
theorem dX0_take_59 : decode cX0_take 59 = .ok (.putfield 101, 3) := by decide +kernel
theorem dX0_take_62 : decode cX0_take 62 = .ok (.return_, 1) := by decide +kernel
theorem dX0_mix_0 : decode cX0_mix 0 = .ok (.iconst 0, 1) := by decide +kernel
theorem dX0_mix_1 : decode cX0_mix 1 = .ok (.istore_n 2, 1) := by decide +kernel
theorem dX0_mix_2 : decode cX0_mix 2 = .ok (.iload_n 2, 1) := by decide +kernel
theorem dX0_mix_3 : decode cX0_mix 3 = .ok (.bipush 16, 2) := by decide +kernel
theorem dX0_mix_5 : decode cX0_mix 5 = .ok (.if_icmp .ge 77, 3) := by decide +kernel
theorem dX0_mix_8 : decode cX0_mix 8 = .ok (.aload_n 0, 1) := by decide +kernel
theorem dX0_mix_9 : decode cX0_mix 9 = .ok (.getfield 23, 3) := by decide +kernel
theorem dX0_mix_12 : decode cX0_mix 12 = .ok (.iload_n 2, 1) := by decide +kernel
theorem dX0_mix_13 : decode cX0_mix 13 = .ok (.aload_n 0, 1) := by decide +kernel
theorem dX0_mix_14 : decode cX0_mix 14 = .ok (.getfield 29, 3) := by decide +kernel
theorem dX0_mix_17 : decode cX0_mix 17 = .ok (.iconst 4, 1) := by decide +kernel
theorem dX0_mix_18 : decode cX0_mix 18 = .ok (.iload_n 2, 1) := by decide +kernel
theorem dX0_mix_19 : decode cX0_mix 19 = .ok (.imul, 1) := by decide +kernel
theorem dX0_mix_20 : decode cX0_mix 20 = .ok (.baload, 1) := by decide +kernel
theorem dX0_mix_21 : decode cX0_mix 21 = .ok (.sipush 255, 3) := by decide +kernel
theorem dX0_mix_24 : decode cX0_mix 24 = .ok (.iand, 1) := by decide +kernel
theorem dX0_mix_25 : decode cX0_mix 25 = .ok (.aload_n 0, 1) := by decide +kernel
theorem dX0_mix_26 : decode cX0_mix 26 = .ok (.getfield 29, 3) := by decide +kernel
theorem dX0_mix_29 : decode cX0_mix 29 = .ok (.iconst 4, 1) := by decide +kernel
theorem dX0_mix_30 : decode cX0_mix 30 = .ok (.iload_n 2, 1) := by decide +kernel
theorem dX0_mix_31 : decode cX0_mix 31 = .ok (.imul, 1) := by decide +kernel
theorem dX0_mix_32 : decode cX0_mix 32 = .ok (.iconst 1, 1) := by decide +kernel
theorem dX0_mix_33 : decode cX0_mix 33 = .ok (.iadd, 1) := by decide +kernel
theorem dX0_mix_34 : decode cX0_mix 34 = .ok (.baload, 1) := by decide +kernel
theorem dX0_mix_35 : decode cX0_mix 35 = .ok (.sipush 255, 3) := by decide +kernel
theorem dX0_mix_38 : decode cX0_mix 38 = .ok (.iand, 1) := by decide +kernel
theorem dX0_mix_39 : decode cX0_mix 39 = .ok (.bipush 8, 2) := by decide +kernel
theorem dX0_mix_41 : decode cX0_mix 41 = .ok (.ishl, 1) := by decide +kernel
theorem dX0_mix_42 : decode cX0_mix 42 = .ok (.ior, 1) := by decide +kernel
theorem dX0_mix_43 : decode cX0_mix 43 = .ok (.aload_n 0, 1) := by decide +kernel
theorem dX0_mix_44 : decode cX0_mix 44 = .ok (.getfield 29, 3) := by decide +kernel
theorem dX0_mix_47 : decode cX0_mix 47 = .ok (.iconst 4, 1) := by decide +kernel
theorem dX0_mix_48 : decode cX0_mix 48 = .ok (.iload_n 2, 1) := by decide +kernel
theorem dX0_mix_49 : decode cX0_mix 49 = .ok (.imul, 1) := by decide +kernel
theorem dX0_mix_50 : decode cX0_mix 50 = .ok (.iconst 2, 1) := by decide +kernel
theorem dX0_mix_51 : decode cX0_mix 51 = .ok (.iadd, 1) := by decide +kernel
theorem dX0_mix_52 : decode cX0_mix 52 = .ok (.baload, 1) := by decide +kernel
theorem dX0_mix_53 : decode cX0_mix 53 = .ok (.sipush 255, 3) := by decide +kernel
theorem dX0_mix_56 : decode cX0_mix 56 = .ok (.iand, 1) := by decide +kernel
theorem dX0_mix_57 : decode cX0_mix 57 = .ok (.bipush 16, 2) := by decide +kernel
theorem dX0_mix_59 : decode cX0_mix 59 = .ok (.ishl, 1) := by decide +kernel
theorem dX0_mix_60 : decode cX0_mix 60 = .ok (.ior, 1) := by decide +kernel
theorem dX0_mix_61 : decode cX0_mix 61 = .ok (.aload_n 0, 1) := by decide +kernel
theorem dX0_mix_62 : decode cX0_mix 62 = .ok (.getfield 29, 3) := by decide +kernel
theorem dX0_mix_65 : decode cX0_mix 65 = .ok (.iconst 4, 1) := by decide +kernel
theorem dX0_mix_66 : decode cX0_mix 66 = .ok (.iload_n 2, 1) := by decide +kernel
theorem dX0_mix_67 : decode cX0_mix 67 = .ok (.imul, 1) := by decide +kernel
theorem dX0_mix_68 : decode cX0_mix 68 = .ok (.iconst 3, 1) := by decide +kernel
theorem dX0_mix_69 : decode cX0_mix 69 = .ok (.iadd, 1) := by decide +kernel
theorem dX0_mix_70 : decode cX0_mix 70 = .ok (.baload, 1) := by decide +kernel
theorem dX0_mix_71 : decode cX0_mix 71 = .ok (.bipush 24, 2) := by decide +kernel
theorem dX0_mix_73 : decode cX0_mix 73 = .ok (.ishl, 1) := by decide +kernel
theorem dX0_mix_74 : decode cX0_mix 74 = .ok (.ior, 1) := by decide +kernel
theorem dX0_mix_75 : decode cX0_mix 75 = .ok (.iastore, 1) := by decide +kernel
theorem dX0_mix_76 : decode cX0_mix 76 = .ok (.iinc 2 1, 3) := by decide +kernel
theorem dX0_mix_79 : decode cX0_mix 79 = .ok (.goto (-77), 3) := by decide +kernel
theorem dX0_mix_82 : decode cX0_mix 82 = .ok (.iconst 0, 1) := by decide +kernel
theorem dX0_mix_83 : decode cX0_mix 83 = .ok (.istore_n 2, 1) := by decide +kernel
theorem dX0_mix_84 : decode cX0_mix 84 = .ok (.iload_n 2, 1) := by decide +kernel
theorem dX0_mix_85 : decode cX0_mix 85 = .ok (.bipush 8, 2) := by decide +kernel
theorem dX0_mix_87 : decode cX0_mix 87 = .ok (.if_icmp .ge 36, 3) := by decide +kernel
theorem dX0_mix_90 : decode cX0_mix 90 = .ok (.aload_n 0, 1) := by decide +kernel
theorem dX0_mix_91 : decode cX0_mix 91 = .ok (.getfield 26, 3) := by decide +kernel
theorem dX0_mix_94 : decode cX0_mix 94 = .ok (.iload_n 2, 1) := by decide +kernel
theorem dX0_mix_95 : decode cX0_mix 95 = .ok (.aload_n 0, 1) := by decide +kernel
theorem dX0_mix_96 : decode cX0_mix 96 = .ok (.getfield 20, 3) := by decide +kernel
theorem dX0_mix_99 : decode cX0_mix 99 = .ok (.iload_n 2, 1) := by decide +kernel
theorem dX0_mix_100 : decode cX0_mix 100 = .ok (.iaload, 1) := by decide +kernel
theorem dX0_mix_101 : decode cX0_mix 101 = .ok (.iastore, 1) := by decide +kernel
theorem dX0_mix_102 : decode cX0_mix 102 = .ok (.aload_n 0, 1) := by decide +kernel
theorem dX0_mix_103 : decode cX0_mix 103 = .ok (.getfield 26, 3) := by decide +kernel
theorem dX0_mix_106 : decode cX0_mix 106 = .ok (.bipush 8, 2) := by decide +kernel
theorem dX0_mix_108 : decode cX0_mix 108 = .ok (.iload_n 2, 1) := by decide +kernel
theorem dX0_mix_109 : decode cX0_mix 109 = .ok (.iadd, 1) := by decide +kernel
theorem dX0_mix_110 : decode cX0_mix 110 = .ok (.aload_n 0, 1) := by decide +kernel
theorem dX0_mix_111 : decode cX0_mix 111 = .ok (.getfield 16, 3) := by decide +kernel
theorem dX0_mix_114 : decode cX0_mix 114 = .ok (.iload_n 2, 1) := by decide +kernel
theorem dX0_mix_115 : decode cX0_mix 115 = .ok (.iaload, 1) := by decide +kernel
theorem dX0_mix_116 : decode cX0_mix 116 = .ok (.iastore, 1) := by decide +kernel
theorem dX0_mix_117 : decode cX0_mix 117 = .ok (.iinc 2 1, 3) := by decide +kernel
theorem dX0_mix_120 : decode cX0_mix 120 = .ok (.goto (-36), 3) := by decide +kernel
theorem dX0_mix_123 : decode cX0_mix 123 = .ok (.aload_n 0, 1) := by decide +kernel
theorem dX0_mix_124 : decode cX0_mix 124 = .ok (.getfield 26, 3) := by decide +kernel
theorem dX0_mix_127 : decode cX0_mix 127 = .ok (.bipush 12, 2) := by decide +kernel
end
section
set_option maxRecDepth 100000
theorem dX0_mix_129 : decode cX0_mix 129 = .ok (.dup2, 1) := by decide +kernel
theorem dX0_mix_130 : decode cX0_mix 130 = .ok (.iaload, 1) := by decide +kernel
theorem dX0_mix_131 : decode cX0_mix 131 = .ok (.aload_n 0, 1) := by decide +kernel
theorem dX0_mix_132 : decode cX0_mix 132 = .ok (.getfield 86, 3) := by decide +kernel
theorem dX0_mix_135 : decode cX0_mix 135 = .ok (.l2i, 1) := by decide +kernel
theorem dX0_mix_136 : decode cX0_mix 136 = .ok (.ixor, 1) := by decide +kernel
theorem dX0_mix_137 : decode cX0_mix 137 = .ok (.iastore, 1) := by decide +kernel
theorem dX0_mix_138 : decode cX0_mix 138 = .ok (.aload_n 0, 1) := by decide +kernel
theorem dX0_mix_139 : decode cX0_mix 139 = .ok (.getfield 26, 3) := by decide +kernel
theorem dX0_mix_142 : decode cX0_mix 142 = .ok (.bipush 13, 2) := by decide +kernel
theorem dX0_mix_144 : decode cX0_mix 144 = .ok (.dup2, 1) := by decide +kernel
theorem dX0_mix_145 : decode cX0_mix 145 = .ok (.iaload, 1) := by decide +kernel
theorem dX0_mix_146 : decode cX0_mix 146 = .ok (.aload_n 0, 1) := by decide +kernel
theorem dX0_mix_147 : decode cX0_mix 147 = .ok (.getfield 86, 3) := by decide +kernel
theorem dX0_mix_150 : decode cX0_mix 150 = .ok (.bipush 32, 2) := by decide +kernel
theorem dX0_mix_152 : decode cX0_mix 152 = .ok (.lushr, 1) := by decide +kernel
theorem dX0_mix_153 : decode cX0_mix 153 = .ok (.l2i, 1) := by decide +kernel
theorem dX0_mix_154 : decode cX0_mix 154 = .ok (.ixor, 1) := by decide +kernel
theorem dX0_mix_155 : decode cX0_mix 155 = .ok (.iastore, 1) := by decide +kernel
theorem dX0_mix_156 : decode cX0_mix 156 = .ok (.iload_n 1, 1) := by decide +kernel
theorem dX0_mix_157 : decode cX0_mix 157 = .ok (.ifCond .eq 19, 3) := by decide +kernel
theorem dX0_mix_160 : decode cX0_mix 160 = .ok (.aload_n 0, 1) := by decide +kernel
theorem dX0_mix_161 : decode cX0_mix 161 = .ok (.getfield 26, 3) := by decide +kernel
theorem dX0_mix_164 : decode cX0_mix 164 = .ok (.bipush 14, 2) := by decide +kernel
theorem dX0_mix_166 : decode cX0_mix 166 = .ok (.aload_n 0, 1) := by decide +kernel
theorem dX0_mix_167 : decode cX0_mix 167 = .ok (.getfield 26, 3) := by decide +kernel
theorem dX0_mix_170 : decode cX0_mix 170 = .ok (.bipush 14, 2) := by decide +kernel
theorem dX0_mix_172 : decode cX0_mix 172 = .ok (.iaload, 1) := by decide +kernel
theorem dX0_mix_173 : decode cX0_mix 173 = .ok (.iconst (-1), 1) := by decide +kernel
theorem dX0_mix_174 : decode cX0_mix 174 = .ok (.ixor, 1) := by decide +kernel
theorem dX0_mix_175 : decode cX0_mix 175 = .ok (.iastore, 1) := by decide +kernel
theorem dX0_mix_176 : decode cX0_mix 176 = .ok (.iconst 0, 1) := by decide +kernel
theorem dX0_mix_177 : decode cX0_mix 177 = .ok (.istore_n 2, 1) := by decide +kernel
theorem dX0_mix_178 : decode cX0_mix 178 = .ok (.iload_n 2, 1) := by decide +kernel
theorem dX0_mix_179 : decode cX0_mix 179 = .ok (.sipush 160, 3) := by decide +kernel
theorem dX0_mix_182 : decode cX0_mix 182 = .ok (.if_icmp .ge 120, 3) := by decide +kernel
theorem dX0_mix_185 : decode cX0_mix 185 = .ok (.aload_n 0, 1) := by decide +kernel
theorem dX0_mix_186 : decode cX0_mix 186 = .ok (.iconst 0, 1) := by decide +kernel
theorem dX0_mix_187 : decode cX0_mix 187 = .ok (.iconst 4, 1) := by decide +kernel
theorem dX0_mix_188 : decode cX0_mix 188 = .ok (.bipush 8, 2) := by decide +kernel
theorem dX0_mix_190 : decode cX0_mix 190 = .ok (.bipush 12, 2) := by decide +kernel
theorem dX0_mix_192 : decode cX0_mix 192 = .ok (.iload_n 2, 1) := by decide +kernel
theorem dX0_mix_193 : decode cX0_mix 193 = .ok (.invokevirtual 90, 3) := by decide +kernel
theorem dX0_mix_196 : decode cX0_mix 196 = .ok (.aload_n 0, 1) := by decide +kernel
theorem dX0_mix_197 : decode cX0_mix 197 = .ok (.iconst 1, 1) := by decide +kernel
theorem dX0_mix_198 : decode cX0_mix 198 = .ok (.iconst 5, 1) := by decide +kernel
theorem dX0_mix_199 : decode cX0_mix 199 = .ok (.bipush 9, 2) := by decide +kernel
theorem dX0_mix_201 : decode cX0_mix 201 = .ok (.bipush 13, 2) := by decide +kernel
theorem dX0_mix_203 : decode cX0_mix 203 = .ok (.iload_n 2, 1) := by decide +kernel
theorem dX0_mix_204 : decode cX0_mix 204 = .ok (.iconst 2, 1) := by decide +kernel
theorem dX0_mix_205 : decode cX0_mix 205 = .ok (.iadd, 1) := by decide +kernel
theorem dX0_mix_206 : decode cX0_mix 206 = .ok (.invokevirtual 90, 3) := by decide +kernel
theorem dX0_mix_209 : decode cX0_mix 209 = .ok (.aload_n 0, 1) := by decide +kernel
theorem dX0_mix_210 : decode cX0_mix 210 = .ok (.iconst 2, 1) := by decide +kernel
theorem dX0_mix_211 : decode cX0_mix 211 = .ok (.bipush 6, 2) := by decide +kernel
theorem dX0_mix_213 : decode cX0_mix 213 = .ok (.bipush 10, 2) := by decide +kernel
theorem dX0_mix_215 : decode cX0_mix 215 = .ok (.bipush 14, 2) := by decide +kernel
theorem dX0_mix_217 : decode cX0_mix 217 = .ok (.iload_n 2, 1) := by decide +kernel
theorem dX0_mix_218 : decode cX0_mix 218 = .ok (.iconst 4, 1) := by decide +kernel
theorem dX0_mix_219 : decode cX0_mix 219 = .ok (.iadd, 1) := by decide +kernel
theorem dX0_mix_220 : decode cX0_mix 220 = .ok (.invokevirtual 90, 3) := by decide +kernel
theorem dX0_mix_223 : decode cX0_mix 223 = .ok (.aload_n 0, 1) := by decide +kernel
theorem dX0_mix_224 : decode cX0_mix 224 = .ok (.iconst 3, 1) := by decide +kernel
theorem dX0_mix_225 : decode cX0_mix 225 = .ok (.bipush 7, 2) := by decide +kernel
theorem dX0_mix_227 : decode cX0_mix 227 = .ok (.bipush 11, 2) := by decide +kernel
theorem dX0_mix_229 : decode cX0_mix 229 = .ok (.bipush 15, 2) := by decide +kernel
theorem dX0_mix_231 : decode cX0_mix 231 = .ok (.iload_n 2, 1) := by decide +kernel
theorem dX0_mix_232 : decode cX0_mix 232 = .ok (.bipush 6, 2) := by decide +kernel
theorem dX0_mix_234 : decode cX0_mix 234 = .ok (.iadd, 1) := by decide +kernel
theorem dX0_mix_235 : decode cX0_mix 235 = .ok (.invokevirtual 90, 3) := by decide +kernel
theorem dX0_mix_238 : decode cX0_mix 238 = .ok (.aload_n 0, 1) := by decide +kernel
theorem dX0_mix_239 : decode cX0_mix 239 = .ok (.iconst 0, 1) := by decide +kernel
theorem dX0_mix_240 : decode cX0_mix 240 = .ok (.iconst 5, 1) := by decide +kernel
theorem dX0_mix_241 : decode cX0_mix 241 = .ok (.bipush 10, 2) := by decide +kernel
theorem dX0_mix_243 : decode cX0_mix 243 = .ok (.bipush 15, 2) := by decide +kernel
theorem dX0_mix_245 : decode cX0_mix 245 = .ok (.iload_n 2, 1) := by decide +kernel
theorem dX0_mix_246 : decode cX0_mix 246 = .ok (.bipush 8, 2) := by decide +kernel
theorem dX0_mix_248 : decode cX0_mix 248 = .ok (.iadd, 1) := by decide +kernel
theorem dX0_mix_249 : decode cX0_mix 249 = .ok (.invokevirtual 90, 3) := by decide +kernel
theorem dX0_mix_252 : decode cX0_mix 252 = .ok (.aload_n 0, 1) := by decide +kernel
theorem dX0_mix_253 : decode cX0_mix 253 = .ok (.iconst 1, 1) := by decide +kernel
theorem dX0_mix_254 : decode cX0_mix 254 = .ok (.bipush 6, 2) := by decide +kernel
theorem dX0_mix_256 : decode cX0_mix 256 = .ok (.bipush 11, 2) := by decide +kernel
theorem dX0_mix_258 : decode cX0_mix 258 = .ok (.bipush 12, 2) := by decide +kernel
theorem dX0_mix_260 : decode cX0_mix 260 = .ok (.iload_n 2, 1) := by decide +kernel
theorem dX0_mix_261 : decode cX0_mix 261 = .ok (.bipush 10, 2) := by decide +kernel
theorem dX0_mix_263 : decode cX0_mix 263 = .ok (.iadd, 1) := by decide +kernel
theorem dX0_mix_264 : decode cX0_mix 264 = .ok (.invokevirtual 90, 3) := by decide +kernel
theorem dX0_mix_267 : decode cX0_mix 267 = .ok (.aload_n 0, 1) := by decide +kernel
theorem dX0_mix_268 : decode cX0_mix 268 = .ok (.iconst 2, 1) := by decide +kernel
theorem dX0_mix_269 : decode cX0_mix 269 = .ok (.bipush 7, 2) := by decide +kernel
theorem dX0_mix_271 : decode cX0_mix 271 = .ok (.bipush 8, 2) := by decide +kernel
theorem dX0_mix_273 : decode cX0_mix 273 = .ok (.bipush 13, 2) := by decide +kernel
theorem dX0_mix_275 : decode cX0_mix 275 = .ok (.iload_n 2, 1) := by decide +kernel
theorem dX0_mix_276 : decode cX0_mix 276 = .ok (.bipush 12, 2) := by decide +kernel
theorem dX0_mix_278 : decode cX0_mix 278 = .ok (.iadd, 1) := by decide +kernel
theorem dX0_mix_279 : decode cX0_mix 279 = .ok (.invokevirtual 90, 3) := by decide +kernel
theorem dX0_mix_282 : decode cX0_mix 282 = .ok (.aload_n 0, 1) := by decide +kernel
theorem dX0_mix_283 : decode cX0_mix 283 = .ok (.iconst 3, 1) := by decide +kernel
theorem dX0_mix_284 : decode cX0_mix 284 = .ok (.iconst 4, 1) := by decide +kernel
theorem dX0_mix_285 : decode cX0_mix 285 = .ok (.bipush 9, 2) := by decide +kernel
theorem dX0_mix_287 : decode cX0_mix 287 = .ok (.bipush 14, 2) := by decide +kernel
theorem dX0_mix_289 : decode cX0_mix 289 = .ok (.iload_n 2, 1) := by decide +kernel
theorem dX0_mix_290 : decode cX0_mix 290 = .ok (.bipush 14, 2) := by decide +kernel
theorem dX0_mix_292 : decode cX0_mix 292 = .ok (.iadd, 1) := by decide +kernel
theorem dX0_mix_293 : decode cX0_mix 293 = .ok (.invokevirtual 90, 3) := by decide +kernel
theorem dX0_mix_296 : decode cX0_mix 296 = .ok (.iinc 2 16, 3) := by decide +kernel
theorem dX0_mix_299 : decode cX0_mix 299 = .ok (.goto (-121), 3) := by decide +kernel
theorem dX0_mix_302 : decode cX0_mix 302 = .ok (.iconst 0, 1) := by decide +kernel
theorem dX0_mix_303 : decode cX0_mix 303 = .ok (.istore_n 2, 1) := by decide +kernel
theorem dX0_mix_304 : decode cX0_mix 304 = .ok (.iload_n 2, 1) := by decide +kernel
theorem dX0_mix_305 : decode cX0_mix 305 = .ok (.bipush 8, 2) := by decide +kernel
theorem dX0_mix_307 : decode cX0_mix 307 = .ok (.if_icmp .ge 34, 3) := by decide +kernel
theorem dX0_mix_310 : decode cX0_mix 310 = .ok (.aload_n 0, 1) := by decide +kernel
theorem dX0_mix_311 : decode cX0_mix 311 = .ok (.getfield 20, 3) := by decide +kernel
theorem dX0_mix_314 : decode cX0_mix 314 = .ok (.iload_n 2, 1) := by decide +kernel
theorem dX0_mix_315 : decode cX0_mix 315 = .ok (.dup2, 1) := by decide +kernel
theorem dX0_mix_316 : decode cX0_mix 316 = .ok (.iaload, 1) := by decide +kernel
theorem dX0_mix_317 : decode cX0_mix 317 = .ok (.aload_n 0, 1) := by decide +kernel
theorem dX0_mix_318 : decode cX0_mix 318 = .ok (.getfield 26, 3) := by decide +kernel
theorem dX0_mix_321 : decode cX0_mix 321 = .ok (.iload_n 2, 1) := by decide +kernel
theorem dX0_mix_322 : decode cX0_mix 322 = .ok (.iaload, 1) := by decide +kernel
theorem dX0_mix_323 : decode cX0_mix 323 = .ok (.aload_n 0, 1) := by decide +kernel
theorem dX0_mix_324 : decode cX0_mix 324 = .ok (.getfield 26, 3) := by decide +kernel
theorem dX0_mix_327 : decode cX0_mix 327 = .ok (.bipush 8, 2) := by decide +kernel
theorem dX0_mix_329 : decode cX0_mix 329 = .ok (.iload_n 2, 1) := by decide +kernel
theorem dX0_mix_330 : decode cX0_mix 330 = .ok (.iadd, 1) := by decide +kernel
theorem dX0_mix_331 : decode cX0_mix 331 = .ok (.iaload, 1) := by decide +kernel
theorem dX0_mix_332 : decode cX0_mix 332 = .ok (.ixor, 1) := by decide +kernel
theorem dX0_mix_333 : decode cX0_mix 333 = .ok (.ixor, 1) := by decide +kernel
theorem dX0_mix_334 : decode cX0_mix 334 = .ok (.iastore, 1) := by decide +kernel
theorem dX0_mix_335 : decode cX0_mix 335 = .ok (.iinc 2 1, 3) := by decide +kernel
theorem dX0_mix_338 : decode cX0_mix 338 = .ok (.goto (-34), 3) := by decide +kernel
theorem dX0_mix_341 : decode cX0_mix 341 = .ok (.return_, 1) := by decide +kernel
theorem dX0_four_0 : decode cX0_four 0 = .ok (.aload_n 0, 1) := by decide +kernel
theorem dX0_four_1 : decode cX0_four 1 = .ok (.iload_n 1, 1) := by decide +kernel
theorem dX0_four_2 : decode cX0_four 2 = .ok (.iload_n 2, 1) := by decide +kernel
theorem dX0_four_3 : decode cX0_four 3 = .ok (.iload_n 3, 1) := by decide +kernel
theorem dX0_four_4 : decode cX0_four 4 = .ok (.iload 4, 2) := by decide +kernel
theorem dX0_four_6 : decode cX0_four 6 = .ok (.aload_n 0, 1) := by decide +kernel
theorem dX0_four_7 : decode cX0_four 7 = .ok (.getfield 13, 3) := by decide +kernel
theorem dX0_four_10 : decode cX0_four 10 = .ok (.iload 5, 2) := by decide +kernel
theorem dX0_four_12 : decode cX0_four 12 = .ok (.baload, 1) := by decide +kernel
theorem dX0_four_13 : decode cX0_four 13 = .ok (.bipush 16, 2) := by decide +kernel
theorem dX0_four_15 : decode cX0_four 15 = .ok (.bipush 12, 2) := by decide +kernel
theorem dX0_four_17 : decode cX0_four 17 = .ok (.invokevirtual 82, 3) := by decide +kernel
theorem dX0_four_20 : decode cX0_four 20 = .ok (.aload_n 0, 1) := by decide +kernel
theorem dX0_four_21 : decode cX0_four 21 = .ok (.iload_n 1, 1) := by decide +kernel
theorem dX0_four_22 : decode cX0_four 22 = .ok (.iload_n 2, 1) := by decide +kernel
theorem dX0_four_23 : decode cX0_four 23 = .ok (.iload_n 3, 1) := by decide +kernel
theorem dX0_four_24 : decode cX0_four 24 = .ok (.iload 4, 2) := by decide +kernel
theorem dX0_four_26 : decode cX0_four 26 = .ok (.aload_n 0, 1) := by decide +kernel
theorem dX0_four_27 : decode cX0_four 27 = .ok (.getfield 13, 3) := by decide +kernel
theorem dX0_four_30 : decode cX0_four 30 = .ok (.iload 5, 2) := by decide +kernel
theorem dX0_four_32 : decode cX0_four 32 = .ok (.iconst 1, 1) := by decide +kernel
theorem dX0_four_33 : decode cX0_four 33 = .ok (.iadd, 1) := by decide +kernel
theorem dX0_four_34 : decode cX0_four 34 = .ok (.baload, 1) := by decide +kernel
theorem dX0_four_35 : decode cX0_four 35 = .ok (.bipush 8, 2) := by decide +kernel
theorem dX0_four_37 : decode cX0_four 37 = .ok (.bipush 7, 2) := by decide +kernel
theorem dX0_four_39 : decode cX0_four 39 = .ok (.invokevirtual 82, 3) := by decide +kernel
theorem dX0_four_42 : decode cX0_four 42 = .ok (.return_, 1) := by decide +kernel
theorem dX0_half_0 : decode cX0_half 0 = .ok (.aload_n 0, 1) := by decide +kernel
theorem dX0_half_1 : decode cX0_half 1 = .ok (.getfield 26, 3) := by decide +kernel
theorem dX0_half_4 : decode cX0_half 4 = .ok (.iload_n 1, 1) := by decide +kernel
theorem dX0_half_5 : decode cX0_half 5 = .ok (.dup2, 1) := by decide +kernel
theorem dX0_half_6 : decode cX0_half 6 = .ok (.iaload, 1) := by decide +kernel
theorem dX0_half_7 : decode cX0_half 7 = .ok (.aload_n 0, 1) := by decide +kernel
theorem dX0_half_8 : decode cX0_half 8 = .ok (.getfield 26, 3) := by decide +kernel
theorem dX0_half_11 : decode cX0_half 11 = .ok (.iload_n 2, 1) := by decide +kernel
theorem dX0_half_12 : decode cX0_half 12 = .ok (.iaload, 1) := by decide +kernel
theorem dX0_half_13 : decode cX0_half 13 = .ok (.aload_n 0, 1) := by decide +kernel
theorem dX0_half_14 : decode cX0_half 14 = .ok (.getfield 23, 3) := by decide +kernel
theorem dX0_half_17 : decode cX0_half 17 = .ok (.iload 5, 2) := by decide +kernel
theorem dX0_half_19 : decode cX0_half 19 = .ok (.iaload, 1) := by decide +kernel
theorem dX0_half_20 : decode cX0_half 20 = .ok (.iadd, 1) := by decide +kernel
theorem dX0_half_21 : decode cX0_half 21 = .ok (.iadd, 1) := by decide +kernel
theorem dX0_half_22 : decode cX0_half 22 = .ok (.iastore, 1) := by decide +kernel
theorem dX0_half_23 : decode cX0_half 23 = .ok (.aload_n 0, 1) := by decide +kernel
theorem dX0_half_24 : decode cX0_half 24 = .ok (.getfield 26, 3) := by decide +kernel
theorem dX0_half_27 : decode cX0_half 27 = .ok (.iload 4, 2) := by decide +kernel
theorem dX0_half_29 : decode cX0_half 29 = .ok (.aload_n 0, 1) := by decide +kernel
theorem dX0_half_30 : decode cX0_half 30 = .ok (.getfield 26, 3) := by decide +kernel
theorem dX0_half_33 : decode cX0_half 33 = .ok (.iload 4, 2) := by decide +kernel
theorem dX0_half_35 : decode cX0_half 35 = .ok (.iaload, 1) := by decide +kernel
theorem dX0_half_36 : decode cX0_half 36 = .ok (.aload_n 0, 1) := by decide +kernel
theorem dX0_half_37 : decode cX0_half 37 = .ok (.getfield 26, 3) := by decide +kernel
theorem dX0_half_40 : decode cX0_half 40 = .ok (.iload_n 1, 1) := by decide +kernel
theorem dX0_half_41 : decode cX0_half 41 = .ok (.iaload, 1) := by decide +kernel
theorem dX0_half_42 : decode cX0_half 42 = .ok (.ixor, 1) := by decide +kernel
theorem dX0_half_43 : decode cX0_half 43 = .ok (.iload 6, 2) := by decide +kernel
theorem dX0_half_45 : decode cX0_half 45 = .ok (.invokestatic 78, 3) := by decide +kernel
theorem dX0_half_48 : decode cX0_half 48 = .ok (.iastore, 1) := by decide +kernel
theorem dX0_half_49 : decode cX0_half 49 = .ok (.aload_n 0, 1) := by decide +kernel
theorem dX0_half_50 : decode cX0_half 50 = .ok (.getfield 26, 3) := by decide +kernel
theorem dX0_half_53 : decode cX0_half 53 = .ok (.iload_n 3, 1) := by decide +kernel
theorem dX0_half_54 : decode cX0_half 54 = .ok (.dup2, 1) := by decide +kernel
theorem dX0_half_55 : decode cX0_half 55 = .ok (.iaload, 1) := by decide +kernel
theorem dX0_half_56 : decode cX0_half 56 = .ok (.aload_n 0, 1) := by decide +kernel
theorem dX0_half_57 : decode cX0_half 57 = .ok (.getfield 26, 3) := by decide +kernel
theorem dX0_half_60 : decode cX0_half 60 = .ok (.iload 4, 2) := by decide +kernel
theorem dX0_half_62 : decode cX0_half 62 = .ok (.iaload, 1) := by decide +kernel
theorem dX0_half_63 : decode cX0_half 63 = .ok (.iadd, 1) := by decide +kernel
theorem dX0_half_64 : decode cX0_half 64 = .ok (.iastore, 1) := by decide +kernel
theorem dX0_half_65 : decode cX0_half 65 = .ok (.aload_n 0, 1) := by decide +kernel
theorem dX0_half_66 : decode cX0_half 66 = .ok (.getfield 26, 3) := by decide +kernel
theorem dX0_half_69 : decode cX0_half 69 = .ok (.iload_n 2, 1) := by decide +kernel
theorem dX0_half_70 : decode cX0_half 70 = .ok (.aload_n 0, 1) := by decide +kernel
theorem dX0_half_71 : decode cX0_half 71 = .ok (.getfield 26, 3) := by decide +kernel
theorem dX0_half_74 : decode cX0_half 74 = .ok (.iload_n 2, 1) := by decide +kernel
theorem dX0_half_75 : decode cX0_half 75 = .ok (.iaload, 1) := by decide +kernel
theorem dX0_half_76 : decode cX0_half 76 = .ok (.aload_n 0, 1) := by decide +kernel
theorem dX0_half_77 : decode cX0_half 77 = .ok (.getfield 26, 3) := by decide +kernel
theorem dX0_half_80 : decode cX0_half 80 = .ok (.iload_n 3, 1) := by decide +kernel
theorem dX0_half_81 : decode cX0_half 81 = .ok (.iaload, 1) := by decide +kernel
theorem dX0_half_82 : decode cX0_half 82 = .ok (.ixor, 1) := by decide +kernel
theorem dX0_half_83 : decode cX0_half 83 = .ok (.iload 7, 2) := by decide +kernel
theorem dX0_half_85 : decode cX0_half 85 = .ok (.invokestatic 78, 3) := by decide +kernel
theorem dX0_half_88 : decode cX0_half 88 = .ok (.iastore, 1) := by decide +kernel
theorem dX0_half_89 : decode cX0_half 89 = .ok (.return_, 1) := by decide +kernel
theorem dX0_down_0 : decode cX0_down 0 = .ok (.iload_n 0, 1) := by decide +kernel
theorem dX0_down_1 : decode cX0_down 1 = .ok (.iload_n 1, 1) := by decide +kernel
theorem dX0_down_2 : decode cX0_down 2 = .ok (.iushr, 1) := by decide +kernel
theorem dX0_down_3 : decode cX0_down 3 = .ok (.iload_n 0, 1) := by decide +kernel
theorem dX0_down_4 : decode cX0_down 4 = .ok (.bipush 32, 2) := by decide +kernel
theorem dX0_down_6 : decode cX0_down 6 = .ok (.iload_n 1, 1) := by decide +kernel
theorem dX0_down_7 : decode cX0_down 7 = .ok (.isub, 1) := by decide +kernel
theorem dX0_down_8 : decode cX0_down 8 = .ok (.ishl, 1) := by decide +kernel
theorem dX0_down_9 : decode cX0_down 9 = .ok (.ior, 1) := by decide +kernel
theorem dX0_down_10 : decode cX0_down 10 = .ok (.ireturn, 1) := by decide +kernel
theorem dX0_updates_0 : decode cX0_updates 0 = .ok (.aload_n 0, 1) := by decide +kernel
theorem dX0_updates_1 : decode cX0_updates 1 = .ok (.getfield 70, 3) := by decide +kernel
theorem dX0_updates_4 : decode cX0_updates 4 = .ok (.iconst 1, 1) := by decide +kernel
theorem dX0_updates_5 : decode cX0_updates 5 = .ok (.if_icmp .ne 16, 3) := by decide +kernel
theorem dX0_updates_8 : decode cX0_updates 8 = .ok (.iload 5, 2) := by decide +kernel
theorem dX0_updates_10 : decode cX0_updates 10 = .ok (.iconst 1, 1) := by decide +kernel
theorem dX0_updates_11 : decode cX0_updates 11 = .ok (.if_icmp .lt 10, 3) := by decide +kernel
theorem dX0_updates_14 : decode cX0_updates 14 = .ok (.iload 5, 2) := by decide +kernel
theorem dX0_updates_16 : decode cX0_updates 16 = .ok (.bipush 16, 2) := by decide +kernel
theorem dX0_updates_18 : decode cX0_updates 18 = .ok (.if_icmp .le 5, 3) := by decide +kernel
theorem dX0_updates_21 : decode cX0_updates 21 = .ok (.iconst 0, 1) := by decide +kernel
theorem dX0_updates_22 : decode cX0_updates 22 = .ok (.ireturn, 1) := by decide +kernel
theorem dX0_updates_23 : decode cX0_updates 23 = .ok (.iconst 0, 1) := by decide +kernel
theorem dX0_updates_24 : decode cX0_updates 24 = .ok (.istore 6, 2) := by decide +kernel
theorem dX0_updates_26 : decode cX0_updates 26 = .ok (.iload 6, 2) := by decide +kernel
theorem dX0_updates_28 : decode cX0_updates 28 = .ok (.iload 5, 2) := by decide +kernel
theorem dX0_updates_30 : decode cX0_updates 30 = .ok (.if_icmp .ge 66, 3) := by decide +kernel
theorem dX0_updates_33 : decode cX0_updates 33 = .ok (.iload 6, 2) := by decide +kernel
theorem dX0_updates_35 : decode cX0_updates 35 = .ok (.iconst 4, 1) := by decide +kernel
theorem dX0_updates_36 : decode cX0_updates 36 = .ok (.if_icmp .ge 7, 3) := by decide +kernel
theorem dX0_updates_39 : decode cX0_updates 39 = .ok (.iload_n 1, 1) := by decide +kernel
theorem dX0_updates_40 : decode cX0_updates 40 = .ok (.goto 27, 3) := by decide +kernel
theorem dX0_updates_43 : decode cX0_updates 43 = .ok (.iload 6, 2) := by decide +kernel
theorem dX0_updates_45 : decode cX0_updates 45 = .ok (.bipush 8, 2) := by decide +kernel
theorem dX0_updates_47 : decode cX0_updates 47 = .ok (.if_icmp .ge 7, 3) := by decide +kernel
theorem dX0_updates_50 : decode cX0_updates 50 = .ok (.iload_n 2, 1) := by decide +kernel
theorem dX0_updates_51 : decode cX0_updates 51 = .ok (.goto 16, 3) := by decide +kernel
theorem dX0_updates_54 : decode cX0_updates 54 = .ok (.iload 6, 2) := by decide +kernel
theorem dX0_updates_56 : decode cX0_updates 56 = .ok (.bipush 12, 2) := by decide +kernel
theorem dX0_updates_58 : decode cX0_updates 58 = .ok (.if_icmp .ge 7, 3) := by decide +kernel
theorem dX0_updates_61 : decode cX0_updates 61 = .ok (.iload_n 3, 1) := by decide +kernel
theorem dX0_updates_62 : decode cX0_updates 62 = .ok (.goto 5, 3) := by decide +kernel
theorem dX0_updates_65 : decode cX0_updates 65 = .ok (.iload 4, 2) := by decide +kernel
theorem dX0_updates_67 : decode cX0_updates 67 = .ok (.istore 7, 2) := by decide +kernel
theorem dX0_updates_69 : decode cX0_updates 69 = .ok (.aload_n 0, 1) := by decide +kernel
theorem dX0_updates_70 : decode cX0_updates 70 = .ok (.iload 7, 2) := by decide +kernel
theorem dX0_updates_72 : decode cX0_updates 72 = .ok (.bipush 24, 2) := by decide +kernel
theorem dX0_updates_74 : decode cX0_updates 74 = .ok (.bipush 8, 2) := by decide +kernel
theorem dX0_updates_76 : decode cX0_updates 76 = .ok (.iload 6, 2) := by decide +kernel
theorem dX0_updates_78 : decode cX0_updates 78 = .ok (.iconst 4, 1) := by decide +kernel
theorem dX0_updates_79 : decode cX0_updates 79 = .ok (.irem, 1) := by decide +kernel
theorem dX0_updates_80 : decode cX0_updates 80 = .ok (.imul, 1) := by decide +kernel
theorem dX0_updates_81 : decode cX0_updates 81 = .ok (.isub, 1) := by decide +kernel
theorem dX0_updates_82 : decode cX0_updates 82 = .ok (.ishr, 1) := by decide +kernel
theorem dX0_updates_83 : decode cX0_updates 83 = .ok (.sipush 255, 3) := by decide +kernel
theorem dX0_updates_86 : decode cX0_updates 86 = .ok (.iand, 1) := by decide +kernel
theorem dX0_updates_87 : decode cX0_updates 87 = .ok (.invokevirtual 110, 3) := by decide +kernel
theorem dX0_updates_90 : decode cX0_updates 90 = .ok (.iinc 6 1, 3) := by decide +kernel
theorem dX0_updates_93 : decode cX0_updates 93 = .ok (.goto (-67), 3) := by decide +kernel
theorem dX0_updates_96 : decode cX0_updates 96 = .ok (.iconst 1, 1) := by decide +kernel
theorem dX0_updates_97 : decode cX0_updates 97 = .ok (.ireturn, 1) := by decide +kernel
theorem dX0_fill_0 : decode cX0_fill 0 = .ok (.aload_n 0, 1) := by decide +kernel
theorem dX0_fill_1 : decode cX0_fill 1 = .ok (.getfield 70, 3) := by decide +kernel
theorem dX0_fill_4 : decode cX0_fill 4 = .ok (.iconst 1, 1) := by decide +kernel
theorem dX0_fill_5 : decode cX0_fill 5 = .ok (.if_icmp .ne 21, 3) := by decide +kernel
theorem dX0_fill_8 : decode cX0_fill 8 = .ok (.iload_n 1, 1) := by decide +kernel
theorem dX0_fill_9 : decode cX0_fill 9 = .ok (.invokestatic 74, 3) := by decide +kernel
theorem dX0_fill_12 : decode cX0_fill 12 = .ok (.ifCond .eq 14, 3) := by decide +kernel
theorem dX0_fill_15 : decode cX0_fill 15 = .ok (.iload_n 2, 1) := by decide +kernel
theorem dX0_fill_16 : decode cX0_fill 16 = .ok (.ifCond .lt 10, 3) := by decide +kernel
theorem dX0_fill_19 : decode cX0_fill 19 = .ok (.iload_n 2, 1) := by decide +kernel
theorem dX0_fill_20 : decode cX0_fill 20 = .ok (.sipush 10000, 3) := by decide +kernel
theorem dX0_fill_23 : decode cX0_fill 23 = .ok (.if_icmp .le 5, 3) := by decide +kernel
theorem dX0_fill_26 : decode cX0_fill 26 = .ok (.iconst 0, 1) := by decide +kernel
theorem dX0_fill_27 : decode cX0_fill 27 = .ok (.ireturn, 1) := by decide +kernel
theorem dX0_fill_28 : decode cX0_fill 28 = .ok (.iconst 0, 1) := by decide +kernel
theorem dX0_fill_29 : decode cX0_fill 29 = .ok (.istore_n 3, 1) := by decide +kernel
theorem dX0_fill_30 : decode cX0_fill 30 = .ok (.iload_n 3, 1) := by decide +kernel
theorem dX0_fill_31 : decode cX0_fill 31 = .ok (.iload_n 2, 1) := by decide +kernel
theorem dX0_fill_32 : decode cX0_fill 32 = .ok (.if_icmp .ge 14, 3) := by decide +kernel
theorem dX0_fill_35 : decode cX0_fill 35 = .ok (.aload_n 0, 1) := by decide +kernel
theorem dX0_fill_36 : decode cX0_fill 36 = .ok (.iload_n 1, 1) := by decide +kernel
theorem dX0_fill_37 : decode cX0_fill 37 = .ok (.invokevirtual 110, 3) := by decide +kernel
theorem dX0_fill_40 : decode cX0_fill 40 = .ok (.iinc 3 1, 3) := by decide +kernel
theorem dX0_fill_43 : decode cX0_fill 43 = .ok (.goto (-13), 3) := by decide +kernel
theorem dX0_fill_46 : decode cX0_fill 46 = .ok (.iconst 1, 1) := by decide +kernel
theorem dX0_fill_47 : decode cX0_fill 47 = .ok (.ireturn, 1) := by decide +kernel
theorem dX0_finish_0 : decode cX0_finish 0 = .ok (.aload_n 0, 1) := by decide +kernel
theorem dX0_finish_1 : decode cX0_finish 1 = .ok (.getfield 70, 3) := by decide +kernel
theorem dX0_finish_4 : decode cX0_finish 4 = .ok (.iconst 1, 1) := by decide +kernel
theorem dX0_finish_5 : decode cX0_finish 5 = .ok (.if_icmp .eq 5, 3) := by decide +kernel
theorem dX0_finish_8 : decode cX0_finish 8 = .ok (.iconst 0, 1) := by decide +kernel
theorem dX0_finish_9 : decode cX0_finish 9 = .ok (.ireturn, 1) := by decide +kernel
theorem dX0_finish_10 : decode cX0_finish 10 = .ok (.aload_n 0, 1) := by decide +kernel
theorem dX0_finish_11 : decode cX0_finish 11 = .ok (.dup, 1) := by decide +kernel
theorem dX0_finish_12 : decode cX0_finish 12 = .ok (.getfield 86, 3) := by decide +kernel
theorem dX0_finish_15 : decode cX0_finish 15 = .ok (.aload_n 0, 1) := by decide +kernel
theorem dX0_finish_16 : decode cX0_finish 16 = .ok (.getfield 98, 3) := by decide +kernel
theorem dX0_finish_19 : decode cX0_finish 19 = .ok (.i2l, 1) := by decide +kernel
theorem dX0_finish_20 : decode cX0_finish 20 = .ok (.ladd, 1) := by decide +kernel
theorem dX0_finish_21 : decode cX0_finish 21 = .ok (.putfield 86, 3) := by decide +kernel
theorem dX0_finish_24 : decode cX0_finish 24 = .ok (.aload_n 0, 1) := by decide +kernel
theorem dX0_finish_25 : decode cX0_finish 25 = .ok (.getfield 98, 3) := by decide +kernel
theorem dX0_finish_28 : decode cX0_finish 28 = .ok (.istore_n 1, 1) := by decide +kernel
theorem dX0_finish_29 : decode cX0_finish 29 = .ok (.iload_n 1, 1) := by decide +kernel
theorem dX0_finish_30 : decode cX0_finish 30 = .ok (.bipush 64, 2) := by decide +kernel
theorem dX0_finish_32 : decode cX0_finish 32 = .ok (.if_icmp .ge 16, 3) := by decide +kernel
theorem dX0_finish_35 : decode cX0_finish 35 = .ok (.aload_n 0, 1) := by decide +kernel
theorem dX0_finish_36 : decode cX0_finish 36 = .ok (.getfield 29, 3) := by decide +kernel
theorem dX0_finish_39 : decode cX0_finish 39 = .ok (.iload_n 1, 1) := by decide +kernel
theorem dX0_finish_40 : decode cX0_finish 40 = .ok (.iconst 0, 1) := by decide +kernel
theorem dX0_finish_41 : decode cX0_finish 41 = .ok (.bastore, 1) := by decide +kernel
theorem dX0_finish_42 : decode cX0_finish 42 = .ok (.iinc 1 1, 3) := by decide +kernel
theorem dX0_finish_45 : decode cX0_finish 45 = .ok (.goto (-16), 3) := by decide +kernel
theorem dX0_finish_48 : decode cX0_finish 48 = .ok (.aload_n 0, 1) := by decide +kernel
theorem dX0_finish_49 : decode cX0_finish 49 = .ok (.iconst 1, 1) := by decide +kernel
theorem dX0_finish_50 : decode cX0_finish 50 = .ok (.invokevirtual 106, 3) := by decide +kernel
theorem dX0_finish_53 : decode cX0_finish 53 = .ok (.aload_n 0, 1) := by decide +kernel
theorem dX0_finish_54 : decode cX0_finish 54 = .ok (.iconst 2, 1) := by decide +kernel
theorem dX0_finish_55 : decode cX0_finish 55 = .ok (.putfield 70, 3) := by decide +kernel
theorem dX0_finish_58 : decode cX0_finish 58 = .ok (.iconst 1, 1) := by decide +kernel
theorem dX0_finish_59 : decode cX0_finish 59 = .ok (.ireturn, 1) := by decide +kernel
theorem dX0_out_0 : decode cX0_out 0 = .ok (.aload_n 0, 1) := by decide +kernel
theorem dX0_out_1 : decode cX0_out 1 = .ok (.getfield 70, 3) := by decide +kernel
theorem dX0_out_4 : decode cX0_out 4 = .ok (.iconst 2, 1) := by decide +kernel
theorem dX0_out_5 : decode cX0_out 5 = .ok (.if_icmp .ne 15, 3) := by decide +kernel
theorem dX0_out_8 : decode cX0_out 8 = .ok (.iload_n 1, 1) := by decide +kernel
theorem dX0_out_9 : decode cX0_out 9 = .ok (.ifCond .lt 11, 3) := by decide +kernel
theorem dX0_out_12 : decode cX0_out 12 = .ok (.iload_n 1, 1) := by decide +kernel
theorem dX0_out_13 : decode cX0_out 13 = .ok (.aload_n 0, 1) := by decide +kernel
theorem dX0_out_14 : decode cX0_out 14 = .ok (.getfield 95, 3) := by decide +kernel
theorem dX0_out_17 : decode cX0_out 17 = .ok (.if_icmp .lt 7, 3) := by decide +kernel
theorem dX0_out_20 : decode cX0_out 20 = .ok (.iconst (-1), 1) := by decide +kernel
theorem dX0_out_21 : decode cX0_out 21 = .ok (.goto 22, 3) := by decide +kernel
theorem dX0_out_24 : decode cX0_out 24 = .ok (.aload_n 0, 1) := by decide +kernel
theorem dX0_out_25 : decode cX0_out 25 = .ok (.getfield 20, 3) := by decide +kernel
theorem dX0_out_28 : decode cX0_out 28 = .ok (.iload_n 1, 1) := by decide +kernel
theorem dX0_out_29 : decode cX0_out 29 = .ok (.iconst 4, 1) := by decide +kernel
theorem dX0_out_30 : decode cX0_out 30 = .ok (.idiv, 1) := by decide +kernel
theorem dX0_out_31 : decode cX0_out 31 = .ok (.iaload, 1) := by decide +kernel
theorem dX0_out_32 : decode cX0_out 32 = .ok (.bipush 8, 2) := by decide +kernel
theorem dX0_out_34 : decode cX0_out 34 = .ok (.iload_n 1, 1) := by decide +kernel
theorem dX0_out_35 : decode cX0_out 35 = .ok (.iconst 4, 1) := by decide +kernel
theorem dX0_out_36 : decode cX0_out 36 = .ok (.irem, 1) := by decide +kernel
theorem dX0_out_37 : decode cX0_out 37 = .ok (.imul, 1) := by decide +kernel
theorem dX0_out_38 : decode cX0_out 38 = .ok (.iushr, 1) := by decide +kernel
theorem dX0_out_39 : decode cX0_out 39 = .ok (.sipush 255, 3) := by decide +kernel
theorem dX0_out_42 : decode cX0_out 42 = .ok (.iand, 1) := by decide +kernel
theorem dX0_out_43 : decode cX0_out 43 = .ok (.ireturn, 1) := by decide +kernel
theorem dX0_length_0 : decode cX0_length 0 = .ok (.aload_n 0, 1) := by decide +kernel
theorem dX0_length_1 : decode cX0_length 1 = .ok (.getfield 70, 3) := by decide +kernel
theorem dX0_length_4 : decode cX0_length 4 = .ok (.ifCond .ne 7, 3) := by decide +kernel
theorem dX0_length_7 : decode cX0_length 7 = .ok (.iconst (-1), 1) := by decide +kernel
theorem dX0_length_8 : decode cX0_length 8 = .ok (.goto 8, 3) := by decide +kernel
theorem dX0_length_11 : decode cX0_length 11 = .ok (.aload_n 0, 1) := by decide +kernel
theorem dX0_length_12 : decode cX0_length 12 = .ok (.getfield 101, 3) := by decide +kernel
theorem dX0_length_15 : decode cX0_length 15 = .ok (.l2i, 1) := by decide +kernel
theorem dX0_length_16 : decode cX0_length 16 = .ok (.ireturn, 1) := by decide +kernel
theorem dX0_word_0 : decode cX0_word 0 = .ok (.aload_n 0, 1) := by decide +kernel
theorem dX0_word_1 : decode cX0_word 1 = .ok (.getfield 70, 3) := by decide +kernel
theorem dX0_word_4 : decode cX0_word 4 = .ok (.ifCond .eq 13, 3) := by decide +kernel
theorem dX0_word_7 : decode cX0_word 7 = .ok (.iload_n 1, 1) := by decide +kernel
theorem dX0_word_8 : decode cX0_word 8 = .ok (.ifCond .lt 9, 3) := by decide +kernel
theorem dX0_word_11 : decode cX0_word 11 = .ok (.iload_n 1, 1) := by decide +kernel
theorem dX0_word_12 : decode cX0_word 12 = .ok (.bipush 7, 2) := by decide +kernel
theorem dX0_word_14 : decode cX0_word 14 = .ok (.if_icmp .le 7, 3) := by decide +kernel
theorem dX0_word_17 : decode cX0_word 17 = .ok (.iconst 0, 1) := by decide +kernel
theorem dX0_word_18 : decode cX0_word 18 = .ok (.goto 9, 3) := by decide +kernel
theorem dX0_word_21 : decode cX0_word 21 = .ok (.aload_n 0, 1) := by decide +kernel
theorem dX0_word_22 : decode cX0_word 22 = .ok (.getfield 20, 3) := by decide +kernel
theorem dX0_word_25 : decode cX0_word 25 = .ok (.iload_n 1, 1) := by decide +kernel
theorem dX0_word_26 : decode cX0_word 26 = .ok (.iaload, 1) := by decide +kernel
theorem dX0_word_27 : decode cX0_word 27 = .ok (.ireturn, 1) := by decide +kernel
end
section
set_option maxRecDepth 100000
theorem dX1_init_2_0 : decode cX1_init_2 0 = .ok (.aload_n 0, 1) := by decide +kernel
theorem dX1_init_2_1 : decode cX1_init_2 1 = .ok (.iconst 1, 1) := by decide +kernel
theorem dX1_init_2_2 : decode cX1_init_2 2 = .ok (.putfield 28, 3) := by decide +kernel
theorem dX1_init_2_5 : decode cX1_init_2 5 = .ok (.aload_n 0, 1) := by decide +kernel
theorem dX1_init_2_6 : decode cX1_init_2 6 = .ok (.iconst 0, 1) := by decide +kernel
theorem dX1_init_2_7 : decode cX1_init_2 7 = .ok (.putfield 32, 3) := by decide +kernel
theorem dX1_init_2_10 : decode cX1_init_2 10 = .ok (.aload_n 0, 1) := by decide +kernel
theorem dX1_init_2_11 : decode cX1_init_2 11 = .ok (.iconst 0, 1) := by decide +kernel
theorem dX1_init_2_12 : decode cX1_init_2 12 = .ok (.putfield 35, 3) := by decide +kernel
theorem dX1_init_2_15 : decode cX1_init_2 15 = .ok (.iconst 0, 1) := by decide +kernel
theorem dX1_init_2_16 : decode cX1_init_2 16 = .ok (.istore_n 1, 1) := by decide +kernel
theorem dX1_init_2_17 : decode cX1_init_2 17 = .ok (.iload_n 1, 1) := by decide +kernel
theorem dX1_init_2_18 : decode cX1_init_2 18 = .ok (.bipush 32, 2) := by decide +kernel
theorem dX1_init_2_20 : decode cX1_init_2 20 = .ok (.if_icmp .ge 16, 3) := by decide +kernel
theorem dX1_init_2_23 : decode cX1_init_2 23 = .ok (.aload_n 0, 1) := by decide +kernel
theorem dX1_init_2_24 : decode cX1_init_2 24 = .ok (.getfield 7, 3) := by decide +kernel
theorem dX1_init_2_27 : decode cX1_init_2 27 = .ok (.iload_n 1, 1) := by decide +kernel
theorem dX1_init_2_28 : decode cX1_init_2 28 = .ok (.iconst 0, 1) := by decide +kernel
theorem dX1_init_2_29 : decode cX1_init_2 29 = .ok (.iastore, 1) := by decide +kernel
theorem dX1_init_2_30 : decode cX1_init_2 30 = .ok (.iinc 1 1, 3) := by decide +kernel
theorem dX1_init_2_33 : decode cX1_init_2 33 = .ok (.goto (-16), 3) := by decide +kernel
theorem dX1_init_2_36 : decode cX1_init_2 36 = .ok (.return_, 1) := by decide +kernel
theorem dX1_setKeyByte_0 : decode cX1_setKeyByte 0 = .ok (.iload_n 1, 1) := by decide +kernel
theorem dX1_setKeyByte_1 : decode cX1_setKeyByte 1 = .ok (.ifCond .lt 31, 3) := by decide +kernel
theorem dX1_setKeyByte_4 : decode cX1_setKeyByte 4 = .ok (.iload_n 1, 1) := by decide +kernel
theorem dX1_setKeyByte_5 : decode cX1_setKeyByte 5 = .ok (.bipush 32, 2) := by decide +kernel
theorem dX1_setKeyByte_7 : decode cX1_setKeyByte 7 = .ok (.if_icmp .ge 25, 3) := by decide +kernel
theorem dX1_setKeyByte_10 : decode cX1_setKeyByte 10 = .ok (.iload_n 2, 1) := by decide +kernel
theorem dX1_setKeyByte_11 : decode cX1_setKeyByte 11 = .ok (.ifCond .lt 21, 3) := by decide +kernel
theorem dX1_setKeyByte_14 : decode cX1_setKeyByte 14 = .ok (.iload_n 2, 1) := by decide +kernel
theorem dX1_setKeyByte_15 : decode cX1_setKeyByte 15 = .ok (.sipush 256, 3) := by decide +kernel
theorem dX1_setKeyByte_18 : decode cX1_setKeyByte 18 = .ok (.if_icmp .ge 14, 3) := by decide +kernel
theorem dX1_setKeyByte_21 : decode cX1_setKeyByte 21 = .ok (.aload_n 0, 1) := by decide +kernel
theorem dX1_setKeyByte_22 : decode cX1_setKeyByte 22 = .ok (.getfield 32, 3) := by decide +kernel
theorem dX1_setKeyByte_25 : decode cX1_setKeyByte 25 = .ok (.ifCond .ne 7, 3) := by decide +kernel
theorem dX1_setKeyByte_28 : decode cX1_setKeyByte 28 = .ok (.iconst 1, 1) := by decide +kernel
theorem dX1_setKeyByte_29 : decode cX1_setKeyByte 29 = .ok (.goto 4, 3) := by decide +kernel
theorem dX1_setKeyByte_32 : decode cX1_setKeyByte 32 = .ok (.iconst 0, 1) := by decide +kernel
theorem dX1_setKeyByte_33 : decode cX1_setKeyByte 33 = .ok (.istore_n 3, 1) := by decide +kernel
theorem dX1_setKeyByte_34 : decode cX1_setKeyByte 34 = .ok (.iload_n 3, 1) := by decide +kernel
theorem dX1_setKeyByte_35 : decode cX1_setKeyByte 35 = .ok (.ifCond .eq 10, 3) := by decide +kernel
theorem dX1_setKeyByte_38 : decode cX1_setKeyByte 38 = .ok (.aload_n 0, 1) := by decide +kernel
theorem dX1_setKeyByte_39 : decode cX1_setKeyByte 39 = .ok (.getfield 7, 3) := by decide +kernel
theorem dX1_setKeyByte_42 : decode cX1_setKeyByte 42 = .ok (.iload_n 1, 1) := by decide +kernel
theorem dX1_setKeyByte_43 : decode cX1_setKeyByte 43 = .ok (.iload_n 2, 1) := by decide +kernel
theorem dX1_setKeyByte_44 : decode cX1_setKeyByte 44 = .ok (.iastore, 1) := by decide +kernel
theorem dX1_setKeyByte_45 : decode cX1_setKeyByte 45 = .ok (.iload_n 3, 1) := by decide +kernel
theorem dX1_setKeyByte_46 : decode cX1_setKeyByte 46 = .ok (.ireturn, 1) := by decide +kernel
theorem dX1_start_0 : decode cX1_start 0 = .ok (.aload_n 0, 1) := by decide +kernel
theorem dX1_start_1 : decode cX1_start 1 = .ok (.getfield 28, 3) := by decide +kernel
theorem dX1_start_4 : decode cX1_start 4 = .ok (.ifCond .eq 24, 3) := by decide +kernel
theorem dX1_start_7 : decode cX1_start 7 = .ok (.iload_n 1, 1) := by decide +kernel
theorem dX1_start_8 : decode cX1_start 8 = .ok (.iconst 1, 1) := by decide +kernel
theorem dX1_start_9 : decode cX1_start 9 = .ok (.if_icmp .lt 19, 3) := by decide +kernel
theorem dX1_start_12 : decode cX1_start 12 = .ok (.iload_n 1, 1) := by decide +kernel
theorem dX1_start_13 : decode cX1_start 13 = .ok (.bipush 32, 2) := by decide +kernel
theorem dX1_start_15 : decode cX1_start 15 = .ok (.if_icmp .gt 13, 3) := by decide +kernel
theorem dX1_start_18 : decode cX1_start 18 = .ok (.iload_n 2, 1) := by decide +kernel
theorem dX1_start_19 : decode cX1_start 19 = .ok (.ifCond .lt 9, 3) := by decide +kernel
theorem dX1_start_22 : decode cX1_start 22 = .ok (.iload_n 2, 1) := by decide +kernel
theorem dX1_start_23 : decode cX1_start 23 = .ok (.bipush 32, 2) := by decide +kernel
theorem dX1_start_25 : decode cX1_start 25 = .ok (.if_icmp .le 5, 3) := by decide +kernel
theorem dX1_start_28 : decode cX1_start 28 = .ok (.iconst 0, 1) := by decide +kernel
theorem dX1_start_29 : decode cX1_start 29 = .ok (.ireturn, 1) := by decide +kernel
theorem dX1_start_30 : decode cX1_start 30 = .ok (.iconst 0, 1) := by decide +kernel
theorem dX1_start_31 : decode cX1_start 31 = .ok (.istore_n 3, 1) := by decide +kernel
theorem dX1_start_32 : decode cX1_start 32 = .ok (.iload_n 3, 1) := by decide +kernel
theorem dX1_start_33 : decode cX1_start 33 = .ok (.bipush 8, 2) := by decide +kernel
theorem dX1_start_35 : decode cX1_start 35 = .ok (.if_icmp .ge 19, 3) := by decide +kernel
theorem dX1_start_38 : decode cX1_start 38 = .ok (.aload_n 0, 1) := by decide +kernel
theorem dX1_start_39 : decode cX1_start 39 = .ok (.getfield 13, 3) := by decide +kernel
theorem dX1_start_42 : decode cX1_start 42 = .ok (.iload_n 3, 1) := by decide +kernel
theorem dX1_start_43 : decode cX1_start 43 = .ok (.iload_n 3, 1) := by decide +kernel
theorem dX1_start_44 : decode cX1_start 44 = .ok (.invokestatic 46, 3) := by decide +kernel
theorem dX1_start_47 : decode cX1_start 47 = .ok (.iastore, 1) := by decide +kernel
theorem dX1_start_48 : decode cX1_start 48 = .ok (.iinc 3 1, 3) := by decide +kernel
theorem dX1_start_51 : decode cX1_start 51 = .ok (.goto (-19), 3) := by decide +kernel
theorem dX1_start_54 : decode cX1_start 54 = .ok (.aload_n 0, 1) := by decide +kernel
theorem dX1_start_55 : decode cX1_start 55 = .ok (.getfield 13, 3) := by decide +kernel
theorem dX1_start_58 : decode cX1_start 58 = .ok (.iconst 0, 1) := by decide +kernel
theorem dX1_start_59 : decode cX1_start 59 = .ok (.aload_n 0, 1) := by decide +kernel
theorem dX1_start_60 : decode cX1_start 60 = .ok (.getfield 13, 3) := by decide +kernel
theorem dX1_start_63 : decode cX1_start 63 = .ok (.iconst 0, 1) := by decide +kernel
theorem dX1_start_64 : decode cX1_start 64 = .ok (.iaload, 1) := by decide +kernel
theorem dX1_start_65 : decode cX1_start 65 = .ok (.ldc 50, 2) := by decide +kernel
theorem dX1_start_67 : decode cX1_start 67 = .ok (.ixor, 1) := by decide +kernel
theorem dX1_start_68 : decode cX1_start 68 = .ok (.iload_n 2, 1) := by decide +kernel
theorem dX1_start_69 : decode cX1_start 69 = .ok (.sipush 256, 3) := by decide +kernel
theorem dX1_start_72 : decode cX1_start 72 = .ok (.imul, 1) := by decide +kernel
theorem dX1_start_73 : decode cX1_start 73 = .ok (.ixor, 1) := by decide +kernel
theorem dX1_start_74 : decode cX1_start 74 = .ok (.iload_n 1, 1) := by decide +kernel
theorem dX1_start_75 : decode cX1_start 75 = .ok (.ixor, 1) := by decide +kernel
theorem dX1_start_76 : decode cX1_start 76 = .ok (.iastore, 1) := by decide +kernel
theorem dX1_start_77 : decode cX1_start 77 = .ok (.aload_n 0, 1) := by decide +kernel
theorem dX1_start_78 : decode cX1_start 78 = .ok (.iload_n 1, 1) := by decide +kernel
theorem dX1_start_79 : decode cX1_start 79 = .ok (.putfield 51, 3) := by decide +kernel
theorem dX1_start_82 : decode cX1_start 82 = .ok (.aload_n 0, 1) := by decide +kernel
theorem dX1_start_83 : decode cX1_start 83 = .ok (.iconst 0, 1) := by decide +kernel
theorem dX1_start_84 : decode cX1_start 84 = .ok (.putfield 55, 3) := by decide +kernel
theorem dX1_start_87 : decode cX1_start 87 = .ok (.aload_n 0, 1) := by decide +kernel
theorem dX1_start_88 : decode cX1_start 88 = .ok (.lconst 0, 1) := by decide +kernel
theorem dX1_start_89 : decode cX1_start 89 = .ok (.putfield 58, 3) := by decide +kernel
theorem dX1_start_92 : decode cX1_start 92 = .ok (.aload_n 0, 1) := by decide +kernel
theorem dX1_start_93 : decode cX1_start 93 = .ok (.iconst 0, 1) := by decide +kernel
theorem dX1_start_94 : decode cX1_start 94 = .ok (.putfield 62, 3) := by decide +kernel
theorem dX1_start_97 : decode cX1_start 97 = .ok (.aload_n 0, 1) := by decide +kernel
theorem dX1_start_98 : decode cX1_start 98 = .ok (.iconst 1, 1) := by decide +kernel
theorem dX1_start_99 : decode cX1_start 99 = .ok (.putfield 32, 3) := by decide +kernel
theorem dX1_start_102 : decode cX1_start 102 = .ok (.aload_n 0, 1) := by decide +kernel
theorem dX1_start_103 : decode cX1_start 103 = .ok (.iconst 0, 1) := by decide +kernel
theorem dX1_start_104 : decode cX1_start 104 = .ok (.putfield 35, 3) := by decide +kernel
theorem dX1_start_107 : decode cX1_start 107 = .ok (.iconst 0, 1) := by decide +kernel
theorem dX1_start_108 : decode cX1_start 108 = .ok (.istore_n 3, 1) := by decide +kernel
theorem dX1_start_109 : decode cX1_start 109 = .ok (.iload_n 3, 1) := by decide +kernel
theorem dX1_start_110 : decode cX1_start 110 = .ok (.bipush 64, 2) := by decide +kernel
theorem dX1_start_112 : decode cX1_start 112 = .ok (.if_icmp .ge 32, 3) := by decide +kernel
theorem dX1_start_115 : decode cX1_start 115 = .ok (.iload_n 2, 1) := by decide +kernel
theorem dX1_start_116 : decode cX1_start 116 = .ok (.ifCond .le 28, 3) := by decide +kernel
theorem dX1_start_119 : decode cX1_start 119 = .ok (.aload_n 0, 1) := by decide +kernel
theorem dX1_start_120 : decode cX1_start 120 = .ok (.iload_n 3, 1) := by decide +kernel
theorem dX1_start_121 : decode cX1_start 121 = .ok (.iload_n 2, 1) := by decide +kernel
theorem dX1_start_122 : decode cX1_start 122 = .ok (.if_icmp .ge 12, 3) := by decide +kernel
theorem dX1_start_125 : decode cX1_start 125 = .ok (.aload_n 0, 1) := by decide +kernel
theorem dX1_start_126 : decode cX1_start 126 = .ok (.getfield 7, 3) := by decide +kernel
theorem dX1_start_129 : decode cX1_start 129 = .ok (.iload_n 3, 1) := by decide +kernel
theorem dX1_start_130 : decode cX1_start 130 = .ok (.iaload, 1) := by decide +kernel
theorem dX1_start_131 : decode cX1_start 131 = .ok (.goto 4, 3) := by decide +kernel
theorem dX1_start_134 : decode cX1_start 134 = .ok (.iconst 0, 1) := by decide +kernel
theorem dX1_start_135 : decode cX1_start 135 = .ok (.invokevirtual 65, 3) := by decide +kernel
theorem dX1_start_138 : decode cX1_start 138 = .ok (.iinc 3 1, 3) := by decide +kernel
theorem dX1_start_141 : decode cX1_start 141 = .ok (.goto (-32), 3) := by decide +kernel
theorem dX1_start_144 : decode cX1_start 144 = .ok (.iconst 1, 1) := by decide +kernel
theorem dX1_start_145 : decode cX1_start 145 = .ok (.ireturn, 1) := by decide +kernel
theorem dX1_first_0 : decode cX1_first 0 = .ok (.iload_n 0, 1) := by decide +kernel
theorem dX1_first_1 : decode cX1_first 1 = .ok (.tableswitch 64 0 6 #[43, 46, 49, 52, 55, 58, 61], 43) := by decide +kernel
theorem dX1_first_44 : decode cX1_first 44 = .ok (.ldc 38, 2) := by decide +kernel
theorem dX1_first_46 : decode cX1_first 46 = .ok (.ireturn, 1) := by decide +kernel
theorem dX1_first_47 : decode cX1_first 47 = .ok (.ldc 39, 2) := by decide +kernel
theorem dX1_first_49 : decode cX1_first 49 = .ok (.ireturn, 1) := by decide +kernel
theorem dX1_first_50 : decode cX1_first 50 = .ok (.ldc 40, 2) := by decide +kernel
theorem dX1_first_52 : decode cX1_first 52 = .ok (.ireturn, 1) := by decide +kernel
theorem dX1_first_53 : decode cX1_first 53 = .ok (.ldc 41, 2) := by decide +kernel
theorem dX1_first_55 : decode cX1_first 55 = .ok (.ireturn, 1) := by decide +kernel
theorem dX1_first_56 : decode cX1_first 56 = .ok (.ldc 42, 2) := by decide +kernel
theorem dX1_first_58 : decode cX1_first 58 = .ok (.ireturn, 1) := by decide +kernel
theorem dX1_first_59 : decode cX1_first 59 = .ok (.ldc 43, 2) := by decide +kernel
theorem dX1_first_61 : decode cX1_first 61 = .ok (.ireturn, 1) := by decide +kernel
theorem dX1_first_62 : decode cX1_first 62 = .ok (.ldc 44, 2) := by decide +kernel
theorem dX1_first_64 : decode cX1_first 64 = .ok (.ireturn, 1) := by decide +kernel
theorem dX1_first_65 : decode cX1_first 65 = .ok (.ldc 45, 2) := by decide +kernel
theorem dX1_first_67 : decode cX1_first 67 = .ok (.ireturn, 1) := by decide +kernel
theorem dX1_take_0 : decode cX1_take 0 = .ok (.aload_n 0, 1) := by decide +kernel
theorem dX1_take_1 : decode cX1_take 1 = .ok (.getfield 55, 3) := by decide +kernel
theorem dX1_take_4 : decode cX1_take 4 = .ok (.bipush 64, 2) := by decide +kernel
theorem dX1_take_6 : decode cX1_take 6 = .ok (.if_icmp .ne 29, 3) := by decide +kernel
theorem dX1_take_9 : decode cX1_take 9 = .ok (.aload_n 0, 1) := by decide +kernel
theorem dX1_take_10 : decode cX1_take 10 = .ok (.aload_n 0, 1) := by decide +kernel
theorem dX1_take_11 : decode cX1_take 11 = .ok (.getfield 58, 3) := by decide +kernel
theorem dX1_take_14 : decode cX1_take 14 = .ok (.ldc2_w 69, 3) := by decide +kernel
theorem dX1_take_17 : decode cX1_take 17 = .ok (.ladd, 1) := by decide +kernel
theorem dX1_take_18 : decode cX1_take 18 = .ok (.putfield 58, 3) := by decide +kernel
theorem dX1_take_21 : decode cX1_take 21 = .ok (.aload_n 0, 1) := by decide +kernel
theorem dX1_take_22 : decode cX1_take 22 = .ok (.aload_n 0, 1) := by decide +kernel
theorem dX1_take_23 : decode cX1_take 23 = .ok (.getfield 58, 3) := by decide +kernel
theorem dX1_take_26 : decode cX1_take 26 = .ok (.iconst 0, 1) := by decide +kernel
theorem dX1_take_27 : decode cX1_take 27 = .ok (.invokevirtual 71, 3) := by decide +kernel
theorem dX1_take_30 : decode cX1_take 30 = .ok (.aload_n 0, 1) := by decide +kernel
theorem dX1_take_31 : decode cX1_take 31 = .ok (.iconst 0, 1) := by decide +kernel
theorem dX1_take_32 : decode cX1_take 32 = .ok (.putfield 55, 3) := by decide +kernel
theorem dX1_take_35 : decode cX1_take 35 = .ok (.aload_n 0, 1) := by decide +kernel
theorem dX1_take_36 : decode cX1_take 36 = .ok (.getfield 22, 3) := by decide +kernel
theorem dX1_take_39 : decode cX1_take 39 = .ok (.aload_n 0, 1) := by decide +kernel
theorem dX1_take_40 : decode cX1_take 40 = .ok (.getfield 55, 3) := by decide +kernel
theorem dX1_take_43 : decode cX1_take 43 = .ok (.iload_n 1, 1) := by decide +kernel
theorem dX1_take_44 : decode cX1_take 44 = .ok (.iastore, 1) := by decide +kernel
theorem dX1_take_45 : decode cX1_take 45 = .ok (.aload_n 0, 1) := by decide +kernel
theorem dX1_take_46 : decode cX1_take 46 = .ok (.dup, 1) := by decide +kernel
theorem dX1_take_47 : decode cX1_take 47 = .ok (.getfield 55, 3) := by decide +kernel
theorem dX1_take_50 : decode cX1_take 50 = .ok (.iconst 1, 1) := by decide +kernel
theorem dX1_take_51 : decode cX1_take 51 = .ok (.iadd, 1) := by decide +kernel
theorem dX1_take_52 : decode cX1_take 52 = .ok (.putfield 55, 3) := by decide +kernel
theorem dX1_take_55 : decode cX1_take 55 = .ok (.return_, 1) := by decide +kernel
theorem dX1_mix_0 : decode cX1_mix 0 = .ok (.iconst 0, 1) := by decide +kernel
theorem dX1_mix_1 : decode cX1_mix 1 = .ok (.istore 4, 2) := by decide +kernel
theorem dX1_mix_3 : decode cX1_mix 3 = .ok (.iload 4, 2) := by decide +kernel
theorem dX1_mix_5 : decode cX1_mix 5 = .ok (.bipush 16, 2) := by decide +kernel
theorem dX1_mix_7 : decode cX1_mix 7 = .ok (.if_icmp .ge 102, 3) := by decide +kernel
theorem dX1_mix_10 : decode cX1_mix 10 = .ok (.aload_n 0, 1) := by decide +kernel
theorem dX1_mix_11 : decode cX1_mix 11 = .ok (.getfield 19, 3) := by decide +kernel
theorem dX1_mix_14 : decode cX1_mix 14 = .ok (.iload 4, 2) := by decide +kernel
theorem dX1_mix_16 : decode cX1_mix 16 = .ok (.aload_n 0, 1) := by decide +kernel
theorem dX1_mix_17 : decode cX1_mix 17 = .ok (.getfield 22, 3) := by decide +kernel
theorem dX1_mix_20 : decode cX1_mix 20 = .ok (.iconst 4, 1) := by decide +kernel
theorem dX1_mix_21 : decode cX1_mix 21 = .ok (.iload 4, 2) := by decide +kernel
theorem dX1_mix_23 : decode cX1_mix 23 = .ok (.imul, 1) := by decide +kernel
theorem dX1_mix_24 : decode cX1_mix 24 = .ok (.iaload, 1) := by decide +kernel
theorem dX1_mix_25 : decode cX1_mix 25 = .ok (.aload_n 0, 1) := by decide +kernel
theorem dX1_mix_26 : decode cX1_mix 26 = .ok (.getfield 22, 3) := by decide +kernel
theorem dX1_mix_29 : decode cX1_mix 29 = .ok (.iconst 4, 1) := by decide +kernel
theorem dX1_mix_30 : decode cX1_mix 30 = .ok (.iload 4, 2) := by decide +kernel
theorem dX1_mix_32 : decode cX1_mix 32 = .ok (.imul, 1) := by decide +kernel
theorem dX1_mix_33 : decode cX1_mix 33 = .ok (.iconst 1, 1) := by decide +kernel
theorem dX1_mix_34 : decode cX1_mix 34 = .ok (.iadd, 1) := by decide +kernel
theorem dX1_mix_35 : decode cX1_mix 35 = .ok (.iaload, 1) := by decide +kernel
theorem dX1_mix_36 : decode cX1_mix 36 = .ok (.bipush 8, 2) := by decide +kernel
theorem dX1_mix_38 : decode cX1_mix 38 = .ok (.ishl, 1) := by decide +kernel
theorem dX1_mix_39 : decode cX1_mix 39 = .ok (.ior, 1) := by decide +kernel
theorem dX1_mix_40 : decode cX1_mix 40 = .ok (.aload_n 0, 1) := by decide +kernel
theorem dX1_mix_41 : decode cX1_mix 41 = .ok (.getfield 22, 3) := by decide +kernel
theorem dX1_mix_44 : decode cX1_mix 44 = .ok (.iconst 4, 1) := by decide +kernel
theorem dX1_mix_45 : decode cX1_mix 45 = .ok (.iload 4, 2) := by decide +kernel
theorem dX1_mix_47 : decode cX1_mix 47 = .ok (.imul, 1) := by decide +kernel
theorem dX1_mix_48 : decode cX1_mix 48 = .ok (.iconst 2, 1) := by decide +kernel
theorem dX1_mix_49 : decode cX1_mix 49 = .ok (.iadd, 1) := by decide +kernel
theorem dX1_mix_50 : decode cX1_mix 50 = .ok (.iaload, 1) := by decide +kernel
theorem dX1_mix_51 : decode cX1_mix 51 = .ok (.bipush 16, 2) := by decide +kernel
theorem dX1_mix_53 : decode cX1_mix 53 = .ok (.ishl, 1) := by decide +kernel
theorem dX1_mix_54 : decode cX1_mix 54 = .ok (.ior, 1) := by decide +kernel
theorem dX1_mix_55 : decode cX1_mix 55 = .ok (.aload_n 0, 1) := by decide +kernel
theorem dX1_mix_56 : decode cX1_mix 56 = .ok (.getfield 22, 3) := by decide +kernel
theorem dX1_mix_59 : decode cX1_mix 59 = .ok (.iconst 4, 1) := by decide +kernel
theorem dX1_mix_60 : decode cX1_mix 60 = .ok (.iload 4, 2) := by decide +kernel
theorem dX1_mix_62 : decode cX1_mix 62 = .ok (.imul, 1) := by decide +kernel
theorem dX1_mix_63 : decode cX1_mix 63 = .ok (.iconst 3, 1) := by decide +kernel
theorem dX1_mix_64 : decode cX1_mix 64 = .ok (.iadd, 1) := by decide +kernel
theorem dX1_mix_65 : decode cX1_mix 65 = .ok (.iaload, 1) := by decide +kernel
theorem dX1_mix_66 : decode cX1_mix 66 = .ok (.bipush 24, 2) := by decide +kernel
theorem dX1_mix_68 : decode cX1_mix 68 = .ok (.ishl, 1) := by decide +kernel
theorem dX1_mix_69 : decode cX1_mix 69 = .ok (.ior, 1) := by decide +kernel
theorem dX1_mix_70 : decode cX1_mix 70 = .ok (.iastore, 1) := by decide +kernel
theorem dX1_mix_71 : decode cX1_mix 71 = .ok (.aload_n 0, 1) := by decide +kernel
theorem dX1_mix_72 : decode cX1_mix 72 = .ok (.getfield 16, 3) := by decide +kernel
theorem dX1_mix_75 : decode cX1_mix 75 = .ok (.iload 4, 2) := by decide +kernel
theorem dX1_mix_77 : decode cX1_mix 77 = .ok (.iload 4, 2) := by decide +kernel
theorem dX1_mix_79 : decode cX1_mix 79 = .ok (.bipush 8, 2) := by decide +kernel
theorem dX1_mix_81 : decode cX1_mix 81 = .ok (.if_icmp .ge 13, 3) := by decide +kernel
theorem dX1_mix_84 : decode cX1_mix 84 = .ok (.aload_n 0, 1) := by decide +kernel
theorem dX1_mix_85 : decode cX1_mix 85 = .ok (.getfield 13, 3) := by decide +kernel
theorem dX1_mix_88 : decode cX1_mix 88 = .ok (.iload 4, 2) := by decide +kernel
theorem dX1_mix_90 : decode cX1_mix 90 = .ok (.iaload, 1) := by decide +kernel
theorem dX1_mix_91 : decode cX1_mix 91 = .ok (.goto 11, 3) := by decide +kernel
theorem dX1_mix_94 : decode cX1_mix 94 = .ok (.iload 4, 2) := by decide +kernel
theorem dX1_mix_96 : decode cX1_mix 96 = .ok (.bipush 8, 2) := by decide +kernel
theorem dX1_mix_98 : decode cX1_mix 98 = .ok (.isub, 1) := by decide +kernel
theorem dX1_mix_99 : decode cX1_mix 99 = .ok (.invokestatic 46, 3) := by decide +kernel
theorem dX1_mix_102 : decode cX1_mix 102 = .ok (.iastore, 1) := by decide +kernel
theorem dX1_mix_103 : decode cX1_mix 103 = .ok (.iinc 4 1, 3) := by decide +kernel
theorem dX1_mix_106 : decode cX1_mix 106 = .ok (.goto (-103), 3) := by decide +kernel
theorem dX1_mix_109 : decode cX1_mix 109 = .ok (.aload_n 0, 1) := by decide +kernel
theorem dX1_mix_110 : decode cX1_mix 110 = .ok (.getfield 16, 3) := by decide +kernel
theorem dX1_mix_113 : decode cX1_mix 113 = .ok (.bipush 12, 2) := by decide +kernel
theorem dX1_mix_115 : decode cX1_mix 115 = .ok (.aload_n 0, 1) := by decide +kernel
theorem dX1_mix_116 : decode cX1_mix 116 = .ok (.getfield 16, 3) := by decide +kernel
theorem dX1_mix_119 : decode cX1_mix 119 = .ok (.bipush 12, 2) := by decide +kernel
theorem dX1_mix_121 : decode cX1_mix 121 = .ok (.iaload, 1) := by decide +kernel
theorem dX1_mix_122 : decode cX1_mix 122 = .ok (.lload_n 1, 1) := by decide +kernel
theorem dX1_mix_123 : decode cX1_mix 123 = .ok (.l2i, 1) := by decide +kernel
theorem dX1_mix_124 : decode cX1_mix 124 = .ok (.ixor, 1) := by decide +kernel
theorem dX1_mix_125 : decode cX1_mix 125 = .ok (.iastore, 1) := by decide +kernel
theorem dX1_mix_126 : decode cX1_mix 126 = .ok (.aload_n 0, 1) := by decide +kernel
theorem dX1_mix_127 : decode cX1_mix 127 = .ok (.getfield 16, 3) := by decide +kernel
theorem dX1_mix_130 : decode cX1_mix 130 = .ok (.bipush 13, 2) := by decide +kernel
theorem dX1_mix_132 : decode cX1_mix 132 = .ok (.aload_n 0, 1) := by decide +kernel
theorem dX1_mix_133 : decode cX1_mix 133 = .ok (.getfield 16, 3) := by decide +kernel
theorem dX1_mix_136 : decode cX1_mix 136 = .ok (.bipush 13, 2) := by decide +kernel
theorem dX1_mix_138 : decode cX1_mix 138 = .ok (.iaload, 1) := by decide +kernel
theorem dX1_mix_139 : decode cX1_mix 139 = .ok (.lload_n 1, 1) := by decide +kernel
theorem dX1_mix_140 : decode cX1_mix 140 = .ok (.bipush 32, 2) := by decide +kernel
theorem dX1_mix_142 : decode cX1_mix 142 = .ok (.lushr, 1) := by decide +kernel
theorem dX1_mix_143 : decode cX1_mix 143 = .ok (.l2i, 1) := by decide +kernel
theorem dX1_mix_144 : decode cX1_mix 144 = .ok (.ixor, 1) := by decide +kernel
theorem dX1_mix_145 : decode cX1_mix 145 = .ok (.iastore, 1) := by decide +kernel
theorem dX1_mix_146 : decode cX1_mix 146 = .ok (.aload_n 0, 1) := by decide +kernel
theorem dX1_mix_147 : decode cX1_mix 147 = .ok (.getfield 16, 3) := by decide +kernel
theorem dX1_mix_150 : decode cX1_mix 150 = .ok (.bipush 14, 2) := by decide +kernel
theorem dX1_mix_152 : decode cX1_mix 152 = .ok (.iload_n 3, 1) := by decide +kernel
theorem dX1_mix_153 : decode cX1_mix 153 = .ok (.ifCond .eq 15, 3) := by decide +kernel
theorem dX1_mix_156 : decode cX1_mix 156 = .ok (.aload_n 0, 1) := by decide +kernel
theorem dX1_mix_157 : decode cX1_mix 157 = .ok (.getfield 16, 3) := by decide +kernel
theorem dX1_mix_160 : decode cX1_mix 160 = .ok (.bipush 14, 2) := by decide +kernel
theorem dX1_mix_162 : decode cX1_mix 162 = .ok (.iaload, 1) := by decide +kernel
theorem dX1_mix_163 : decode cX1_mix 163 = .ok (.iconst (-1), 1) := by decide +kernel
theorem dX1_mix_164 : decode cX1_mix 164 = .ok (.ixor, 1) := by decide +kernel
theorem dX1_mix_165 : decode cX1_mix 165 = .ok (.goto 10, 3) := by decide +kernel
theorem dX1_mix_168 : decode cX1_mix 168 = .ok (.aload_n 0, 1) := by decide +kernel
theorem dX1_mix_169 : decode cX1_mix 169 = .ok (.getfield 16, 3) := by decide +kernel
theorem dX1_mix_172 : decode cX1_mix 172 = .ok (.bipush 14, 2) := by decide +kernel
theorem dX1_mix_174 : decode cX1_mix 174 = .ok (.iaload, 1) := by decide +kernel
theorem dX1_mix_175 : decode cX1_mix 175 = .ok (.iastore, 1) := by decide +kernel
theorem dX1_mix_176 : decode cX1_mix 176 = .ok (.iconst 0, 1) := by decide +kernel
theorem dX1_mix_177 : decode cX1_mix 177 = .ok (.istore 4, 2) := by decide +kernel
theorem dX1_mix_179 : decode cX1_mix 179 = .ok (.iload 4, 2) := by decide +kernel
theorem dX1_mix_181 : decode cX1_mix 181 = .ok (.sipush 160, 3) := by decide +kernel
theorem dX1_mix_184 : decode cX1_mix 184 = .ok (.if_icmp .ge 329, 3) := by decide +kernel
theorem dX1_mix_187 : decode cX1_mix 187 = .ok (.aload_n 0, 1) := by decide +kernel
theorem dX1_mix_188 : decode cX1_mix 188 = .ok (.iconst 0, 1) := by decide +kernel
theorem dX1_mix_189 : decode cX1_mix 189 = .ok (.iconst 4, 1) := by decide +kernel
theorem dX1_mix_190 : decode cX1_mix 190 = .ok (.bipush 8, 2) := by decide +kernel
theorem dX1_mix_192 : decode cX1_mix 192 = .ok (.bipush 12, 2) := by decide +kernel
theorem dX1_mix_194 : decode cX1_mix 194 = .ok (.aload_n 0, 1) := by decide +kernel
theorem dX1_mix_195 : decode cX1_mix 195 = .ok (.getfield 19, 3) := by decide +kernel
theorem dX1_mix_198 : decode cX1_mix 198 = .ok (.aload_n 0, 1) := by decide +kernel
theorem dX1_mix_199 : decode cX1_mix 199 = .ok (.getfield 25, 3) := by decide +kernel
theorem dX1_mix_202 : decode cX1_mix 202 = .ok (.iload 4, 2) := by decide +kernel
theorem dX1_mix_204 : decode cX1_mix 204 = .ok (.iaload, 1) := by decide +kernel
theorem dX1_mix_205 : decode cX1_mix 205 = .ok (.iaload, 1) := by decide +kernel
theorem dX1_mix_206 : decode cX1_mix 206 = .ok (.aload_n 0, 1) := by decide +kernel
theorem dX1_mix_207 : decode cX1_mix 207 = .ok (.getfield 19, 3) := by decide +kernel
theorem dX1_mix_210 : decode cX1_mix 210 = .ok (.aload_n 0, 1) := by decide +kernel
theorem dX1_mix_211 : decode cX1_mix 211 = .ok (.getfield 25, 3) := by decide +kernel
theorem dX1_mix_214 : decode cX1_mix 214 = .ok (.iload 4, 2) := by decide +kernel
theorem dX1_mix_216 : decode cX1_mix 216 = .ok (.iconst 1, 1) := by decide +kernel
theorem dX1_mix_217 : decode cX1_mix 217 = .ok (.iadd, 1) := by decide +kernel
theorem dX1_mix_218 : decode cX1_mix 218 = .ok (.iaload, 1) := by decide +kernel
theorem dX1_mix_219 : decode cX1_mix 219 = .ok (.iaload, 1) := by decide +kernel
theorem dX1_mix_220 : decode cX1_mix 220 = .ok (.invokevirtual 79, 3) := by decide +kernel
theorem dX1_mix_223 : decode cX1_mix 223 = .ok (.aload_n 0, 1) := by decide +kernel
theorem dX1_mix_224 : decode cX1_mix 224 = .ok (.iconst 1, 1) := by decide +kernel
theorem dX1_mix_225 : decode cX1_mix 225 = .ok (.iconst 5, 1) := by decide +kernel
theorem dX1_mix_226 : decode cX1_mix 226 = .ok (.bipush 9, 2) := by decide +kernel
theorem dX1_mix_228 : decode cX1_mix 228 = .ok (.bipush 13, 2) := by decide +kernel
theorem dX1_mix_230 : decode cX1_mix 230 = .ok (.aload_n 0, 1) := by decide +kernel
theorem dX1_mix_231 : decode cX1_mix 231 = .ok (.getfield 19, 3) := by decide +kernel
theorem dX1_mix_234 : decode cX1_mix 234 = .ok (.aload_n 0, 1) := by decide +kernel
theorem dX1_mix_235 : decode cX1_mix 235 = .ok (.getfield 25, 3) := by decide +kernel
theorem dX1_mix_238 : decode cX1_mix 238 = .ok (.iload 4, 2) := by decide +kernel
theorem dX1_mix_240 : decode cX1_mix 240 = .ok (.iconst 2, 1) := by decide +kernel
theorem dX1_mix_241 : decode cX1_mix 241 = .ok (.iadd, 1) := by decide +kernel
theorem dX1_mix_242 : decode cX1_mix 242 = .ok (.iaload, 1) := by decide +kernel
theorem dX1_mix_243 : decode cX1_mix 243 = .ok (.iaload, 1) := by decide +kernel
theorem dX1_mix_244 : decode cX1_mix 244 = .ok (.aload_n 0, 1) := by decide +kernel
theorem dX1_mix_245 : decode cX1_mix 245 = .ok (.getfield 19, 3) := by decide +kernel
theorem dX1_mix_248 : decode cX1_mix 248 = .ok (.aload_n 0, 1) := by decide +kernel
theorem dX1_mix_249 : decode cX1_mix 249 = .ok (.getfield 25, 3) := by decide +kernel
theorem dX1_mix_252 : decode cX1_mix 252 = .ok (.iload 4, 2) := by decide +kernel
theorem dX1_mix_254 : decode cX1_mix 254 = .ok (.iconst 3, 1) := by decide +kernel
theorem dX1_mix_255 : decode cX1_mix 255 = .ok (.iadd, 1) := by decide +kernel
theorem dX1_mix_256 : decode cX1_mix 256 = .ok (.iaload, 1) := by decide +kernel
theorem dX1_mix_257 : decode cX1_mix 257 = .ok (.iaload, 1) := by decide +kernel
theorem dX1_mix_258 : decode cX1_mix 258 = .ok (.invokevirtual 79, 3) := by decide +kernel
theorem dX1_mix_261 : decode cX1_mix 261 = .ok (.aload_n 0, 1) := by decide +kernel
theorem dX1_mix_262 : decode cX1_mix 262 = .ok (.iconst 2, 1) := by decide +kernel
theorem dX1_mix_263 : decode cX1_mix 263 = .ok (.bipush 6, 2) := by decide +kernel
theorem dX1_mix_265 : decode cX1_mix 265 = .ok (.bipush 10, 2) := by decide +kernel
theorem dX1_mix_267 : decode cX1_mix 267 = .ok (.bipush 14, 2) := by decide +kernel
theorem dX1_mix_269 : decode cX1_mix 269 = .ok (.aload_n 0, 1) := by decide +kernel
theorem dX1_mix_270 : decode cX1_mix 270 = .ok (.getfield 19, 3) := by decide +kernel
theorem dX1_mix_273 : decode cX1_mix 273 = .ok (.aload_n 0, 1) := by decide +kernel
theorem dX1_mix_274 : decode cX1_mix 274 = .ok (.getfield 25, 3) := by decide +kernel
theorem dX1_mix_277 : decode cX1_mix 277 = .ok (.iload 4, 2) := by decide +kernel
theorem dX1_mix_279 : decode cX1_mix 279 = .ok (.iconst 4, 1) := by decide +kernel
theorem dX1_mix_280 : decode cX1_mix 280 = .ok (.iadd, 1) := by decide +kernel
theorem dX1_mix_281 : decode cX1_mix 281 = .ok (.iaload, 1) := by decide +kernel
theorem dX1_mix_282 : decode cX1_mix 282 = .ok (.iaload, 1) := by decide +kernel
theorem dX1_mix_283 : decode cX1_mix 283 = .ok (.aload_n 0, 1) := by decide +kernel
theorem dX1_mix_284 : decode cX1_mix 284 = .ok (.getfield 19, 3) := by decide +kernel
theorem dX1_mix_287 : decode cX1_mix 287 = .ok (.aload_n 0, 1) := by decide +kernel
theorem dX1_mix_288 : decode cX1_mix 288 = .ok (.getfield 25, 3) := by decide +kernel
theorem dX1_mix_291 : decode cX1_mix 291 = .ok (.iload 4, 2) := by decide +kernel
theorem dX1_mix_293 : decode cX1_mix 293 = .ok (.iconst 5, 1) := by decide +kernel
theorem dX1_mix_294 : decode cX1_mix 294 = .ok (.iadd, 1) := by decide +kernel
theorem dX1_mix_295 : decode cX1_mix 295 = .ok (.iaload, 1) := by decide +kernel
theorem dX1_mix_296 : decode cX1_mix 296 = .ok (.iaload, 1) := by decide +kernel
theorem dX1_mix_297 : decode cX1_mix 297 = .ok (.invokevirtual 79, 3) := by decide +kernel
theorem dX1_mix_300 : decode cX1_mix 300 = .ok (.aload_n 0, 1) := by decide +kernel
theorem dX1_mix_301 : decode cX1_mix 301 = .ok (.iconst 3, 1) := by decide +kernel
theorem dX1_mix_302 : decode cX1_mix 302 = .ok (.bipush 7, 2) := by decide +kernel
theorem dX1_mix_304 : decode cX1_mix 304 = .ok (.bipush 11, 2) := by decide +kernel
theorem dX1_mix_306 : decode cX1_mix 306 = .ok (.bipush 15, 2) := by decide +kernel
theorem dX1_mix_308 : decode cX1_mix 308 = .ok (.aload_n 0, 1) := by decide +kernel
theorem dX1_mix_309 : decode cX1_mix 309 = .ok (.getfield 19, 3) := by decide +kernel
theorem dX1_mix_312 : decode cX1_mix 312 = .ok (.aload_n 0, 1) := by decide +kernel
theorem dX1_mix_313 : decode cX1_mix 313 = .ok (.getfield 25, 3) := by decide +kernel
theorem dX1_mix_316 : decode cX1_mix 316 = .ok (.iload 4, 2) := by decide +kernel
theorem dX1_mix_318 : decode cX1_mix 318 = .ok (.bipush 6, 2) := by decide +kernel
theorem dX1_mix_320 : decode cX1_mix 320 = .ok (.iadd, 1) := by decide +kernel
theorem dX1_mix_321 : decode cX1_mix 321 = .ok (.iaload, 1) := by decide +kernel
theorem dX1_mix_322 : decode cX1_mix 322 = .ok (.iaload, 1) := by decide +kernel
theorem dX1_mix_323 : decode cX1_mix 323 = .ok (.aload_n 0, 1) := by decide +kernel
theorem dX1_mix_324 : decode cX1_mix 324 = .ok (.getfield 19, 3) := by decide +kernel
theorem dX1_mix_327 : decode cX1_mix 327 = .ok (.aload_n 0, 1) := by decide +kernel
theorem dX1_mix_328 : decode cX1_mix 328 = .ok (.getfield 25, 3) := by decide +kernel
theorem dX1_mix_331 : decode cX1_mix 331 = .ok (.iload 4, 2) := by decide +kernel
theorem dX1_mix_333 : decode cX1_mix 333 = .ok (.bipush 7, 2) := by decide +kernel
theorem dX1_mix_335 : decode cX1_mix 335 = .ok (.iadd, 1) := by decide +kernel
theorem dX1_mix_336 : decode cX1_mix 336 = .ok (.iaload, 1) := by decide +kernel
theorem dX1_mix_337 : decode cX1_mix 337 = .ok (.iaload, 1) := by decide +kernel
theorem dX1_mix_338 : decode cX1_mix 338 = .ok (.invokevirtual 79, 3) := by decide +kernel
theorem dX1_mix_341 : decode cX1_mix 341 = .ok (.aload_n 0, 1) := by decide +kernel
theorem dX1_mix_342 : decode cX1_mix 342 = .ok (.iconst 0, 1) := by decide +kernel
theorem dX1_mix_343 : decode cX1_mix 343 = .ok (.iconst 5, 1) := by decide +kernel
theorem dX1_mix_344 : decode cX1_mix 344 = .ok (.bipush 10, 2) := by decide +kernel
theorem dX1_mix_346 : decode cX1_mix 346 = .ok (.bipush 15, 2) := by decide +kernel
theorem dX1_mix_348 : decode cX1_mix 348 = .ok (.aload_n 0, 1) := by decide +kernel
theorem dX1_mix_349 : decode cX1_mix 349 = .ok (.getfield 19, 3) := by decide +kernel
theorem dX1_mix_352 : decode cX1_mix 352 = .ok (.aload_n 0, 1) := by decide +kernel
theorem dX1_mix_353 : decode cX1_mix 353 = .ok (.getfield 25, 3) := by decide +kernel
theorem dX1_mix_356 : decode cX1_mix 356 = .ok (.iload 4, 2) := by decide +kernel
theorem dX1_mix_358 : decode cX1_mix 358 = .ok (.bipush 8, 2) := by decide +kernel
theorem dX1_mix_360 : decode cX1_mix 360 = .ok (.iadd, 1) := by decide +kernel
theorem dX1_mix_361 : decode cX1_mix 361 = .ok (.iaload, 1) := by decide +kernel
theorem dX1_mix_362 : decode cX1_mix 362 = .ok (.iaload, 1) := by decide +kernel
theorem dX1_mix_363 : decode cX1_mix 363 = .ok (.aload_n 0, 1) := by decide +kernel
theorem dX1_mix_364 : decode cX1_mix 364 = .ok (.getfield 19, 3) := by decide +kernel
theorem dX1_mix_367 : decode cX1_mix 367 = .ok (.aload_n 0, 1) := by decide +kernel
theorem dX1_mix_368 : decode cX1_mix 368 = .ok (.getfield 25, 3) := by decide +kernel
theorem dX1_mix_371 : decode cX1_mix 371 = .ok (.iload 4, 2) := by decide +kernel
theorem dX1_mix_373 : decode cX1_mix 373 = .ok (.bipush 9, 2) := by decide +kernel
theorem dX1_mix_375 : decode cX1_mix 375 = .ok (.iadd, 1) := by decide +kernel
theorem dX1_mix_376 : decode cX1_mix 376 = .ok (.iaload, 1) := by decide +kernel
theorem dX1_mix_377 : decode cX1_mix 377 = .ok (.iaload, 1) := by decide +kernel
theorem dX1_mix_378 : decode cX1_mix 378 = .ok (.invokevirtual 79, 3) := by decide +kernel
theorem dX1_mix_381 : decode cX1_mix 381 = .ok (.aload_n 0, 1) := by decide +kernel
theorem dX1_mix_382 : decode cX1_mix 382 = .ok (.iconst 1, 1) := by decide +kernel
theorem dX1_mix_383 : decode cX1_mix 383 = .ok (.bipush 6, 2) := by decide +kernel
theorem dX1_mix_385 : decode cX1_mix 385 = .ok (.bipush 11, 2) := by decide +kernel
theorem dX1_mix_387 : decode cX1_mix 387 = .ok (.bipush 12, 2) := by decide +kernel
theorem dX1_mix_389 : decode cX1_mix 389 = .ok (.aload_n 0, 1) := by decide +kernel
theorem dX1_mix_390 : decode cX1_mix 390 = .ok (.getfield 19, 3) := by decide +kernel
theorem dX1_mix_393 : decode cX1_mix 393 = .ok (.aload_n 0, 1) := by decide +kernel
theorem dX1_mix_394 : decode cX1_mix 394 = .ok (.getfield 25, 3) := by decide +kernel
theorem dX1_mix_397 : decode cX1_mix 397 = .ok (.iload 4, 2) := by decide +kernel
theorem dX1_mix_399 : decode cX1_mix 399 = .ok (.bipush 10, 2) := by decide +kernel
theorem dX1_mix_401 : decode cX1_mix 401 = .ok (.iadd, 1) := by decide +kernel
theorem dX1_mix_402 : decode cX1_mix 402 = .ok (.iaload, 1) := by decide +kernel
theorem dX1_mix_403 : decode cX1_mix 403 = .ok (.iaload, 1) := by decide +kernel
theorem dX1_mix_404 : decode cX1_mix 404 = .ok (.aload_n 0, 1) := by decide +kernel
theorem dX1_mix_405 : decode cX1_mix 405 = .ok (.getfield 19, 3) := by decide +kernel
theorem dX1_mix_408 : decode cX1_mix 408 = .ok (.aload_n 0, 1) := by decide +kernel
theorem dX1_mix_409 : decode cX1_mix 409 = .ok (.getfield 25, 3) := by decide +kernel
end
section
set_option maxRecDepth 100000
theorem dX1_mix_412 : decode cX1_mix 412 = .ok (.iload 4, 2) := by decide +kernel
theorem dX1_mix_414 : decode cX1_mix 414 = .ok (.bipush 11, 2) := by decide +kernel
theorem dX1_mix_416 : decode cX1_mix 416 = .ok (.iadd, 1) := by decide +kernel
theorem dX1_mix_417 : decode cX1_mix 417 = .ok (.iaload, 1) := by decide +kernel
theorem dX1_mix_418 : decode cX1_mix 418 = .ok (.iaload, 1) := by decide +kernel
theorem dX1_mix_419 : decode cX1_mix 419 = .ok (.invokevirtual 79, 3) := by decide +kernel
theorem dX1_mix_422 : decode cX1_mix 422 = .ok (.aload_n 0, 1) := by decide +kernel
theorem dX1_mix_423 : decode cX1_mix 423 = .ok (.iconst 2, 1) := by decide +kernel
theorem dX1_mix_424 : decode cX1_mix 424 = .ok (.bipush 7, 2) := by decide +kernel
theorem dX1_mix_426 : decode cX1_mix 426 = .ok (.bipush 8, 2) := by decide +kernel
theorem dX1_mix_428 : decode cX1_mix 428 = .ok (.bipush 13, 2) := by decide +kernel
theorem dX1_mix_430 : decode cX1_mix 430 = .ok (.aload_n 0, 1) := by decide +kernel
theorem dX1_mix_431 : decode cX1_mix 431 = .ok (.getfield 19, 3) := by decide +kernel
theorem dX1_mix_434 : decode cX1_mix 434 = .ok (.aload_n 0, 1) := by decide +kernel
theorem dX1_mix_435 : decode cX1_mix 435 = .ok (.getfield 25, 3) := by decide +kernel
theorem dX1_mix_438 : decode cX1_mix 438 = .ok (.iload 4, 2) := by decide +kernel
theorem dX1_mix_440 : decode cX1_mix 440 = .ok (.bipush 12, 2) := by decide +kernel
theorem dX1_mix_442 : decode cX1_mix 442 = .ok (.iadd, 1) := by decide +kernel
theorem dX1_mix_443 : decode cX1_mix 443 = .ok (.iaload, 1) := by decide +kernel
theorem dX1_mix_444 : decode cX1_mix 444 = .ok (.iaload, 1) := by decide +kernel
theorem dX1_mix_445 : decode cX1_mix 445 = .ok (.aload_n 0, 1) := by decide +kernel
theorem dX1_mix_446 : decode cX1_mix 446 = .ok (.getfield 19, 3) := by decide +kernel
theorem dX1_mix_449 : decode cX1_mix 449 = .ok (.aload_n 0, 1) := by decide +kernel
theorem dX1_mix_450 : decode cX1_mix 450 = .ok (.getfield 25, 3) := by decide +kernel
theorem dX1_mix_453 : decode cX1_mix 453 = .ok (.iload 4, 2) := by decide +kernel
theorem dX1_mix_455 : decode cX1_mix 455 = .ok (.bipush 13, 2) := by decide +kernel
theorem dX1_mix_457 : decode cX1_mix 457 = .ok (.iadd, 1) := by decide +kernel
theorem dX1_mix_458 : decode cX1_mix 458 = .ok (.iaload, 1) := by decide +kernel
theorem dX1_mix_459 : decode cX1_mix 459 = .ok (.iaload, 1) := by decide +kernel
theorem dX1_mix_460 : decode cX1_mix 460 = .ok (.invokevirtual 79, 3) := by decide +kernel
theorem dX1_mix_463 : decode cX1_mix 463 = .ok (.aload_n 0, 1) := by decide +kernel
theorem dX1_mix_464 : decode cX1_mix 464 = .ok (.iconst 3, 1) := by decide +kernel
theorem dX1_mix_465 : decode cX1_mix 465 = .ok (.iconst 4, 1) := by decide +kernel
theorem dX1_mix_466 : decode cX1_mix 466 = .ok (.bipush 9, 2) := by decide +kernel
theorem dX1_mix_468 : decode cX1_mix 468 = .ok (.bipush 14, 2) := by decide +kernel
theorem dX1_mix_470 : decode cX1_mix 470 = .ok (.aload_n 0, 1) := by decide +kernel
theorem dX1_mix_471 : decode cX1_mix 471 = .ok (.getfield 19, 3) := by decide +kernel
theorem dX1_mix_474 : decode cX1_mix 474 = .ok (.aload_n 0, 1) := by decide +kernel
theorem dX1_mix_475 : decode cX1_mix 475 = .ok (.getfield 25, 3) := by decide +kernel
theorem dX1_mix_478 : decode cX1_mix 478 = .ok (.iload 4, 2) := by decide +kernel
theorem dX1_mix_480 : decode cX1_mix 480 = .ok (.bipush 14, 2) := by decide +kernel
theorem dX1_mix_482 : decode cX1_mix 482 = .ok (.iadd, 1) := by decide +kernel
theorem dX1_mix_483 : decode cX1_mix 483 = .ok (.iaload, 1) := by decide +kernel
theorem dX1_mix_484 : decode cX1_mix 484 = .ok (.iaload, 1) := by decide +kernel
theorem dX1_mix_485 : decode cX1_mix 485 = .ok (.aload_n 0, 1) := by decide +kernel
theorem dX1_mix_486 : decode cX1_mix 486 = .ok (.getfield 19, 3) := by decide +kernel
theorem dX1_mix_489 : decode cX1_mix 489 = .ok (.aload_n 0, 1) := by decide +kernel
theorem dX1_mix_490 : decode cX1_mix 490 = .ok (.getfield 25, 3) := by decide +kernel
theorem dX1_mix_493 : decode cX1_mix 493 = .ok (.iload 4, 2) := by decide +kernel
theorem dX1_mix_495 : decode cX1_mix 495 = .ok (.bipush 15, 2) := by decide +kernel
theorem dX1_mix_497 : decode cX1_mix 497 = .ok (.iadd, 1) := by decide +kernel
theorem dX1_mix_498 : decode cX1_mix 498 = .ok (.iaload, 1) := by decide +kernel
theorem dX1_mix_499 : decode cX1_mix 499 = .ok (.iaload, 1) := by decide +kernel
theorem dX1_mix_500 : decode cX1_mix 500 = .ok (.invokevirtual 79, 3) := by decide +kernel
theorem dX1_mix_503 : decode cX1_mix 503 = .ok (.iload 4, 2) := by decide +kernel
theorem dX1_mix_505 : decode cX1_mix 505 = .ok (.bipush 16, 2) := by decide +kernel
theorem dX1_mix_507 : decode cX1_mix 507 = .ok (.iadd, 1) := by decide +kernel
theorem dX1_mix_508 : decode cX1_mix 508 = .ok (.istore 4, 2) := by decide +kernel
theorem dX1_mix_510 : decode cX1_mix 510 = .ok (.goto (-331), 3) := by decide +kernel
theorem dX1_mix_513 : decode cX1_mix 513 = .ok (.iconst 0, 1) := by decide +kernel
theorem dX1_mix_514 : decode cX1_mix 514 = .ok (.istore 4, 2) := by decide +kernel
theorem dX1_mix_516 : decode cX1_mix 516 = .ok (.iload 4, 2) := by decide +kernel
theorem dX1_mix_518 : decode cX1_mix 518 = .ok (.bipush 8, 2) := by decide +kernel
theorem dX1_mix_520 : decode cX1_mix 520 = .ok (.if_icmp .ge 42, 3) := by decide +kernel
theorem dX1_mix_523 : decode cX1_mix 523 = .ok (.aload_n 0, 1) := by decide +kernel
theorem dX1_mix_524 : decode cX1_mix 524 = .ok (.getfield 13, 3) := by decide +kernel
theorem dX1_mix_527 : decode cX1_mix 527 = .ok (.iload 4, 2) := by decide +kernel
theorem dX1_mix_529 : decode cX1_mix 529 = .ok (.aload_n 0, 1) := by decide +kernel
theorem dX1_mix_530 : decode cX1_mix 530 = .ok (.getfield 13, 3) := by decide +kernel
theorem dX1_mix_533 : decode cX1_mix 533 = .ok (.iload 4, 2) := by decide +kernel
theorem dX1_mix_535 : decode cX1_mix 535 = .ok (.iaload, 1) := by decide +kernel
theorem dX1_mix_536 : decode cX1_mix 536 = .ok (.aload_n 0, 1) := by decide +kernel
theorem dX1_mix_537 : decode cX1_mix 537 = .ok (.getfield 16, 3) := by decide +kernel
theorem dX1_mix_540 : decode cX1_mix 540 = .ok (.iload 4, 2) := by decide +kernel
theorem dX1_mix_542 : decode cX1_mix 542 = .ok (.iaload, 1) := by decide +kernel
theorem dX1_mix_543 : decode cX1_mix 543 = .ok (.ixor, 1) := by decide +kernel
theorem dX1_mix_544 : decode cX1_mix 544 = .ok (.aload_n 0, 1) := by decide +kernel
theorem dX1_mix_545 : decode cX1_mix 545 = .ok (.getfield 16, 3) := by decide +kernel
theorem dX1_mix_548 : decode cX1_mix 548 = .ok (.iload 4, 2) := by decide +kernel
theorem dX1_mix_550 : decode cX1_mix 550 = .ok (.bipush 8, 2) := by decide +kernel
theorem dX1_mix_552 : decode cX1_mix 552 = .ok (.iadd, 1) := by decide +kernel
theorem dX1_mix_553 : decode cX1_mix 553 = .ok (.iaload, 1) := by decide +kernel
theorem dX1_mix_554 : decode cX1_mix 554 = .ok (.ixor, 1) := by decide +kernel
theorem dX1_mix_555 : decode cX1_mix 555 = .ok (.iastore, 1) := by decide +kernel
theorem dX1_mix_556 : decode cX1_mix 556 = .ok (.iinc 4 1, 3) := by decide +kernel
theorem dX1_mix_559 : decode cX1_mix 559 = .ok (.goto (-43), 3) := by decide +kernel
theorem dX1_mix_562 : decode cX1_mix 562 = .ok (.return_, 1) := by decide +kernel
theorem dX1_g_0 : decode cX1_g 0 = .ok (.aload_n 0, 1) := by decide +kernel
theorem dX1_g_1 : decode cX1_g 1 = .ok (.getfield 16, 3) := by decide +kernel
theorem dX1_g_4 : decode cX1_g 4 = .ok (.iload_n 1, 1) := by decide +kernel
theorem dX1_g_5 : decode cX1_g 5 = .ok (.aload_n 0, 1) := by decide +kernel
theorem dX1_g_6 : decode cX1_g 6 = .ok (.getfield 16, 3) := by decide +kernel
theorem dX1_g_9 : decode cX1_g 9 = .ok (.iload_n 1, 1) := by decide +kernel
theorem dX1_g_10 : decode cX1_g 10 = .ok (.iaload, 1) := by decide +kernel
theorem dX1_g_11 : decode cX1_g 11 = .ok (.aload_n 0, 1) := by decide +kernel
theorem dX1_g_12 : decode cX1_g 12 = .ok (.getfield 16, 3) := by decide +kernel
theorem dX1_g_15 : decode cX1_g 15 = .ok (.iload_n 2, 1) := by decide +kernel
theorem dX1_g_16 : decode cX1_g 16 = .ok (.iaload, 1) := by decide +kernel
theorem dX1_g_17 : decode cX1_g 17 = .ok (.iadd, 1) := by decide +kernel
theorem dX1_g_18 : decode cX1_g 18 = .ok (.iload 5, 2) := by decide +kernel
theorem dX1_g_20 : decode cX1_g 20 = .ok (.iadd, 1) := by decide +kernel
theorem dX1_g_21 : decode cX1_g 21 = .ok (.iastore, 1) := by decide +kernel
theorem dX1_g_22 : decode cX1_g 22 = .ok (.aload_n 0, 1) := by decide +kernel
theorem dX1_g_23 : decode cX1_g 23 = .ok (.getfield 16, 3) := by decide +kernel
theorem dX1_g_26 : decode cX1_g 26 = .ok (.iload 4, 2) := by decide +kernel
theorem dX1_g_28 : decode cX1_g 28 = .ok (.aload_n 0, 1) := by decide +kernel
theorem dX1_g_29 : decode cX1_g 29 = .ok (.getfield 16, 3) := by decide +kernel
theorem dX1_g_32 : decode cX1_g 32 = .ok (.iload 4, 2) := by decide +kernel
theorem dX1_g_34 : decode cX1_g 34 = .ok (.iaload, 1) := by decide +kernel
theorem dX1_g_35 : decode cX1_g 35 = .ok (.aload_n 0, 1) := by decide +kernel
theorem dX1_g_36 : decode cX1_g 36 = .ok (.getfield 16, 3) := by decide +kernel
theorem dX1_g_39 : decode cX1_g 39 = .ok (.iload_n 1, 1) := by decide +kernel
theorem dX1_g_40 : decode cX1_g 40 = .ok (.iaload, 1) := by decide +kernel
theorem dX1_g_41 : decode cX1_g 41 = .ok (.ixor, 1) := by decide +kernel
theorem dX1_g_42 : decode cX1_g 42 = .ok (.bipush 16, 2) := by decide +kernel
theorem dX1_g_44 : decode cX1_g 44 = .ok (.invokestatic 75, 3) := by decide +kernel
theorem dX1_g_47 : decode cX1_g 47 = .ok (.iastore, 1) := by decide +kernel
theorem dX1_g_48 : decode cX1_g 48 = .ok (.aload_n 0, 1) := by decide +kernel
theorem dX1_g_49 : decode cX1_g 49 = .ok (.getfield 16, 3) := by decide +kernel
theorem dX1_g_52 : decode cX1_g 52 = .ok (.iload_n 3, 1) := by decide +kernel
theorem dX1_g_53 : decode cX1_g 53 = .ok (.aload_n 0, 1) := by decide +kernel
theorem dX1_g_54 : decode cX1_g 54 = .ok (.getfield 16, 3) := by decide +kernel
theorem dX1_g_57 : decode cX1_g 57 = .ok (.iload_n 3, 1) := by decide +kernel
theorem dX1_g_58 : decode cX1_g 58 = .ok (.iaload, 1) := by decide +kernel
theorem dX1_g_59 : decode cX1_g 59 = .ok (.aload_n 0, 1) := by decide +kernel
theorem dX1_g_60 : decode cX1_g 60 = .ok (.getfield 16, 3) := by decide +kernel
theorem dX1_g_63 : decode cX1_g 63 = .ok (.iload 4, 2) := by decide +kernel
theorem dX1_g_65 : decode cX1_g 65 = .ok (.iaload, 1) := by decide +kernel
theorem dX1_g_66 : decode cX1_g 66 = .ok (.iadd, 1) := by decide +kernel
theorem dX1_g_67 : decode cX1_g 67 = .ok (.iastore, 1) := by decide +kernel
theorem dX1_g_68 : decode cX1_g 68 = .ok (.aload_n 0, 1) := by decide +kernel
theorem dX1_g_69 : decode cX1_g 69 = .ok (.getfield 16, 3) := by decide +kernel
theorem dX1_g_72 : decode cX1_g 72 = .ok (.iload_n 2, 1) := by decide +kernel
theorem dX1_g_73 : decode cX1_g 73 = .ok (.aload_n 0, 1) := by decide +kernel
theorem dX1_g_74 : decode cX1_g 74 = .ok (.getfield 16, 3) := by decide +kernel
theorem dX1_g_77 : decode cX1_g 77 = .ok (.iload_n 2, 1) := by decide +kernel
theorem dX1_g_78 : decode cX1_g 78 = .ok (.iaload, 1) := by decide +kernel
theorem dX1_g_79 : decode cX1_g 79 = .ok (.aload_n 0, 1) := by decide +kernel
theorem dX1_g_80 : decode cX1_g 80 = .ok (.getfield 16, 3) := by decide +kernel
theorem dX1_g_83 : decode cX1_g 83 = .ok (.iload_n 3, 1) := by decide +kernel
theorem dX1_g_84 : decode cX1_g 84 = .ok (.iaload, 1) := by decide +kernel
theorem dX1_g_85 : decode cX1_g 85 = .ok (.ixor, 1) := by decide +kernel
theorem dX1_g_86 : decode cX1_g 86 = .ok (.bipush 12, 2) := by decide +kernel
theorem dX1_g_88 : decode cX1_g 88 = .ok (.invokestatic 75, 3) := by decide +kernel
theorem dX1_g_91 : decode cX1_g 91 = .ok (.iastore, 1) := by decide +kernel
theorem dX1_g_92 : decode cX1_g 92 = .ok (.aload_n 0, 1) := by decide +kernel
theorem dX1_g_93 : decode cX1_g 93 = .ok (.getfield 16, 3) := by decide +kernel
theorem dX1_g_96 : decode cX1_g 96 = .ok (.iload_n 1, 1) := by decide +kernel
theorem dX1_g_97 : decode cX1_g 97 = .ok (.aload_n 0, 1) := by decide +kernel
theorem dX1_g_98 : decode cX1_g 98 = .ok (.getfield 16, 3) := by decide +kernel
theorem dX1_g_101 : decode cX1_g 101 = .ok (.iload_n 1, 1) := by decide +kernel
theorem dX1_g_102 : decode cX1_g 102 = .ok (.iaload, 1) := by decide +kernel
theorem dX1_g_103 : decode cX1_g 103 = .ok (.aload_n 0, 1) := by decide +kernel
theorem dX1_g_104 : decode cX1_g 104 = .ok (.getfield 16, 3) := by decide +kernel
theorem dX1_g_107 : decode cX1_g 107 = .ok (.iload_n 2, 1) := by decide +kernel
theorem dX1_g_108 : decode cX1_g 108 = .ok (.iaload, 1) := by decide +kernel
theorem dX1_g_109 : decode cX1_g 109 = .ok (.iadd, 1) := by decide +kernel
theorem dX1_g_110 : decode cX1_g 110 = .ok (.iload 6, 2) := by decide +kernel
theorem dX1_g_112 : decode cX1_g 112 = .ok (.iadd, 1) := by decide +kernel
theorem dX1_g_113 : decode cX1_g 113 = .ok (.iastore, 1) := by decide +kernel
theorem dX1_g_114 : decode cX1_g 114 = .ok (.aload_n 0, 1) := by decide +kernel
theorem dX1_g_115 : decode cX1_g 115 = .ok (.getfield 16, 3) := by decide +kernel
theorem dX1_g_118 : decode cX1_g 118 = .ok (.iload 4, 2) := by decide +kernel
theorem dX1_g_120 : decode cX1_g 120 = .ok (.aload_n 0, 1) := by decide +kernel
theorem dX1_g_121 : decode cX1_g 121 = .ok (.getfield 16, 3) := by decide +kernel
theorem dX1_g_124 : decode cX1_g 124 = .ok (.iload 4, 2) := by decide +kernel
theorem dX1_g_126 : decode cX1_g 126 = .ok (.iaload, 1) := by decide +kernel
theorem dX1_g_127 : decode cX1_g 127 = .ok (.aload_n 0, 1) := by decide +kernel
theorem dX1_g_128 : decode cX1_g 128 = .ok (.getfield 16, 3) := by decide +kernel
theorem dX1_g_131 : decode cX1_g 131 = .ok (.iload_n 1, 1) := by decide +kernel
theorem dX1_g_132 : decode cX1_g 132 = .ok (.iaload, 1) := by decide +kernel
theorem dX1_g_133 : decode cX1_g 133 = .ok (.ixor, 1) := by decide +kernel
theorem dX1_g_134 : decode cX1_g 134 = .ok (.bipush 8, 2) := by decide +kernel
theorem dX1_g_136 : decode cX1_g 136 = .ok (.invokestatic 75, 3) := by decide +kernel
theorem dX1_g_139 : decode cX1_g 139 = .ok (.iastore, 1) := by decide +kernel
theorem dX1_g_140 : decode cX1_g 140 = .ok (.aload_n 0, 1) := by decide +kernel
theorem dX1_g_141 : decode cX1_g 141 = .ok (.getfield 16, 3) := by decide +kernel
theorem dX1_g_144 : decode cX1_g 144 = .ok (.iload_n 3, 1) := by decide +kernel
theorem dX1_g_145 : decode cX1_g 145 = .ok (.aload_n 0, 1) := by decide +kernel
theorem dX1_g_146 : decode cX1_g 146 = .ok (.getfield 16, 3) := by decide +kernel
theorem dX1_g_149 : decode cX1_g 149 = .ok (.iload_n 3, 1) := by decide +kernel
theorem dX1_g_150 : decode cX1_g 150 = .ok (.iaload, 1) := by decide +kernel
theorem dX1_g_151 : decode cX1_g 151 = .ok (.aload_n 0, 1) := by decide +kernel
theorem dX1_g_152 : decode cX1_g 152 = .ok (.getfield 16, 3) := by decide +kernel
theorem dX1_g_155 : decode cX1_g 155 = .ok (.iload 4, 2) := by decide +kernel
theorem dX1_g_157 : decode cX1_g 157 = .ok (.iaload, 1) := by decide +kernel
theorem dX1_g_158 : decode cX1_g 158 = .ok (.iadd, 1) := by decide +kernel
theorem dX1_g_159 : decode cX1_g 159 = .ok (.iastore, 1) := by decide +kernel
theorem dX1_g_160 : decode cX1_g 160 = .ok (.aload_n 0, 1) := by decide +kernel
theorem dX1_g_161 : decode cX1_g 161 = .ok (.getfield 16, 3) := by decide +kernel
theorem dX1_g_164 : decode cX1_g 164 = .ok (.iload_n 2, 1) := by decide +kernel
theorem dX1_g_165 : decode cX1_g 165 = .ok (.aload_n 0, 1) := by decide +kernel
theorem dX1_g_166 : decode cX1_g 166 = .ok (.getfield 16, 3) := by decide +kernel
theorem dX1_g_169 : decode cX1_g 169 = .ok (.iload_n 2, 1) := by decide +kernel
theorem dX1_g_170 : decode cX1_g 170 = .ok (.iaload, 1) := by decide +kernel
theorem dX1_g_171 : decode cX1_g 171 = .ok (.aload_n 0, 1) := by decide +kernel
theorem dX1_g_172 : decode cX1_g 172 = .ok (.getfield 16, 3) := by decide +kernel
theorem dX1_g_175 : decode cX1_g 175 = .ok (.iload_n 3, 1) := by decide +kernel
theorem dX1_g_176 : decode cX1_g 176 = .ok (.iaload, 1) := by decide +kernel
theorem dX1_g_177 : decode cX1_g 177 = .ok (.ixor, 1) := by decide +kernel
theorem dX1_g_178 : decode cX1_g 178 = .ok (.bipush 7, 2) := by decide +kernel
theorem dX1_g_180 : decode cX1_g 180 = .ok (.invokestatic 75, 3) := by decide +kernel
theorem dX1_g_183 : decode cX1_g 183 = .ok (.iastore, 1) := by decide +kernel
theorem dX1_g_184 : decode cX1_g 184 = .ok (.return_, 1) := by decide +kernel
theorem dX1_down_0 : decode cX1_down 0 = .ok (.iload_n 0, 1) := by decide +kernel
theorem dX1_down_1 : decode cX1_down 1 = .ok (.iload_n 1, 1) := by decide +kernel
theorem dX1_down_2 : decode cX1_down 2 = .ok (.iushr, 1) := by decide +kernel
theorem dX1_down_3 : decode cX1_down 3 = .ok (.iload_n 0, 1) := by decide +kernel
theorem dX1_down_4 : decode cX1_down 4 = .ok (.bipush 32, 2) := by decide +kernel
theorem dX1_down_6 : decode cX1_down 6 = .ok (.iload_n 1, 1) := by decide +kernel
theorem dX1_down_7 : decode cX1_down 7 = .ok (.isub, 1) := by decide +kernel
theorem dX1_down_8 : decode cX1_down 8 = .ok (.ishl, 1) := by decide +kernel
theorem dX1_down_9 : decode cX1_down 9 = .ok (.ior, 1) := by decide +kernel
theorem dX1_down_10 : decode cX1_down 10 = .ok (.ireturn, 1) := by decide +kernel
theorem dX1_update_0 : decode cX1_update 0 = .ok (.aload_n 0, 1) := by decide +kernel
theorem dX1_update_1 : decode cX1_update 1 = .ok (.getfield 32, 3) := by decide +kernel
theorem dX1_update_4 : decode cX1_update 4 = .ok (.ifCond .eq 18, 3) := by decide +kernel
theorem dX1_update_7 : decode cX1_update 7 = .ok (.iload_n 1, 1) := by decide +kernel
theorem dX1_update_8 : decode cX1_update 8 = .ok (.ifCond .lt 14, 3) := by decide +kernel
theorem dX1_update_11 : decode cX1_update 11 = .ok (.iload_n 1, 1) := by decide +kernel
theorem dX1_update_12 : decode cX1_update 12 = .ok (.sipush 256, 3) := by decide +kernel
theorem dX1_update_15 : decode cX1_update 15 = .ok (.if_icmp .ge 7, 3) := by decide +kernel
theorem dX1_update_18 : decode cX1_update 18 = .ok (.iconst 1, 1) := by decide +kernel
theorem dX1_update_19 : decode cX1_update 19 = .ok (.goto 4, 3) := by decide +kernel
theorem dX1_update_22 : decode cX1_update 22 = .ok (.iconst 0, 1) := by decide +kernel
theorem dX1_update_23 : decode cX1_update 23 = .ok (.istore_n 2, 1) := by decide +kernel
theorem dX1_update_24 : decode cX1_update 24 = .ok (.iload_n 2, 1) := by decide +kernel
theorem dX1_update_25 : decode cX1_update 25 = .ok (.ifCond .eq 18, 3) := by decide +kernel
theorem dX1_update_28 : decode cX1_update 28 = .ok (.aload_n 0, 1) := by decide +kernel
theorem dX1_update_29 : decode cX1_update 29 = .ok (.iload_n 1, 1) := by decide +kernel
theorem dX1_update_30 : decode cX1_update 30 = .ok (.invokevirtual 65, 3) := by decide +kernel
theorem dX1_update_33 : decode cX1_update 33 = .ok (.aload_n 0, 1) := by decide +kernel
theorem dX1_update_34 : decode cX1_update 34 = .ok (.dup, 1) := by decide +kernel
theorem dX1_update_35 : decode cX1_update 35 = .ok (.getfield 62, 3) := by decide +kernel
theorem dX1_update_38 : decode cX1_update 38 = .ok (.iconst 1, 1) := by decide +kernel
theorem dX1_update_39 : decode cX1_update 39 = .ok (.iadd, 1) := by decide +kernel
theorem dX1_update_40 : decode cX1_update 40 = .ok (.putfield 62, 3) := by decide +kernel
theorem dX1_update_43 : decode cX1_update 43 = .ok (.iload_n 2, 1) := by decide +kernel
theorem dX1_update_44 : decode cX1_update 44 = .ok (.ireturn, 1) := by decide +kernel
theorem dX1_updates_0 : decode cX1_updates 0 = .ok (.aload_n 0, 1) := by decide +kernel
theorem dX1_updates_1 : decode cX1_updates 1 = .ok (.getfield 32, 3) := by decide +kernel
theorem dX1_updates_4 : decode cX1_updates 4 = .ok (.ifCond .eq 20, 3) := by decide +kernel
theorem dX1_updates_7 : decode cX1_updates 7 = .ok (.iload 5, 2) := by decide +kernel
theorem dX1_updates_9 : decode cX1_updates 9 = .ok (.iconst 1, 1) := by decide +kernel
theorem dX1_updates_10 : decode cX1_updates 10 = .ok (.if_icmp .lt 14, 3) := by decide +kernel
theorem dX1_updates_13 : decode cX1_updates 13 = .ok (.iload 5, 2) := by decide +kernel
theorem dX1_updates_15 : decode cX1_updates 15 = .ok (.bipush 16, 2) := by decide +kernel
theorem dX1_updates_17 : decode cX1_updates 17 = .ok (.if_icmp .gt 7, 3) := by decide +kernel
theorem dX1_updates_20 : decode cX1_updates 20 = .ok (.iconst 1, 1) := by decide +kernel
theorem dX1_updates_21 : decode cX1_updates 21 = .ok (.goto 4, 3) := by decide +kernel
theorem dX1_updates_24 : decode cX1_updates 24 = .ok (.iconst 0, 1) := by decide +kernel
theorem dX1_updates_25 : decode cX1_updates 25 = .ok (.istore 6, 2) := by decide +kernel
theorem dX1_updates_27 : decode cX1_updates 27 = .ok (.iconst 0, 1) := by decide +kernel
theorem dX1_updates_28 : decode cX1_updates 28 = .ok (.istore 7, 2) := by decide +kernel
theorem dX1_updates_30 : decode cX1_updates 30 = .ok (.iload 7, 2) := by decide +kernel
theorem dX1_updates_32 : decode cX1_updates 32 = .ok (.iload 5, 2) := by decide +kernel
theorem dX1_updates_34 : decode cX1_updates 34 = .ok (.if_icmp .ge 81, 3) := by decide +kernel
theorem dX1_updates_37 : decode cX1_updates 37 = .ok (.iload 6, 2) := by decide +kernel
theorem dX1_updates_39 : decode cX1_updates 39 = .ok (.ifCond .eq 76, 3) := by decide +kernel
theorem dX1_updates_42 : decode cX1_updates 42 = .ok (.iload 7, 2) := by decide +kernel
theorem dX1_updates_44 : decode cX1_updates 44 = .ok (.iconst 4, 1) := by decide +kernel
theorem dX1_updates_45 : decode cX1_updates 45 = .ok (.if_icmp .ge 7, 3) := by decide +kernel
theorem dX1_updates_48 : decode cX1_updates 48 = .ok (.iload_n 1, 1) := by decide +kernel
theorem dX1_updates_49 : decode cX1_updates 49 = .ok (.goto 27, 3) := by decide +kernel
theorem dX1_updates_52 : decode cX1_updates 52 = .ok (.iload 7, 2) := by decide +kernel
theorem dX1_updates_54 : decode cX1_updates 54 = .ok (.bipush 8, 2) := by decide +kernel
theorem dX1_updates_56 : decode cX1_updates 56 = .ok (.if_icmp .ge 7, 3) := by decide +kernel
theorem dX1_updates_59 : decode cX1_updates 59 = .ok (.iload_n 2, 1) := by decide +kernel
theorem dX1_updates_60 : decode cX1_updates 60 = .ok (.goto 16, 3) := by decide +kernel
theorem dX1_updates_63 : decode cX1_updates 63 = .ok (.iload 7, 2) := by decide +kernel
theorem dX1_updates_65 : decode cX1_updates 65 = .ok (.bipush 12, 2) := by decide +kernel
theorem dX1_updates_67 : decode cX1_updates 67 = .ok (.if_icmp .ge 7, 3) := by decide +kernel
theorem dX1_updates_70 : decode cX1_updates 70 = .ok (.iload_n 3, 1) := by decide +kernel
theorem dX1_updates_71 : decode cX1_updates 71 = .ok (.goto 5, 3) := by decide +kernel
theorem dX1_updates_74 : decode cX1_updates 74 = .ok (.iload 4, 2) := by decide +kernel
theorem dX1_updates_76 : decode cX1_updates 76 = .ok (.istore 8, 2) := by decide +kernel
theorem dX1_updates_78 : decode cX1_updates 78 = .ok (.aload_n 0, 1) := by decide +kernel
theorem dX1_updates_79 : decode cX1_updates 79 = .ok (.iload 8, 2) := by decide +kernel
theorem dX1_updates_81 : decode cX1_updates 81 = .ok (.bipush 24, 2) := by decide +kernel
theorem dX1_updates_83 : decode cX1_updates 83 = .ok (.bipush 8, 2) := by decide +kernel
theorem dX1_updates_85 : decode cX1_updates 85 = .ok (.iload 7, 2) := by decide +kernel
theorem dX1_updates_87 : decode cX1_updates 87 = .ok (.iconst 4, 1) := by decide +kernel
theorem dX1_updates_88 : decode cX1_updates 88 = .ok (.irem, 1) := by decide +kernel
theorem dX1_updates_89 : decode cX1_updates 89 = .ok (.imul, 1) := by decide +kernel
theorem dX1_updates_90 : decode cX1_updates 90 = .ok (.isub, 1) := by decide +kernel
theorem dX1_updates_91 : decode cX1_updates 91 = .ok (.ishr, 1) := by decide +kernel
theorem dX1_updates_92 : decode cX1_updates 92 = .ok (.sipush 255, 3) := by decide +kernel
theorem dX1_updates_95 : decode cX1_updates 95 = .ok (.iand, 1) := by decide +kernel
theorem dX1_updates_96 : decode cX1_updates 96 = .ok (.invokevirtual 65, 3) := by decide +kernel
theorem dX1_updates_99 : decode cX1_updates 99 = .ok (.aload_n 0, 1) := by decide +kernel
theorem dX1_updates_100 : decode cX1_updates 100 = .ok (.dup, 1) := by decide +kernel
theorem dX1_updates_101 : decode cX1_updates 101 = .ok (.getfield 62, 3) := by decide +kernel
theorem dX1_updates_104 : decode cX1_updates 104 = .ok (.iconst 1, 1) := by decide +kernel
theorem dX1_updates_105 : decode cX1_updates 105 = .ok (.iadd, 1) := by decide +kernel
theorem dX1_updates_106 : decode cX1_updates 106 = .ok (.putfield 62, 3) := by decide +kernel
theorem dX1_updates_109 : decode cX1_updates 109 = .ok (.iinc 7 1, 3) := by decide +kernel
theorem dX1_updates_112 : decode cX1_updates 112 = .ok (.goto (-82), 3) := by decide +kernel
theorem dX1_updates_115 : decode cX1_updates 115 = .ok (.iload 6, 2) := by decide +kernel
theorem dX1_updates_117 : decode cX1_updates 117 = .ok (.ireturn, 1) := by decide +kernel
theorem dX1_fill_0 : decode cX1_fill 0 = .ok (.aload_n 0, 1) := by decide +kernel
theorem dX1_fill_1 : decode cX1_fill 1 = .ok (.getfield 32, 3) := by decide +kernel
theorem dX1_fill_4 : decode cX1_fill 4 = .ok (.ifCond .eq 29, 3) := by decide +kernel
theorem dX1_fill_7 : decode cX1_fill 7 = .ok (.iload_n 1, 1) := by decide +kernel
theorem dX1_fill_8 : decode cX1_fill 8 = .ok (.ifCond .lt 25, 3) := by decide +kernel
theorem dX1_fill_11 : decode cX1_fill 11 = .ok (.iload_n 1, 1) := by decide +kernel
theorem dX1_fill_12 : decode cX1_fill 12 = .ok (.sipush 256, 3) := by decide +kernel
theorem dX1_fill_15 : decode cX1_fill 15 = .ok (.if_icmp .ge 18, 3) := by decide +kernel
theorem dX1_fill_18 : decode cX1_fill 18 = .ok (.iload_n 2, 1) := by decide +kernel
theorem dX1_fill_19 : decode cX1_fill 19 = .ok (.ifCond .lt 14, 3) := by decide +kernel
theorem dX1_fill_22 : decode cX1_fill 22 = .ok (.iload_n 2, 1) := by decide +kernel
theorem dX1_fill_23 : decode cX1_fill 23 = .ok (.sipush 10000, 3) := by decide +kernel
theorem dX1_fill_26 : decode cX1_fill 26 = .ok (.if_icmp .gt 7, 3) := by decide +kernel
theorem dX1_fill_29 : decode cX1_fill 29 = .ok (.iconst 1, 1) := by decide +kernel
theorem dX1_fill_30 : decode cX1_fill 30 = .ok (.goto 4, 3) := by decide +kernel
theorem dX1_fill_33 : decode cX1_fill 33 = .ok (.iconst 0, 1) := by decide +kernel
theorem dX1_fill_34 : decode cX1_fill 34 = .ok (.istore_n 3, 1) := by decide +kernel
theorem dX1_fill_35 : decode cX1_fill 35 = .ok (.iconst 0, 1) := by decide +kernel
theorem dX1_fill_36 : decode cX1_fill 36 = .ok (.istore 4, 2) := by decide +kernel
theorem dX1_fill_38 : decode cX1_fill 38 = .ok (.iload 4, 2) := by decide +kernel
theorem dX1_fill_40 : decode cX1_fill 40 = .ok (.iload_n 2, 1) := by decide +kernel
theorem dX1_fill_41 : decode cX1_fill 41 = .ok (.if_icmp .ge 28, 3) := by decide +kernel
theorem dX1_fill_44 : decode cX1_fill 44 = .ok (.iload_n 3, 1) := by decide +kernel
theorem dX1_fill_45 : decode cX1_fill 45 = .ok (.ifCond .eq 24, 3) := by decide +kernel
theorem dX1_fill_48 : decode cX1_fill 48 = .ok (.aload_n 0, 1) := by decide +kernel
theorem dX1_fill_49 : decode cX1_fill 49 = .ok (.iload_n 1, 1) := by decide +kernel
theorem dX1_fill_50 : decode cX1_fill 50 = .ok (.invokevirtual 65, 3) := by decide +kernel
theorem dX1_fill_53 : decode cX1_fill 53 = .ok (.aload_n 0, 1) := by decide +kernel
theorem dX1_fill_54 : decode cX1_fill 54 = .ok (.dup, 1) := by decide +kernel
theorem dX1_fill_55 : decode cX1_fill 55 = .ok (.getfield 62, 3) := by decide +kernel
theorem dX1_fill_58 : decode cX1_fill 58 = .ok (.iconst 1, 1) := by decide +kernel
theorem dX1_fill_59 : decode cX1_fill 59 = .ok (.iadd, 1) := by decide +kernel
theorem dX1_fill_60 : decode cX1_fill 60 = .ok (.putfield 62, 3) := by decide +kernel
theorem dX1_fill_63 : decode cX1_fill 63 = .ok (.iinc 4 1, 3) := by decide +kernel
theorem dX1_fill_66 : decode cX1_fill 66 = .ok (.goto (-28), 3) := by decide +kernel
theorem dX1_fill_69 : decode cX1_fill 69 = .ok (.iload_n 3, 1) := by decide +kernel
theorem dX1_fill_70 : decode cX1_fill 70 = .ok (.ireturn, 1) := by decide +kernel
theorem dX1_finish_0 : decode cX1_finish 0 = .ok (.aload_n 0, 1) := by decide +kernel
theorem dX1_finish_1 : decode cX1_finish 1 = .ok (.getfield 32, 3) := by decide +kernel
theorem dX1_finish_4 : decode cX1_finish 4 = .ok (.ifCond .ne 5, 3) := by decide +kernel
theorem dX1_finish_7 : decode cX1_finish 7 = .ok (.iconst 0, 1) := by decide +kernel
theorem dX1_finish_8 : decode cX1_finish 8 = .ok (.ireturn, 1) := by decide +kernel
theorem dX1_finish_9 : decode cX1_finish 9 = .ok (.aload_n 0, 1) := by decide +kernel
theorem dX1_finish_10 : decode cX1_finish 10 = .ok (.aload_n 0, 1) := by decide +kernel
theorem dX1_finish_11 : decode cX1_finish 11 = .ok (.getfield 58, 3) := by decide +kernel
theorem dX1_finish_14 : decode cX1_finish 14 = .ok (.aload_n 0, 1) := by decide +kernel
theorem dX1_finish_15 : decode cX1_finish 15 = .ok (.getfield 55, 3) := by decide +kernel
theorem dX1_finish_18 : decode cX1_finish 18 = .ok (.i2l, 1) := by decide +kernel
theorem dX1_finish_19 : decode cX1_finish 19 = .ok (.ladd, 1) := by decide +kernel
theorem dX1_finish_20 : decode cX1_finish 20 = .ok (.putfield 58, 3) := by decide +kernel
theorem dX1_finish_23 : decode cX1_finish 23 = .ok (.aload_n 0, 1) := by decide +kernel
theorem dX1_finish_24 : decode cX1_finish 24 = .ok (.getfield 55, 3) := by decide +kernel
theorem dX1_finish_27 : decode cX1_finish 27 = .ok (.istore_n 1, 1) := by decide +kernel
theorem dX1_finish_28 : decode cX1_finish 28 = .ok (.iload_n 1, 1) := by decide +kernel
theorem dX1_finish_29 : decode cX1_finish 29 = .ok (.bipush 64, 2) := by decide +kernel
theorem dX1_finish_31 : decode cX1_finish 31 = .ok (.if_icmp .ge 16, 3) := by decide +kernel
theorem dX1_finish_34 : decode cX1_finish 34 = .ok (.aload_n 0, 1) := by decide +kernel
theorem dX1_finish_35 : decode cX1_finish 35 = .ok (.getfield 22, 3) := by decide +kernel
theorem dX1_finish_38 : decode cX1_finish 38 = .ok (.iload_n 1, 1) := by decide +kernel
theorem dX1_finish_39 : decode cX1_finish 39 = .ok (.iconst 0, 1) := by decide +kernel
theorem dX1_finish_40 : decode cX1_finish 40 = .ok (.iastore, 1) := by decide +kernel
theorem dX1_finish_41 : decode cX1_finish 41 = .ok (.iinc 1 1, 3) := by decide +kernel
theorem dX1_finish_44 : decode cX1_finish 44 = .ok (.goto (-16), 3) := by decide +kernel
theorem dX1_finish_47 : decode cX1_finish 47 = .ok (.aload_n 0, 1) := by decide +kernel
theorem dX1_finish_48 : decode cX1_finish 48 = .ok (.aload_n 0, 1) := by decide +kernel
theorem dX1_finish_49 : decode cX1_finish 49 = .ok (.getfield 58, 3) := by decide +kernel
theorem dX1_finish_52 : decode cX1_finish 52 = .ok (.iconst 1, 1) := by decide +kernel
theorem dX1_finish_53 : decode cX1_finish 53 = .ok (.invokevirtual 71, 3) := by decide +kernel
theorem dX1_finish_56 : decode cX1_finish 56 = .ok (.aload_n 0, 1) := by decide +kernel
theorem dX1_finish_57 : decode cX1_finish 57 = .ok (.iconst 0, 1) := by decide +kernel
theorem dX1_finish_58 : decode cX1_finish 58 = .ok (.putfield 32, 3) := by decide +kernel
theorem dX1_finish_61 : decode cX1_finish 61 = .ok (.aload_n 0, 1) := by decide +kernel
theorem dX1_finish_62 : decode cX1_finish 62 = .ok (.iconst 1, 1) := by decide +kernel
theorem dX1_finish_63 : decode cX1_finish 63 = .ok (.putfield 35, 3) := by decide +kernel
theorem dX1_finish_66 : decode cX1_finish 66 = .ok (.iconst 1, 1) := by decide +kernel
theorem dX1_finish_67 : decode cX1_finish 67 = .ok (.ireturn, 1) := by decide +kernel
theorem dX1_out_0 : decode cX1_out 0 = .ok (.aload_n 0, 1) := by decide +kernel
theorem dX1_out_1 : decode cX1_out 1 = .ok (.getfield 35, 3) := by decide +kernel
theorem dX1_out_4 : decode cX1_out 4 = .ok (.ifCond .eq 37, 3) := by decide +kernel
theorem dX1_out_7 : decode cX1_out 7 = .ok (.iload_n 1, 1) := by decide +kernel
theorem dX1_out_8 : decode cX1_out 8 = .ok (.ifCond .lt 33, 3) := by decide +kernel
theorem dX1_out_11 : decode cX1_out 11 = .ok (.iload_n 1, 1) := by decide +kernel
theorem dX1_out_12 : decode cX1_out 12 = .ok (.aload_n 0, 1) := by decide +kernel
theorem dX1_out_13 : decode cX1_out 13 = .ok (.getfield 51, 3) := by decide +kernel
theorem dX1_out_16 : decode cX1_out 16 = .ok (.if_icmp .ge 25, 3) := by decide +kernel
theorem dX1_out_19 : decode cX1_out 19 = .ok (.aload_n 0, 1) := by decide +kernel
theorem dX1_out_20 : decode cX1_out 20 = .ok (.getfield 13, 3) := by decide +kernel
theorem dX1_out_23 : decode cX1_out 23 = .ok (.iload_n 1, 1) := by decide +kernel
theorem dX1_out_24 : decode cX1_out 24 = .ok (.iconst 4, 1) := by decide +kernel
theorem dX1_out_25 : decode cX1_out 25 = .ok (.idiv, 1) := by decide +kernel
theorem dX1_out_26 : decode cX1_out 26 = .ok (.iaload, 1) := by decide +kernel
theorem dX1_out_27 : decode cX1_out 27 = .ok (.bipush 8, 2) := by decide +kernel
theorem dX1_out_29 : decode cX1_out 29 = .ok (.iload_n 1, 1) := by decide +kernel
theorem dX1_out_30 : decode cX1_out 30 = .ok (.iconst 4, 1) := by decide +kernel
theorem dX1_out_31 : decode cX1_out 31 = .ok (.irem, 1) := by decide +kernel
theorem dX1_out_32 : decode cX1_out 32 = .ok (.imul, 1) := by decide +kernel
theorem dX1_out_33 : decode cX1_out 33 = .ok (.iushr, 1) := by decide +kernel
theorem dX1_out_34 : decode cX1_out 34 = .ok (.sipush 255, 3) := by decide +kernel
theorem dX1_out_37 : decode cX1_out 37 = .ok (.iand, 1) := by decide +kernel
theorem dX1_out_38 : decode cX1_out 38 = .ok (.goto 4, 3) := by decide +kernel
theorem dX1_out_41 : decode cX1_out 41 = .ok (.iconst (-1), 1) := by decide +kernel
theorem dX1_out_42 : decode cX1_out 42 = .ok (.ireturn, 1) := by decide +kernel
theorem dX1_length_0 : decode cX1_length 0 = .ok (.aload_n 0, 1) := by decide +kernel
theorem dX1_length_1 : decode cX1_length 1 = .ok (.getfield 32, 3) := by decide +kernel
theorem dX1_length_4 : decode cX1_length 4 = .ok (.ifCond .ne 10, 3) := by decide +kernel
theorem dX1_length_7 : decode cX1_length 7 = .ok (.aload_n 0, 1) := by decide +kernel
theorem dX1_length_8 : decode cX1_length 8 = .ok (.getfield 35, 3) := by decide +kernel
theorem dX1_length_11 : decode cX1_length 11 = .ok (.ifCond .eq 10, 3) := by decide +kernel
theorem dX1_length_14 : decode cX1_length 14 = .ok (.aload_n 0, 1) := by decide +kernel
theorem dX1_length_15 : decode cX1_length 15 = .ok (.getfield 62, 3) := by decide +kernel
theorem dX1_length_18 : decode cX1_length 18 = .ok (.goto 4, 3) := by decide +kernel
theorem dX1_length_21 : decode cX1_length 21 = .ok (.iconst (-1), 1) := by decide +kernel
theorem dX1_length_22 : decode cX1_length 22 = .ok (.ireturn, 1) := by decide +kernel
theorem dX1_word_0 : decode cX1_word 0 = .ok (.aload_n 0, 1) := by decide +kernel
theorem dX1_word_1 : decode cX1_word 1 = .ok (.getfield 32, 3) := by decide +kernel
theorem dX1_word_4 : decode cX1_word 4 = .ok (.ifCond .ne 10, 3) := by decide +kernel
theorem dX1_word_7 : decode cX1_word 7 = .ok (.aload_n 0, 1) := by decide +kernel
theorem dX1_word_8 : decode cX1_word 8 = .ok (.getfield 35, 3) := by decide +kernel
theorem dX1_word_11 : decode cX1_word 11 = .ok (.ifCond .eq 22, 3) := by decide +kernel
theorem dX1_word_14 : decode cX1_word 14 = .ok (.iload_n 1, 1) := by decide +kernel
theorem dX1_word_15 : decode cX1_word 15 = .ok (.ifCond .lt 18, 3) := by decide +kernel
theorem dX1_word_18 : decode cX1_word 18 = .ok (.iload_n 1, 1) := by decide +kernel
theorem dX1_word_19 : decode cX1_word 19 = .ok (.bipush 8, 2) := by decide +kernel
theorem dX1_word_21 : decode cX1_word 21 = .ok (.if_icmp .ge 12, 3) := by decide +kernel
theorem dX1_word_24 : decode cX1_word 24 = .ok (.aload_n 0, 1) := by decide +kernel
theorem dX1_word_25 : decode cX1_word 25 = .ok (.getfield 13, 3) := by decide +kernel
theorem dX1_word_28 : decode cX1_word 28 = .ok (.iload_n 1, 1) := by decide +kernel
theorem dX1_word_29 : decode cX1_word 29 = .ok (.iaload, 1) := by decide +kernel
theorem dX1_word_30 : decode cX1_word 30 = .ok (.goto 4, 3) := by decide +kernel
theorem dX1_word_33 : decode cX1_word 33 = .ok (.iconst 0, 1) := by decide +kernel
theorem dX1_word_34 : decode cX1_word 34 = .ok (.ireturn, 1) := by decide +kernel
end
section
set_option maxRecDepth 100000
theorem dX1_init_0 : decode cX1_init 0 = .ok (.aload_n 0, 1) := by decide +kernel
theorem dX1_init_1 : decode cX1_init 1 = .ok (.invokespecial 1, 3) := by decide +kernel
theorem dX1_init_4 : decode cX1_init 4 = .ok (.aload_n 0, 1) := by decide +kernel
theorem dX1_init_5 : decode cX1_init 5 = .ok (.bipush 32, 2) := by decide +kernel
theorem dX1_init_7 : decode cX1_init 7 = .ok (.newarray .int, 2) := by decide +kernel
theorem dX1_init_9 : decode cX1_init 9 = .ok (.putfield 7, 3) := by decide +kernel
theorem dX1_init_12 : decode cX1_init 12 = .ok (.aload_n 0, 1) := by decide +kernel
theorem dX1_init_13 : decode cX1_init 13 = .ok (.bipush 8, 2) := by decide +kernel
theorem dX1_init_15 : decode cX1_init 15 = .ok (.newarray .int, 2) := by decide +kernel
theorem dX1_init_17 : decode cX1_init 17 = .ok (.putfield 13, 3) := by decide +kernel
theorem dX1_init_20 : decode cX1_init 20 = .ok (.aload_n 0, 1) := by decide +kernel
theorem dX1_init_21 : decode cX1_init 21 = .ok (.bipush 16, 2) := by decide +kernel
theorem dX1_init_23 : decode cX1_init 23 = .ok (.newarray .int, 2) := by decide +kernel
theorem dX1_init_25 : decode cX1_init 25 = .ok (.putfield 16, 3) := by decide +kernel
theorem dX1_init_28 : decode cX1_init 28 = .ok (.aload_n 0, 1) := by decide +kernel
theorem dX1_init_29 : decode cX1_init 29 = .ok (.bipush 16, 2) := by decide +kernel
theorem dX1_init_31 : decode cX1_init 31 = .ok (.newarray .int, 2) := by decide +kernel
theorem dX1_init_33 : decode cX1_init 33 = .ok (.putfield 19, 3) := by decide +kernel
theorem dX1_init_36 : decode cX1_init 36 = .ok (.aload_n 0, 1) := by decide +kernel
theorem dX1_init_37 : decode cX1_init 37 = .ok (.bipush 64, 2) := by decide +kernel
theorem dX1_init_39 : decode cX1_init 39 = .ok (.newarray .int, 2) := by decide +kernel
theorem dX1_init_41 : decode cX1_init 41 = .ok (.putfield 22, 3) := by decide +kernel
theorem dX1_init_44 : decode cX1_init 44 = .ok (.aload_n 0, 1) := by decide +kernel
theorem dX1_init_45 : decode cX1_init 45 = .ok (.sipush 160, 3) := by decide +kernel
theorem dX1_init_48 : decode cX1_init 48 = .ok (.newarray .int, 2) := by decide +kernel
theorem dX1_init_50 : decode cX1_init 50 = .ok (.dup, 1) := by decide +kernel
theorem dX1_init_51 : decode cX1_init 51 = .ok (.iconst 0, 1) := by decide +kernel
theorem dX1_init_52 : decode cX1_init 52 = .ok (.iconst 0, 1) := by decide +kernel
theorem dX1_init_53 : decode cX1_init 53 = .ok (.iastore, 1) := by decide +kernel
theorem dX1_init_54 : decode cX1_init 54 = .ok (.dup, 1) := by decide +kernel
theorem dX1_init_55 : decode cX1_init 55 = .ok (.iconst 1, 1) := by decide +kernel
theorem dX1_init_56 : decode cX1_init 56 = .ok (.iconst 1, 1) := by decide +kernel
theorem dX1_init_57 : decode cX1_init 57 = .ok (.iastore, 1) := by decide +kernel
theorem dX1_init_58 : decode cX1_init 58 = .ok (.dup, 1) := by decide +kernel
theorem dX1_init_59 : decode cX1_init 59 = .ok (.iconst 2, 1) := by decide +kernel
theorem dX1_init_60 : decode cX1_init 60 = .ok (.iconst 2, 1) := by decide +kernel
theorem dX1_init_61 : decode cX1_init 61 = .ok (.iastore, 1) := by decide +kernel
theorem dX1_init_62 : decode cX1_init 62 = .ok (.dup, 1) := by decide +kernel
theorem dX1_init_63 : decode cX1_init 63 = .ok (.iconst 3, 1) := by decide +kernel
theorem dX1_init_64 : decode cX1_init 64 = .ok (.iconst 3, 1) := by decide +kernel
theorem dX1_init_65 : decode cX1_init 65 = .ok (.iastore, 1) := by decide +kernel
theorem dX1_init_66 : decode cX1_init 66 = .ok (.dup, 1) := by decide +kernel
theorem dX1_init_67 : decode cX1_init 67 = .ok (.iconst 4, 1) := by decide +kernel
theorem dX1_init_68 : decode cX1_init 68 = .ok (.iconst 4, 1) := by decide +kernel
theorem dX1_init_69 : decode cX1_init 69 = .ok (.iastore, 1) := by decide +kernel
theorem dX1_init_70 : decode cX1_init 70 = .ok (.dup, 1) := by decide +kernel
theorem dX1_init_71 : decode cX1_init 71 = .ok (.iconst 5, 1) := by decide +kernel
theorem dX1_init_72 : decode cX1_init 72 = .ok (.iconst 5, 1) := by decide +kernel
theorem dX1_init_73 : decode cX1_init 73 = .ok (.iastore, 1) := by decide +kernel
theorem dX1_init_74 : decode cX1_init 74 = .ok (.dup, 1) := by decide +kernel
theorem dX1_init_75 : decode cX1_init 75 = .ok (.bipush 6, 2) := by decide +kernel
theorem dX1_init_77 : decode cX1_init 77 = .ok (.bipush 6, 2) := by decide +kernel
theorem dX1_init_79 : decode cX1_init 79 = .ok (.iastore, 1) := by decide +kernel
theorem dX1_init_80 : decode cX1_init 80 = .ok (.dup, 1) := by decide +kernel
theorem dX1_init_81 : decode cX1_init 81 = .ok (.bipush 7, 2) := by decide +kernel
theorem dX1_init_83 : decode cX1_init 83 = .ok (.bipush 7, 2) := by decide +kernel
theorem dX1_init_85 : decode cX1_init 85 = .ok (.iastore, 1) := by decide +kernel
theorem dX1_init_86 : decode cX1_init 86 = .ok (.dup, 1) := by decide +kernel
theorem dX1_init_87 : decode cX1_init 87 = .ok (.bipush 8, 2) := by decide +kernel
theorem dX1_init_89 : decode cX1_init 89 = .ok (.bipush 8, 2) := by decide +kernel
theorem dX1_init_91 : decode cX1_init 91 = .ok (.iastore, 1) := by decide +kernel
theorem dX1_init_92 : decode cX1_init 92 = .ok (.dup, 1) := by decide +kernel
theorem dX1_init_93 : decode cX1_init 93 = .ok (.bipush 9, 2) := by decide +kernel
theorem dX1_init_95 : decode cX1_init 95 = .ok (.bipush 9, 2) := by decide +kernel
theorem dX1_init_97 : decode cX1_init 97 = .ok (.iastore, 1) := by decide +kernel
theorem dX1_init_98 : decode cX1_init 98 = .ok (.dup, 1) := by decide +kernel
theorem dX1_init_99 : decode cX1_init 99 = .ok (.bipush 10, 2) := by decide +kernel
theorem dX1_init_101 : decode cX1_init 101 = .ok (.bipush 10, 2) := by decide +kernel
theorem dX1_init_103 : decode cX1_init 103 = .ok (.iastore, 1) := by decide +kernel
theorem dX1_init_104 : decode cX1_init 104 = .ok (.dup, 1) := by decide +kernel
theorem dX1_init_105 : decode cX1_init 105 = .ok (.bipush 11, 2) := by decide +kernel
theorem dX1_init_107 : decode cX1_init 107 = .ok (.bipush 11, 2) := by decide +kernel
theorem dX1_init_109 : decode cX1_init 109 = .ok (.iastore, 1) := by decide +kernel
theorem dX1_init_110 : decode cX1_init 110 = .ok (.dup, 1) := by decide +kernel
theorem dX1_init_111 : decode cX1_init 111 = .ok (.bipush 12, 2) := by decide +kernel
theorem dX1_init_113 : decode cX1_init 113 = .ok (.bipush 12, 2) := by decide +kernel
theorem dX1_init_115 : decode cX1_init 115 = .ok (.iastore, 1) := by decide +kernel
theorem dX1_init_116 : decode cX1_init 116 = .ok (.dup, 1) := by decide +kernel
theorem dX1_init_117 : decode cX1_init 117 = .ok (.bipush 13, 2) := by decide +kernel
theorem dX1_init_119 : decode cX1_init 119 = .ok (.bipush 13, 2) := by decide +kernel
theorem dX1_init_121 : decode cX1_init 121 = .ok (.iastore, 1) := by decide +kernel
theorem dX1_init_122 : decode cX1_init 122 = .ok (.dup, 1) := by decide +kernel
theorem dX1_init_123 : decode cX1_init 123 = .ok (.bipush 14, 2) := by decide +kernel
theorem dX1_init_125 : decode cX1_init 125 = .ok (.bipush 14, 2) := by decide +kernel
theorem dX1_init_127 : decode cX1_init 127 = .ok (.iastore, 1) := by decide +kernel
theorem dX1_init_128 : decode cX1_init 128 = .ok (.dup, 1) := by decide +kernel
theorem dX1_init_129 : decode cX1_init 129 = .ok (.bipush 15, 2) := by decide +kernel
theorem dX1_init_131 : decode cX1_init 131 = .ok (.bipush 15, 2) := by decide +kernel
theorem dX1_init_133 : decode cX1_init 133 = .ok (.iastore, 1) := by decide +kernel
theorem dX1_init_134 : decode cX1_init 134 = .ok (.dup, 1) := by decide +kernel
theorem dX1_init_135 : decode cX1_init 135 = .ok (.bipush 16, 2) := by decide +kernel
theorem dX1_init_137 : decode cX1_init 137 = .ok (.bipush 14, 2) := by decide +kernel
theorem dX1_init_139 : decode cX1_init 139 = .ok (.iastore, 1) := by decide +kernel
theorem dX1_init_140 : decode cX1_init 140 = .ok (.dup, 1) := by decide +kernel
theorem dX1_init_141 : decode cX1_init 141 = .ok (.bipush 17, 2) := by decide +kernel
theorem dX1_init_143 : decode cX1_init 143 = .ok (.bipush 10, 2) := by decide +kernel
theorem dX1_init_145 : decode cX1_init 145 = .ok (.iastore, 1) := by decide +kernel
theorem dX1_init_146 : decode cX1_init 146 = .ok (.dup, 1) := by decide +kernel
theorem dX1_init_147 : decode cX1_init 147 = .ok (.bipush 18, 2) := by decide +kernel
theorem dX1_init_149 : decode cX1_init 149 = .ok (.iconst 4, 1) := by decide +kernel
theorem dX1_init_150 : decode cX1_init 150 = .ok (.iastore, 1) := by decide +kernel
theorem dX1_init_151 : decode cX1_init 151 = .ok (.dup, 1) := by decide +kernel
theorem dX1_init_152 : decode cX1_init 152 = .ok (.bipush 19, 2) := by decide +kernel
theorem dX1_init_154 : decode cX1_init 154 = .ok (.bipush 8, 2) := by decide +kernel
theorem dX1_init_156 : decode cX1_init 156 = .ok (.iastore, 1) := by decide +kernel
theorem dX1_init_157 : decode cX1_init 157 = .ok (.dup, 1) := by decide +kernel
theorem dX1_init_158 : decode cX1_init 158 = .ok (.bipush 20, 2) := by decide +kernel
theorem dX1_init_160 : decode cX1_init 160 = .ok (.bipush 9, 2) := by decide +kernel
theorem dX1_init_162 : decode cX1_init 162 = .ok (.iastore, 1) := by decide +kernel
theorem dX1_init_163 : decode cX1_init 163 = .ok (.dup, 1) := by decide +kernel
theorem dX1_init_164 : decode cX1_init 164 = .ok (.bipush 21, 2) := by decide +kernel
theorem dX1_init_166 : decode cX1_init 166 = .ok (.bipush 15, 2) := by decide +kernel
theorem dX1_init_168 : decode cX1_init 168 = .ok (.iastore, 1) := by decide +kernel
theorem dX1_init_169 : decode cX1_init 169 = .ok (.dup, 1) := by decide +kernel
theorem dX1_init_170 : decode cX1_init 170 = .ok (.bipush 22, 2) := by decide +kernel
theorem dX1_init_172 : decode cX1_init 172 = .ok (.bipush 13, 2) := by decide +kernel
theorem dX1_init_174 : decode cX1_init 174 = .ok (.iastore, 1) := by decide +kernel
theorem dX1_init_175 : decode cX1_init 175 = .ok (.dup, 1) := by decide +kernel
theorem dX1_init_176 : decode cX1_init 176 = .ok (.bipush 23, 2) := by decide +kernel
theorem dX1_init_178 : decode cX1_init 178 = .ok (.bipush 6, 2) := by decide +kernel
theorem dX1_init_180 : decode cX1_init 180 = .ok (.iastore, 1) := by decide +kernel
theorem dX1_init_181 : decode cX1_init 181 = .ok (.dup, 1) := by decide +kernel
theorem dX1_init_182 : decode cX1_init 182 = .ok (.bipush 24, 2) := by decide +kernel
theorem dX1_init_184 : decode cX1_init 184 = .ok (.iconst 1, 1) := by decide +kernel
theorem dX1_init_185 : decode cX1_init 185 = .ok (.iastore, 1) := by decide +kernel
theorem dX1_init_186 : decode cX1_init 186 = .ok (.dup, 1) := by decide +kernel
theorem dX1_init_187 : decode cX1_init 187 = .ok (.bipush 25, 2) := by decide +kernel
theorem dX1_init_189 : decode cX1_init 189 = .ok (.bipush 12, 2) := by decide +kernel
theorem dX1_init_191 : decode cX1_init 191 = .ok (.iastore, 1) := by decide +kernel
theorem dX1_init_192 : decode cX1_init 192 = .ok (.dup, 1) := by decide +kernel
theorem dX1_init_193 : decode cX1_init 193 = .ok (.bipush 26, 2) := by decide +kernel
theorem dX1_init_195 : decode cX1_init 195 = .ok (.iconst 0, 1) := by decide +kernel
theorem dX1_init_196 : decode cX1_init 196 = .ok (.iastore, 1) := by decide +kernel
theorem dX1_init_197 : decode cX1_init 197 = .ok (.dup, 1) := by decide +kernel
theorem dX1_init_198 : decode cX1_init 198 = .ok (.bipush 27, 2) := by decide +kernel
theorem dX1_init_200 : decode cX1_init 200 = .ok (.iconst 2, 1) := by decide +kernel
theorem dX1_init_201 : decode cX1_init 201 = .ok (.iastore, 1) := by decide +kernel
theorem dX1_init_202 : decode cX1_init 202 = .ok (.dup, 1) := by decide +kernel
theorem dX1_init_203 : decode cX1_init 203 = .ok (.bipush 28, 2) := by decide +kernel
theorem dX1_init_205 : decode cX1_init 205 = .ok (.bipush 11, 2) := by decide +kernel
theorem dX1_init_207 : decode cX1_init 207 = .ok (.iastore, 1) := by decide +kernel
theorem dX1_init_208 : decode cX1_init 208 = .ok (.dup, 1) := by decide +kernel
theorem dX1_init_209 : decode cX1_init 209 = .ok (.bipush 29, 2) := by decide +kernel
theorem dX1_init_211 : decode cX1_init 211 = .ok (.bipush 7, 2) := by decide +kernel
theorem dX1_init_213 : decode cX1_init 213 = .ok (.iastore, 1) := by decide +kernel
theorem dX1_init_214 : decode cX1_init 214 = .ok (.dup, 1) := by decide +kernel
theorem dX1_init_215 : decode cX1_init 215 = .ok (.bipush 30, 2) := by decide +kernel
theorem dX1_init_217 : decode cX1_init 217 = .ok (.iconst 5, 1) := by decide +kernel
theorem dX1_init_218 : decode cX1_init 218 = .ok (.iastore, 1) := by decide +kernel
theorem dX1_init_219 : decode cX1_init 219 = .ok (.dup, 1) := by decide +kernel
theorem dX1_init_220 : decode cX1_init 220 = .ok (.bipush 31, 2) := by decide +kernel
theorem dX1_init_222 : decode cX1_init 222 = .ok (.iconst 3, 1) := by decide +kernel
theorem dX1_init_223 : decode cX1_init 223 = .ok (.iastore, 1) := by decide +kernel
theorem dX1_init_224 : decode cX1_init 224 = .ok (.dup, 1) := by decide +kernel
theorem dX1_init_225 : decode cX1_init 225 = .ok (.bipush 32, 2) := by decide +kernel
theorem dX1_init_227 : decode cX1_init 227 = .ok (.bipush 11, 2) := by decide +kernel
theorem dX1_init_229 : decode cX1_init 229 = .ok (.iastore, 1) := by decide +kernel
theorem dX1_init_230 : decode cX1_init 230 = .ok (.dup, 1) := by decide +kernel
theorem dX1_init_231 : decode cX1_init 231 = .ok (.bipush 33, 2) := by decide +kernel
theorem dX1_init_233 : decode cX1_init 233 = .ok (.bipush 8, 2) := by decide +kernel
theorem dX1_init_235 : decode cX1_init 235 = .ok (.iastore, 1) := by decide +kernel
theorem dX1_init_236 : decode cX1_init 236 = .ok (.dup, 1) := by decide +kernel
theorem dX1_init_237 : decode cX1_init 237 = .ok (.bipush 34, 2) := by decide +kernel
theorem dX1_init_239 : decode cX1_init 239 = .ok (.bipush 12, 2) := by decide +kernel
theorem dX1_init_241 : decode cX1_init 241 = .ok (.iastore, 1) := by decide +kernel
theorem dX1_init_242 : decode cX1_init 242 = .ok (.dup, 1) := by decide +kernel
theorem dX1_init_243 : decode cX1_init 243 = .ok (.bipush 35, 2) := by decide +kernel
theorem dX1_init_245 : decode cX1_init 245 = .ok (.iconst 0, 1) := by decide +kernel
theorem dX1_init_246 : decode cX1_init 246 = .ok (.iastore, 1) := by decide +kernel
theorem dX1_init_247 : decode cX1_init 247 = .ok (.dup, 1) := by decide +kernel
end
section
set_option maxRecDepth 100000
theorem dX1_init_248 : decode cX1_init 248 = .ok (.bipush 36, 2) := by decide +kernel
theorem dX1_init_250 : decode cX1_init 250 = .ok (.iconst 5, 1) := by decide +kernel
theorem dX1_init_251 : decode cX1_init 251 = .ok (.iastore, 1) := by decide +kernel
theorem dX1_init_252 : decode cX1_init 252 = .ok (.dup, 1) := by decide +kernel
theorem dX1_init_253 : decode cX1_init 253 = .ok (.bipush 37, 2) := by decide +kernel
theorem dX1_init_255 : decode cX1_init 255 = .ok (.iconst 2, 1) := by decide +kernel
theorem dX1_init_256 : decode cX1_init 256 = .ok (.iastore, 1) := by decide +kernel
theorem dX1_init_257 : decode cX1_init 257 = .ok (.dup, 1) := by decide +kernel
theorem dX1_init_258 : decode cX1_init 258 = .ok (.bipush 38, 2) := by decide +kernel
theorem dX1_init_260 : decode cX1_init 260 = .ok (.bipush 15, 2) := by decide +kernel
theorem dX1_init_262 : decode cX1_init 262 = .ok (.iastore, 1) := by decide +kernel
theorem dX1_init_263 : decode cX1_init 263 = .ok (.dup, 1) := by decide +kernel
theorem dX1_init_264 : decode cX1_init 264 = .ok (.bipush 39, 2) := by decide +kernel
theorem dX1_init_266 : decode cX1_init 266 = .ok (.bipush 13, 2) := by decide +kernel
theorem dX1_init_268 : decode cX1_init 268 = .ok (.iastore, 1) := by decide +kernel
theorem dX1_init_269 : decode cX1_init 269 = .ok (.dup, 1) := by decide +kernel
theorem dX1_init_270 : decode cX1_init 270 = .ok (.bipush 40, 2) := by decide +kernel
theorem dX1_init_272 : decode cX1_init 272 = .ok (.bipush 10, 2) := by decide +kernel
theorem dX1_init_274 : decode cX1_init 274 = .ok (.iastore, 1) := by decide +kernel
theorem dX1_init_275 : decode cX1_init 275 = .ok (.dup, 1) := by decide +kernel
theorem dX1_init_276 : decode cX1_init 276 = .ok (.bipush 41, 2) := by decide +kernel
theorem dX1_init_278 : decode cX1_init 278 = .ok (.bipush 14, 2) := by decide +kernel
theorem dX1_init_280 : decode cX1_init 280 = .ok (.iastore, 1) := by decide +kernel
theorem dX1_init_281 : decode cX1_init 281 = .ok (.dup, 1) := by decide +kernel
theorem dX1_init_282 : decode cX1_init 282 = .ok (.bipush 42, 2) := by decide +kernel
theorem dX1_init_284 : decode cX1_init 284 = .ok (.iconst 3, 1) := by decide +kernel
theorem dX1_init_285 : decode cX1_init 285 = .ok (.iastore, 1) := by decide +kernel
theorem dX1_init_286 : decode cX1_init 286 = .ok (.dup, 1) := by decide +kernel
theorem dX1_init_287 : decode cX1_init 287 = .ok (.bipush 43, 2) := by decide +kernel
theorem dX1_init_289 : decode cX1_init 289 = .ok (.bipush 6, 2) := by decide +kernel
theorem dX1_init_291 : decode cX1_init 291 = .ok (.iastore, 1) := by decide +kernel
theorem dX1_init_292 : decode cX1_init 292 = .ok (.dup, 1) := by decide +kernel
theorem dX1_init_293 : decode cX1_init 293 = .ok (.bipush 44, 2) := by decide +kernel
theorem dX1_init_295 : decode cX1_init 295 = .ok (.bipush 7, 2) := by decide +kernel
theorem dX1_init_297 : decode cX1_init 297 = .ok (.iastore, 1) := by decide +kernel
theorem dX1_init_298 : decode cX1_init 298 = .ok (.dup, 1) := by decide +kernel
theorem dX1_init_299 : decode cX1_init 299 = .ok (.bipush 45, 2) := by decide +kernel
theorem dX1_init_301 : decode cX1_init 301 = .ok (.iconst 1, 1) := by decide +kernel
theorem dX1_init_302 : decode cX1_init 302 = .ok (.iastore, 1) := by decide +kernel
theorem dX1_init_303 : decode cX1_init 303 = .ok (.dup, 1) := by decide +kernel
theorem dX1_init_304 : decode cX1_init 304 = .ok (.bipush 46, 2) := by decide +kernel
theorem dX1_init_306 : decode cX1_init 306 = .ok (.bipush 9, 2) := by decide +kernel
theorem dX1_init_308 : decode cX1_init 308 = .ok (.iastore, 1) := by decide +kernel
theorem dX1_init_309 : decode cX1_init 309 = .ok (.dup, 1) := by decide +kernel
theorem dX1_init_310 : decode cX1_init 310 = .ok (.bipush 47, 2) := by decide +kernel
theorem dX1_init_312 : decode cX1_init 312 = .ok (.iconst 4, 1) := by decide +kernel
theorem dX1_init_313 : decode cX1_init 313 = .ok (.iastore, 1) := by decide +kernel
theorem dX1_init_314 : decode cX1_init 314 = .ok (.dup, 1) := by decide +kernel
theorem dX1_init_315 : decode cX1_init 315 = .ok (.bipush 48, 2) := by decide +kernel
theorem dX1_init_317 : decode cX1_init 317 = .ok (.bipush 7, 2) := by decide +kernel
theorem dX1_init_319 : decode cX1_init 319 = .ok (.iastore, 1) := by decide +kernel
theorem dX1_init_320 : decode cX1_init 320 = .ok (.dup, 1) := by decide +kernel
theorem dX1_init_321 : decode cX1_init 321 = .ok (.bipush 49, 2) := by decide +kernel
theorem dX1_init_323 : decode cX1_init 323 = .ok (.bipush 9, 2) := by decide +kernel
theorem dX1_init_325 : decode cX1_init 325 = .ok (.iastore, 1) := by decide +kernel
theorem dX1_init_326 : decode cX1_init 326 = .ok (.dup, 1) := by decide +kernel
theorem dX1_init_327 : decode cX1_init 327 = .ok (.bipush 50, 2) := by decide +kernel
theorem dX1_init_329 : decode cX1_init 329 = .ok (.iconst 3, 1) := by decide +kernel
theorem dX1_init_330 : decode cX1_init 330 = .ok (.iastore, 1) := by decide +kernel
theorem dX1_init_331 : decode cX1_init 331 = .ok (.dup, 1) := by decide +kernel
theorem dX1_init_332 : decode cX1_init 332 = .ok (.bipush 51, 2) := by decide +kernel
theorem dX1_init_334 : decode cX1_init 334 = .ok (.iconst 1, 1) := by decide +kernel
theorem dX1_init_335 : decode cX1_init 335 = .ok (.iastore, 1) := by decide +kernel
theorem dX1_init_336 : decode cX1_init 336 = .ok (.dup, 1) := by decide +kernel
theorem dX1_init_337 : decode cX1_init 337 = .ok (.bipush 52, 2) := by decide +kernel
theorem dX1_init_339 : decode cX1_init 339 = .ok (.bipush 13, 2) := by decide +kernel
theorem dX1_init_341 : decode cX1_init 341 = .ok (.iastore, 1) := by decide +kernel
theorem dX1_init_342 : decode cX1_init 342 = .ok (.dup, 1) := by decide +kernel
theorem dX1_init_343 : decode cX1_init 343 = .ok (.bipush 53, 2) := by decide +kernel
theorem dX1_init_345 : decode cX1_init 345 = .ok (.bipush 12, 2) := by decide +kernel
theorem dX1_init_347 : decode cX1_init 347 = .ok (.iastore, 1) := by decide +kernel
theorem dX1_init_348 : decode cX1_init 348 = .ok (.dup, 1) := by decide +kernel
theorem dX1_init_349 : decode cX1_init 349 = .ok (.bipush 54, 2) := by decide +kernel
theorem dX1_init_351 : decode cX1_init 351 = .ok (.bipush 11, 2) := by decide +kernel
theorem dX1_init_353 : decode cX1_init 353 = .ok (.iastore, 1) := by decide +kernel
theorem dX1_init_354 : decode cX1_init 354 = .ok (.dup, 1) := by decide +kernel
theorem dX1_init_355 : decode cX1_init 355 = .ok (.bipush 55, 2) := by decide +kernel
theorem dX1_init_357 : decode cX1_init 357 = .ok (.bipush 14, 2) := by decide +kernel
theorem dX1_init_359 : decode cX1_init 359 = .ok (.iastore, 1) := by decide +kernel
theorem dX1_init_360 : decode cX1_init 360 = .ok (.dup, 1) := by decide +kernel
theorem dX1_init_361 : decode cX1_init 361 = .ok (.bipush 56, 2) := by decide +kernel
theorem dX1_init_363 : decode cX1_init 363 = .ok (.iconst 2, 1) := by decide +kernel
theorem dX1_init_364 : decode cX1_init 364 = .ok (.iastore, 1) := by decide +kernel
theorem dX1_init_365 : decode cX1_init 365 = .ok (.dup, 1) := by decide +kernel
theorem dX1_init_366 : decode cX1_init 366 = .ok (.bipush 57, 2) := by decide +kernel
theorem dX1_init_368 : decode cX1_init 368 = .ok (.bipush 6, 2) := by decide +kernel
theorem dX1_init_370 : decode cX1_init 370 = .ok (.iastore, 1) := by decide +kernel
theorem dX1_init_371 : decode cX1_init 371 = .ok (.dup, 1) := by decide +kernel
theorem dX1_init_372 : decode cX1_init 372 = .ok (.bipush 58, 2) := by decide +kernel
theorem dX1_init_374 : decode cX1_init 374 = .ok (.iconst 5, 1) := by decide +kernel
theorem dX1_init_375 : decode cX1_init 375 = .ok (.iastore, 1) := by decide +kernel
theorem dX1_init_376 : decode cX1_init 376 = .ok (.dup, 1) := by decide +kernel
theorem dX1_init_377 : decode cX1_init 377 = .ok (.bipush 59, 2) := by decide +kernel
theorem dX1_init_379 : decode cX1_init 379 = .ok (.bipush 10, 2) := by decide +kernel
theorem dX1_init_381 : decode cX1_init 381 = .ok (.iastore, 1) := by decide +kernel
theorem dX1_init_382 : decode cX1_init 382 = .ok (.dup, 1) := by decide +kernel
theorem dX1_init_383 : decode cX1_init 383 = .ok (.bipush 60, 2) := by decide +kernel
theorem dX1_init_385 : decode cX1_init 385 = .ok (.iconst 4, 1) := by decide +kernel
theorem dX1_init_386 : decode cX1_init 386 = .ok (.iastore, 1) := by decide +kernel
theorem dX1_init_387 : decode cX1_init 387 = .ok (.dup, 1) := by decide +kernel
theorem dX1_init_388 : decode cX1_init 388 = .ok (.bipush 61, 2) := by decide +kernel
theorem dX1_init_390 : decode cX1_init 390 = .ok (.iconst 0, 1) := by decide +kernel
theorem dX1_init_391 : decode cX1_init 391 = .ok (.iastore, 1) := by decide +kernel
theorem dX1_init_392 : decode cX1_init 392 = .ok (.dup, 1) := by decide +kernel
theorem dX1_init_393 : decode cX1_init 393 = .ok (.bipush 62, 2) := by decide +kernel
theorem dX1_init_395 : decode cX1_init 395 = .ok (.bipush 15, 2) := by decide +kernel
theorem dX1_init_397 : decode cX1_init 397 = .ok (.iastore, 1) := by decide +kernel
theorem dX1_init_398 : decode cX1_init 398 = .ok (.dup, 1) := by decide +kernel
theorem dX1_init_399 : decode cX1_init 399 = .ok (.bipush 63, 2) := by decide +kernel
theorem dX1_init_401 : decode cX1_init 401 = .ok (.bipush 8, 2) := by decide +kernel
theorem dX1_init_403 : decode cX1_init 403 = .ok (.iastore, 1) := by decide +kernel
theorem dX1_init_404 : decode cX1_init 404 = .ok (.dup, 1) := by decide +kernel
theorem dX1_init_405 : decode cX1_init 405 = .ok (.bipush 64, 2) := by decide +kernel
theorem dX1_init_407 : decode cX1_init 407 = .ok (.bipush 9, 2) := by decide +kernel
theorem dX1_init_409 : decode cX1_init 409 = .ok (.iastore, 1) := by decide +kernel
theorem dX1_init_410 : decode cX1_init 410 = .ok (.dup, 1) := by decide +kernel
theorem dX1_init_411 : decode cX1_init 411 = .ok (.bipush 65, 2) := by decide +kernel
theorem dX1_init_413 : decode cX1_init 413 = .ok (.iconst 0, 1) := by decide +kernel
theorem dX1_init_414 : decode cX1_init 414 = .ok (.iastore, 1) := by decide +kernel
theorem dX1_init_415 : decode cX1_init 415 = .ok (.dup, 1) := by decide +kernel
theorem dX1_init_416 : decode cX1_init 416 = .ok (.bipush 66, 2) := by decide +kernel
theorem dX1_init_418 : decode cX1_init 418 = .ok (.iconst 5, 1) := by decide +kernel
theorem dX1_init_419 : decode cX1_init 419 = .ok (.iastore, 1) := by decide +kernel
theorem dX1_init_420 : decode cX1_init 420 = .ok (.dup, 1) := by decide +kernel
theorem dX1_init_421 : decode cX1_init 421 = .ok (.bipush 67, 2) := by decide +kernel
theorem dX1_init_423 : decode cX1_init 423 = .ok (.bipush 7, 2) := by decide +kernel
theorem dX1_init_425 : decode cX1_init 425 = .ok (.iastore, 1) := by decide +kernel
theorem dX1_init_426 : decode cX1_init 426 = .ok (.dup, 1) := by decide +kernel
theorem dX1_init_427 : decode cX1_init 427 = .ok (.bipush 68, 2) := by decide +kernel
theorem dX1_init_429 : decode cX1_init 429 = .ok (.iconst 2, 1) := by decide +kernel
theorem dX1_init_430 : decode cX1_init 430 = .ok (.iastore, 1) := by decide +kernel
theorem dX1_init_431 : decode cX1_init 431 = .ok (.dup, 1) := by decide +kernel
theorem dX1_init_432 : decode cX1_init 432 = .ok (.bipush 69, 2) := by decide +kernel
theorem dX1_init_434 : decode cX1_init 434 = .ok (.iconst 4, 1) := by decide +kernel
theorem dX1_init_435 : decode cX1_init 435 = .ok (.iastore, 1) := by decide +kernel
theorem dX1_init_436 : decode cX1_init 436 = .ok (.dup, 1) := by decide +kernel
theorem dX1_init_437 : decode cX1_init 437 = .ok (.bipush 70, 2) := by decide +kernel
theorem dX1_init_439 : decode cX1_init 439 = .ok (.bipush 10, 2) := by decide +kernel
theorem dX1_init_441 : decode cX1_init 441 = .ok (.iastore, 1) := by decide +kernel
theorem dX1_init_442 : decode cX1_init 442 = .ok (.dup, 1) := by decide +kernel
theorem dX1_init_443 : decode cX1_init 443 = .ok (.bipush 71, 2) := by decide +kernel
theorem dX1_init_445 : decode cX1_init 445 = .ok (.bipush 15, 2) := by decide +kernel
theorem dX1_init_447 : decode cX1_init 447 = .ok (.iastore, 1) := by decide +kernel
theorem dX1_init_448 : decode cX1_init 448 = .ok (.dup, 1) := by decide +kernel
theorem dX1_init_449 : decode cX1_init 449 = .ok (.bipush 72, 2) := by decide +kernel
theorem dX1_init_451 : decode cX1_init 451 = .ok (.bipush 14, 2) := by decide +kernel
theorem dX1_init_453 : decode cX1_init 453 = .ok (.iastore, 1) := by decide +kernel
theorem dX1_init_454 : decode cX1_init 454 = .ok (.dup, 1) := by decide +kernel
theorem dX1_init_455 : decode cX1_init 455 = .ok (.bipush 73, 2) := by decide +kernel
theorem dX1_init_457 : decode cX1_init 457 = .ok (.iconst 1, 1) := by decide +kernel
theorem dX1_init_458 : decode cX1_init 458 = .ok (.iastore, 1) := by decide +kernel
theorem dX1_init_459 : decode cX1_init 459 = .ok (.dup, 1) := by decide +kernel
theorem dX1_init_460 : decode cX1_init 460 = .ok (.bipush 74, 2) := by decide +kernel
theorem dX1_init_462 : decode cX1_init 462 = .ok (.bipush 11, 2) := by decide +kernel
theorem dX1_init_464 : decode cX1_init 464 = .ok (.iastore, 1) := by decide +kernel
theorem dX1_init_465 : decode cX1_init 465 = .ok (.dup, 1) := by decide +kernel
theorem dX1_init_466 : decode cX1_init 466 = .ok (.bipush 75, 2) := by decide +kernel
theorem dX1_init_468 : decode cX1_init 468 = .ok (.bipush 12, 2) := by decide +kernel
theorem dX1_init_470 : decode cX1_init 470 = .ok (.iastore, 1) := by decide +kernel
theorem dX1_init_471 : decode cX1_init 471 = .ok (.dup, 1) := by decide +kernel
theorem dX1_init_472 : decode cX1_init 472 = .ok (.bipush 76, 2) := by decide +kernel
theorem dX1_init_474 : decode cX1_init 474 = .ok (.bipush 6, 2) := by decide +kernel
theorem dX1_init_476 : decode cX1_init 476 = .ok (.iastore, 1) := by decide +kernel
theorem dX1_init_477 : decode cX1_init 477 = .ok (.dup, 1) := by decide +kernel
theorem dX1_init_478 : decode cX1_init 478 = .ok (.bipush 77, 2) := by decide +kernel
theorem dX1_init_480 : decode cX1_init 480 = .ok (.bipush 8, 2) := by decide +kernel
theorem dX1_init_482 : decode cX1_init 482 = .ok (.iastore, 1) := by decide +kernel
theorem dX1_init_483 : decode cX1_init 483 = .ok (.dup, 1) := by decide +kernel
theorem dX1_init_484 : decode cX1_init 484 = .ok (.bipush 78, 2) := by decide +kernel
theorem dX1_init_486 : decode cX1_init 486 = .ok (.iconst 3, 1) := by decide +kernel
end
section
set_option maxRecDepth 100000
theorem dX1_init_487 : decode cX1_init 487 = .ok (.iastore, 1) := by decide +kernel
theorem dX1_init_488 : decode cX1_init 488 = .ok (.dup, 1) := by decide +kernel
theorem dX1_init_489 : decode cX1_init 489 = .ok (.bipush 79, 2) := by decide +kernel
theorem dX1_init_491 : decode cX1_init 491 = .ok (.bipush 13, 2) := by decide +kernel
theorem dX1_init_493 : decode cX1_init 493 = .ok (.iastore, 1) := by decide +kernel
theorem dX1_init_494 : decode cX1_init 494 = .ok (.dup, 1) := by decide +kernel
theorem dX1_init_495 : decode cX1_init 495 = .ok (.bipush 80, 2) := by decide +kernel
theorem dX1_init_497 : decode cX1_init 497 = .ok (.iconst 2, 1) := by decide +kernel
theorem dX1_init_498 : decode cX1_init 498 = .ok (.iastore, 1) := by decide +kernel
theorem dX1_init_499 : decode cX1_init 499 = .ok (.dup, 1) := by decide +kernel
theorem dX1_init_500 : decode cX1_init 500 = .ok (.bipush 81, 2) := by decide +kernel
theorem dX1_init_502 : decode cX1_init 502 = .ok (.bipush 12, 2) := by decide +kernel
theorem dX1_init_504 : decode cX1_init 504 = .ok (.iastore, 1) := by decide +kernel
theorem dX1_init_505 : decode cX1_init 505 = .ok (.dup, 1) := by decide +kernel
theorem dX1_init_506 : decode cX1_init 506 = .ok (.bipush 82, 2) := by decide +kernel
theorem dX1_init_508 : decode cX1_init 508 = .ok (.bipush 6, 2) := by decide +kernel
theorem dX1_init_510 : decode cX1_init 510 = .ok (.iastore, 1) := by decide +kernel
theorem dX1_init_511 : decode cX1_init 511 = .ok (.dup, 1) := by decide +kernel
theorem dX1_init_512 : decode cX1_init 512 = .ok (.bipush 83, 2) := by decide +kernel
theorem dX1_init_514 : decode cX1_init 514 = .ok (.bipush 10, 2) := by decide +kernel
theorem dX1_init_516 : decode cX1_init 516 = .ok (.iastore, 1) := by decide +kernel
theorem dX1_init_517 : decode cX1_init 517 = .ok (.dup, 1) := by decide +kernel
theorem dX1_init_518 : decode cX1_init 518 = .ok (.bipush 84, 2) := by decide +kernel
theorem dX1_init_520 : decode cX1_init 520 = .ok (.iconst 0, 1) := by decide +kernel
theorem dX1_init_521 : decode cX1_init 521 = .ok (.iastore, 1) := by decide +kernel
theorem dX1_init_522 : decode cX1_init 522 = .ok (.dup, 1) := by decide +kernel
theorem dX1_init_523 : decode cX1_init 523 = .ok (.bipush 85, 2) := by decide +kernel
theorem dX1_init_525 : decode cX1_init 525 = .ok (.bipush 11, 2) := by decide +kernel
theorem dX1_init_527 : decode cX1_init 527 = .ok (.iastore, 1) := by decide +kernel
theorem dX1_init_528 : decode cX1_init 528 = .ok (.dup, 1) := by decide +kernel
theorem dX1_init_529 : decode cX1_init 529 = .ok (.bipush 86, 2) := by decide +kernel
theorem dX1_init_531 : decode cX1_init 531 = .ok (.bipush 8, 2) := by decide +kernel
theorem dX1_init_533 : decode cX1_init 533 = .ok (.iastore, 1) := by decide +kernel
theorem dX1_init_534 : decode cX1_init 534 = .ok (.dup, 1) := by decide +kernel
theorem dX1_init_535 : decode cX1_init 535 = .ok (.bipush 87, 2) := by decide +kernel
theorem dX1_init_537 : decode cX1_init 537 = .ok (.iconst 3, 1) := by decide +kernel
theorem dX1_init_538 : decode cX1_init 538 = .ok (.iastore, 1) := by decide +kernel
theorem dX1_init_539 : decode cX1_init 539 = .ok (.dup, 1) := by decide +kernel
theorem dX1_init_540 : decode cX1_init 540 = .ok (.bipush 88, 2) := by decide +kernel
theorem dX1_init_542 : decode cX1_init 542 = .ok (.iconst 4, 1) := by decide +kernel
theorem dX1_init_543 : decode cX1_init 543 = .ok (.iastore, 1) := by decide +kernel
theorem dX1_init_544 : decode cX1_init 544 = .ok (.dup, 1) := by decide +kernel
theorem dX1_init_545 : decode cX1_init 545 = .ok (.bipush 89, 2) := by decide +kernel
theorem dX1_init_547 : decode cX1_init 547 = .ok (.bipush 13, 2) := by decide +kernel
theorem dX1_init_549 : decode cX1_init 549 = .ok (.iastore, 1) := by decide +kernel
theorem dX1_init_550 : decode cX1_init 550 = .ok (.dup, 1) := by decide +kernel
theorem dX1_init_551 : decode cX1_init 551 = .ok (.bipush 90, 2) := by decide +kernel
theorem dX1_init_553 : decode cX1_init 553 = .ok (.bipush 7, 2) := by decide +kernel
theorem dX1_init_555 : decode cX1_init 555 = .ok (.iastore, 1) := by decide +kernel
theorem dX1_init_556 : decode cX1_init 556 = .ok (.dup, 1) := by decide +kernel
theorem dX1_init_557 : decode cX1_init 557 = .ok (.bipush 91, 2) := by decide +kernel
theorem dX1_init_559 : decode cX1_init 559 = .ok (.iconst 5, 1) := by decide +kernel
theorem dX1_init_560 : decode cX1_init 560 = .ok (.iastore, 1) := by decide +kernel
theorem dX1_init_561 : decode cX1_init 561 = .ok (.dup, 1) := by decide +kernel
theorem dX1_init_562 : decode cX1_init 562 = .ok (.bipush 92, 2) := by decide +kernel
theorem dX1_init_564 : decode cX1_init 564 = .ok (.bipush 15, 2) := by decide +kernel
theorem dX1_init_566 : decode cX1_init 566 = .ok (.iastore, 1) := by decide +kernel
theorem dX1_init_567 : decode cX1_init 567 = .ok (.dup, 1) := by decide +kernel
theorem dX1_init_568 : decode cX1_init 568 = .ok (.bipush 93, 2) := by decide +kernel
theorem dX1_init_570 : decode cX1_init 570 = .ok (.bipush 14, 2) := by decide +kernel
theorem dX1_init_572 : decode cX1_init 572 = .ok (.iastore, 1) := by decide +kernel
theorem dX1_init_573 : decode cX1_init 573 = .ok (.dup, 1) := by decide +kernel
theorem dX1_init_574 : decode cX1_init 574 = .ok (.bipush 94, 2) := by decide +kernel
theorem dX1_init_576 : decode cX1_init 576 = .ok (.iconst 1, 1) := by decide +kernel
theorem dX1_init_577 : decode cX1_init 577 = .ok (.iastore, 1) := by decide +kernel
theorem dX1_init_578 : decode cX1_init 578 = .ok (.dup, 1) := by decide +kernel
theorem dX1_init_579 : decode cX1_init 579 = .ok (.bipush 95, 2) := by decide +kernel
theorem dX1_init_581 : decode cX1_init 581 = .ok (.bipush 9, 2) := by decide +kernel
theorem dX1_init_583 : decode cX1_init 583 = .ok (.iastore, 1) := by decide +kernel
theorem dX1_init_584 : decode cX1_init 584 = .ok (.dup, 1) := by decide +kernel
theorem dX1_init_585 : decode cX1_init 585 = .ok (.bipush 96, 2) := by decide +kernel
theorem dX1_init_587 : decode cX1_init 587 = .ok (.bipush 12, 2) := by decide +kernel
theorem dX1_init_589 : decode cX1_init 589 = .ok (.iastore, 1) := by decide +kernel
theorem dX1_init_590 : decode cX1_init 590 = .ok (.dup, 1) := by decide +kernel
theorem dX1_init_591 : decode cX1_init 591 = .ok (.bipush 97, 2) := by decide +kernel
theorem dX1_init_593 : decode cX1_init 593 = .ok (.iconst 5, 1) := by decide +kernel
theorem dX1_init_594 : decode cX1_init 594 = .ok (.iastore, 1) := by decide +kernel
theorem dX1_init_595 : decode cX1_init 595 = .ok (.dup, 1) := by decide +kernel
theorem dX1_init_596 : decode cX1_init 596 = .ok (.bipush 98, 2) := by decide +kernel
theorem dX1_init_598 : decode cX1_init 598 = .ok (.iconst 1, 1) := by decide +kernel
theorem dX1_init_599 : decode cX1_init 599 = .ok (.iastore, 1) := by decide +kernel
theorem dX1_init_600 : decode cX1_init 600 = .ok (.dup, 1) := by decide +kernel
theorem dX1_init_601 : decode cX1_init 601 = .ok (.bipush 99, 2) := by decide +kernel
theorem dX1_init_603 : decode cX1_init 603 = .ok (.bipush 15, 2) := by decide +kernel
theorem dX1_init_605 : decode cX1_init 605 = .ok (.iastore, 1) := by decide +kernel
theorem dX1_init_606 : decode cX1_init 606 = .ok (.dup, 1) := by decide +kernel
theorem dX1_init_607 : decode cX1_init 607 = .ok (.bipush 100, 2) := by decide +kernel
theorem dX1_init_609 : decode cX1_init 609 = .ok (.bipush 14, 2) := by decide +kernel
theorem dX1_init_611 : decode cX1_init 611 = .ok (.iastore, 1) := by decide +kernel
theorem dX1_init_612 : decode cX1_init 612 = .ok (.dup, 1) := by decide +kernel
theorem dX1_init_613 : decode cX1_init 613 = .ok (.bipush 101, 2) := by decide +kernel
theorem dX1_init_615 : decode cX1_init 615 = .ok (.bipush 13, 2) := by decide +kernel
theorem dX1_init_617 : decode cX1_init 617 = .ok (.iastore, 1) := by decide +kernel
theorem dX1_init_618 : decode cX1_init 618 = .ok (.dup, 1) := by decide +kernel
theorem dX1_init_619 : decode cX1_init 619 = .ok (.bipush 102, 2) := by decide +kernel
theorem dX1_init_621 : decode cX1_init 621 = .ok (.iconst 4, 1) := by decide +kernel
theorem dX1_init_622 : decode cX1_init 622 = .ok (.iastore, 1) := by decide +kernel
theorem dX1_init_623 : decode cX1_init 623 = .ok (.dup, 1) := by decide +kernel
theorem dX1_init_624 : decode cX1_init 624 = .ok (.bipush 103, 2) := by decide +kernel
theorem dX1_init_626 : decode cX1_init 626 = .ok (.bipush 10, 2) := by decide +kernel
theorem dX1_init_628 : decode cX1_init 628 = .ok (.iastore, 1) := by decide +kernel
theorem dX1_init_629 : decode cX1_init 629 = .ok (.dup, 1) := by decide +kernel
theorem dX1_init_630 : decode cX1_init 630 = .ok (.bipush 104, 2) := by decide +kernel
theorem dX1_init_632 : decode cX1_init 632 = .ok (.iconst 0, 1) := by decide +kernel
theorem dX1_init_633 : decode cX1_init 633 = .ok (.iastore, 1) := by decide +kernel
theorem dX1_init_634 : decode cX1_init 634 = .ok (.dup, 1) := by decide +kernel
theorem dX1_init_635 : decode cX1_init 635 = .ok (.bipush 105, 2) := by decide +kernel
theorem dX1_init_637 : decode cX1_init 637 = .ok (.bipush 7, 2) := by decide +kernel
theorem dX1_init_639 : decode cX1_init 639 = .ok (.iastore, 1) := by decide +kernel
theorem dX1_init_640 : decode cX1_init 640 = .ok (.dup, 1) := by decide +kernel
theorem dX1_init_641 : decode cX1_init 641 = .ok (.bipush 106, 2) := by decide +kernel
theorem dX1_init_643 : decode cX1_init 643 = .ok (.bipush 6, 2) := by decide +kernel
theorem dX1_init_645 : decode cX1_init 645 = .ok (.iastore, 1) := by decide +kernel
theorem dX1_init_646 : decode cX1_init 646 = .ok (.dup, 1) := by decide +kernel
theorem dX1_init_647 : decode cX1_init 647 = .ok (.bipush 107, 2) := by decide +kernel
theorem dX1_init_649 : decode cX1_init 649 = .ok (.iconst 3, 1) := by decide +kernel
theorem dX1_init_650 : decode cX1_init 650 = .ok (.iastore, 1) := by decide +kernel
theorem dX1_init_651 : decode cX1_init 651 = .ok (.dup, 1) := by decide +kernel
theorem dX1_init_652 : decode cX1_init 652 = .ok (.bipush 108, 2) := by decide +kernel
theorem dX1_init_654 : decode cX1_init 654 = .ok (.bipush 9, 2) := by decide +kernel
theorem dX1_init_656 : decode cX1_init 656 = .ok (.iastore, 1) := by decide +kernel
theorem dX1_init_657 : decode cX1_init 657 = .ok (.dup, 1) := by decide +kernel
theorem dX1_init_658 : decode cX1_init 658 = .ok (.bipush 109, 2) := by decide +kernel
theorem dX1_init_660 : decode cX1_init 660 = .ok (.iconst 2, 1) := by decide +kernel
theorem dX1_init_661 : decode cX1_init 661 = .ok (.iastore, 1) := by decide +kernel
theorem dX1_init_662 : decode cX1_init 662 = .ok (.dup, 1) := by decide +kernel
theorem dX1_init_663 : decode cX1_init 663 = .ok (.bipush 110, 2) := by decide +kernel
theorem dX1_init_665 : decode cX1_init 665 = .ok (.bipush 8, 2) := by decide +kernel
theorem dX1_init_667 : decode cX1_init 667 = .ok (.iastore, 1) := by decide +kernel
theorem dX1_init_668 : decode cX1_init 668 = .ok (.dup, 1) := by decide +kernel
theorem dX1_init_669 : decode cX1_init 669 = .ok (.bipush 111, 2) := by decide +kernel
theorem dX1_init_671 : decode cX1_init 671 = .ok (.bipush 11, 2) := by decide +kernel
theorem dX1_init_673 : decode cX1_init 673 = .ok (.iastore, 1) := by decide +kernel
theorem dX1_init_674 : decode cX1_init 674 = .ok (.dup, 1) := by decide +kernel
theorem dX1_init_675 : decode cX1_init 675 = .ok (.bipush 112, 2) := by decide +kernel
theorem dX1_init_677 : decode cX1_init 677 = .ok (.bipush 13, 2) := by decide +kernel
theorem dX1_init_679 : decode cX1_init 679 = .ok (.iastore, 1) := by decide +kernel
theorem dX1_init_680 : decode cX1_init 680 = .ok (.dup, 1) := by decide +kernel
theorem dX1_init_681 : decode cX1_init 681 = .ok (.bipush 113, 2) := by decide +kernel
theorem dX1_init_683 : decode cX1_init 683 = .ok (.bipush 11, 2) := by decide +kernel
theorem dX1_init_685 : decode cX1_init 685 = .ok (.iastore, 1) := by decide +kernel
theorem dX1_init_686 : decode cX1_init 686 = .ok (.dup, 1) := by decide +kernel
theorem dX1_init_687 : decode cX1_init 687 = .ok (.bipush 114, 2) := by decide +kernel
theorem dX1_init_689 : decode cX1_init 689 = .ok (.bipush 7, 2) := by decide +kernel
theorem dX1_init_691 : decode cX1_init 691 = .ok (.iastore, 1) := by decide +kernel
theorem dX1_init_692 : decode cX1_init 692 = .ok (.dup, 1) := by decide +kernel
theorem dX1_init_693 : decode cX1_init 693 = .ok (.bipush 115, 2) := by decide +kernel
theorem dX1_init_695 : decode cX1_init 695 = .ok (.bipush 14, 2) := by decide +kernel
theorem dX1_init_697 : decode cX1_init 697 = .ok (.iastore, 1) := by decide +kernel
theorem dX1_init_698 : decode cX1_init 698 = .ok (.dup, 1) := by decide +kernel
theorem dX1_init_699 : decode cX1_init 699 = .ok (.bipush 116, 2) := by decide +kernel
theorem dX1_init_701 : decode cX1_init 701 = .ok (.bipush 12, 2) := by decide +kernel
theorem dX1_init_703 : decode cX1_init 703 = .ok (.iastore, 1) := by decide +kernel
theorem dX1_init_704 : decode cX1_init 704 = .ok (.dup, 1) := by decide +kernel
theorem dX1_init_705 : decode cX1_init 705 = .ok (.bipush 117, 2) := by decide +kernel
theorem dX1_init_707 : decode cX1_init 707 = .ok (.iconst 1, 1) := by decide +kernel
theorem dX1_init_708 : decode cX1_init 708 = .ok (.iastore, 1) := by decide +kernel
theorem dX1_init_709 : decode cX1_init 709 = .ok (.dup, 1) := by decide +kernel
theorem dX1_init_710 : decode cX1_init 710 = .ok (.bipush 118, 2) := by decide +kernel
theorem dX1_init_712 : decode cX1_init 712 = .ok (.iconst 3, 1) := by decide +kernel
theorem dX1_init_713 : decode cX1_init 713 = .ok (.iastore, 1) := by decide +kernel
theorem dX1_init_714 : decode cX1_init 714 = .ok (.dup, 1) := by decide +kernel
theorem dX1_init_715 : decode cX1_init 715 = .ok (.bipush 119, 2) := by decide +kernel
theorem dX1_init_717 : decode cX1_init 717 = .ok (.bipush 9, 2) := by decide +kernel
theorem dX1_init_719 : decode cX1_init 719 = .ok (.iastore, 1) := by decide +kernel
theorem dX1_init_720 : decode cX1_init 720 = .ok (.dup, 1) := by decide +kernel
theorem dX1_init_721 : decode cX1_init 721 = .ok (.bipush 120, 2) := by decide +kernel
theorem dX1_init_723 : decode cX1_init 723 = .ok (.iconst 5, 1) := by decide +kernel
theorem dX1_init_724 : decode cX1_init 724 = .ok (.iastore, 1) := by decide +kernel
theorem dX1_init_725 : decode cX1_init 725 = .ok (.dup, 1) := by decide +kernel
end
section
set_option maxRecDepth 100000
theorem dX1_init_726 : decode cX1_init 726 = .ok (.bipush 121, 2) := by decide +kernel
theorem dX1_init_728 : decode cX1_init 728 = .ok (.iconst 0, 1) := by decide +kernel
theorem dX1_init_729 : decode cX1_init 729 = .ok (.iastore, 1) := by decide +kernel
theorem dX1_init_730 : decode cX1_init 730 = .ok (.dup, 1) := by decide +kernel
theorem dX1_init_731 : decode cX1_init 731 = .ok (.bipush 122, 2) := by decide +kernel
theorem dX1_init_733 : decode cX1_init 733 = .ok (.bipush 15, 2) := by decide +kernel
theorem dX1_init_735 : decode cX1_init 735 = .ok (.iastore, 1) := by decide +kernel
theorem dX1_init_736 : decode cX1_init 736 = .ok (.dup, 1) := by decide +kernel
theorem dX1_init_737 : decode cX1_init 737 = .ok (.bipush 123, 2) := by decide +kernel
theorem dX1_init_739 : decode cX1_init 739 = .ok (.iconst 4, 1) := by decide +kernel
theorem dX1_init_740 : decode cX1_init 740 = .ok (.iastore, 1) := by decide +kernel
theorem dX1_init_741 : decode cX1_init 741 = .ok (.dup, 1) := by decide +kernel
theorem dX1_init_742 : decode cX1_init 742 = .ok (.bipush 124, 2) := by decide +kernel
theorem dX1_init_744 : decode cX1_init 744 = .ok (.bipush 8, 2) := by decide +kernel
theorem dX1_init_746 : decode cX1_init 746 = .ok (.iastore, 1) := by decide +kernel
theorem dX1_init_747 : decode cX1_init 747 = .ok (.dup, 1) := by decide +kernel
theorem dX1_init_748 : decode cX1_init 748 = .ok (.bipush 125, 2) := by decide +kernel
theorem dX1_init_750 : decode cX1_init 750 = .ok (.bipush 6, 2) := by decide +kernel
theorem dX1_init_752 : decode cX1_init 752 = .ok (.iastore, 1) := by decide +kernel
theorem dX1_init_753 : decode cX1_init 753 = .ok (.dup, 1) := by decide +kernel
theorem dX1_init_754 : decode cX1_init 754 = .ok (.bipush 126, 2) := by decide +kernel
theorem dX1_init_756 : decode cX1_init 756 = .ok (.iconst 2, 1) := by decide +kernel
theorem dX1_init_757 : decode cX1_init 757 = .ok (.iastore, 1) := by decide +kernel
theorem dX1_init_758 : decode cX1_init 758 = .ok (.dup, 1) := by decide +kernel
theorem dX1_init_759 : decode cX1_init 759 = .ok (.bipush 127, 2) := by decide +kernel
theorem dX1_init_761 : decode cX1_init 761 = .ok (.bipush 10, 2) := by decide +kernel
theorem dX1_init_763 : decode cX1_init 763 = .ok (.iastore, 1) := by decide +kernel
theorem dX1_init_764 : decode cX1_init 764 = .ok (.dup, 1) := by decide +kernel
theorem dX1_init_765 : decode cX1_init 765 = .ok (.sipush 128, 3) := by decide +kernel
theorem dX1_init_768 : decode cX1_init 768 = .ok (.bipush 6, 2) := by decide +kernel
theorem dX1_init_770 : decode cX1_init 770 = .ok (.iastore, 1) := by decide +kernel
theorem dX1_init_771 : decode cX1_init 771 = .ok (.dup, 1) := by decide +kernel
theorem dX1_init_772 : decode cX1_init 772 = .ok (.sipush 129, 3) := by decide +kernel
theorem dX1_init_775 : decode cX1_init 775 = .ok (.bipush 15, 2) := by decide +kernel
theorem dX1_init_777 : decode cX1_init 777 = .ok (.iastore, 1) := by decide +kernel
theorem dX1_init_778 : decode cX1_init 778 = .ok (.dup, 1) := by decide +kernel
theorem dX1_init_779 : decode cX1_init 779 = .ok (.sipush 130, 3) := by decide +kernel
theorem dX1_init_782 : decode cX1_init 782 = .ok (.bipush 14, 2) := by decide +kernel
theorem dX1_init_784 : decode cX1_init 784 = .ok (.iastore, 1) := by decide +kernel
theorem dX1_init_785 : decode cX1_init 785 = .ok (.dup, 1) := by decide +kernel
theorem dX1_init_786 : decode cX1_init 786 = .ok (.sipush 131, 3) := by decide +kernel
theorem dX1_init_789 : decode cX1_init 789 = .ok (.bipush 9, 2) := by decide +kernel
theorem dX1_init_791 : decode cX1_init 791 = .ok (.iastore, 1) := by decide +kernel
theorem dX1_init_792 : decode cX1_init 792 = .ok (.dup, 1) := by decide +kernel
theorem dX1_init_793 : decode cX1_init 793 = .ok (.sipush 132, 3) := by decide +kernel
theorem dX1_init_796 : decode cX1_init 796 = .ok (.bipush 11, 2) := by decide +kernel
theorem dX1_init_798 : decode cX1_init 798 = .ok (.iastore, 1) := by decide +kernel
theorem dX1_init_799 : decode cX1_init 799 = .ok (.dup, 1) := by decide +kernel
theorem dX1_init_800 : decode cX1_init 800 = .ok (.sipush 133, 3) := by decide +kernel
theorem dX1_init_803 : decode cX1_init 803 = .ok (.iconst 3, 1) := by decide +kernel
theorem dX1_init_804 : decode cX1_init 804 = .ok (.iastore, 1) := by decide +kernel
theorem dX1_init_805 : decode cX1_init 805 = .ok (.dup, 1) := by decide +kernel
theorem dX1_init_806 : decode cX1_init 806 = .ok (.sipush 134, 3) := by decide +kernel
theorem dX1_init_809 : decode cX1_init 809 = .ok (.iconst 0, 1) := by decide +kernel
theorem dX1_init_810 : decode cX1_init 810 = .ok (.iastore, 1) := by decide +kernel
theorem dX1_init_811 : decode cX1_init 811 = .ok (.dup, 1) := by decide +kernel
theorem dX1_init_812 : decode cX1_init 812 = .ok (.sipush 135, 3) := by decide +kernel
theorem dX1_init_815 : decode cX1_init 815 = .ok (.bipush 8, 2) := by decide +kernel
theorem dX1_init_817 : decode cX1_init 817 = .ok (.iastore, 1) := by decide +kernel
theorem dX1_init_818 : decode cX1_init 818 = .ok (.dup, 1) := by decide +kernel
theorem dX1_init_819 : decode cX1_init 819 = .ok (.sipush 136, 3) := by decide +kernel
theorem dX1_init_822 : decode cX1_init 822 = .ok (.bipush 12, 2) := by decide +kernel
theorem dX1_init_824 : decode cX1_init 824 = .ok (.iastore, 1) := by decide +kernel
theorem dX1_init_825 : decode cX1_init 825 = .ok (.dup, 1) := by decide +kernel
theorem dX1_init_826 : decode cX1_init 826 = .ok (.sipush 137, 3) := by decide +kernel
theorem dX1_init_829 : decode cX1_init 829 = .ok (.iconst 2, 1) := by decide +kernel
theorem dX1_init_830 : decode cX1_init 830 = .ok (.iastore, 1) := by decide +kernel
theorem dX1_init_831 : decode cX1_init 831 = .ok (.dup, 1) := by decide +kernel
theorem dX1_init_832 : decode cX1_init 832 = .ok (.sipush 138, 3) := by decide +kernel
theorem dX1_init_835 : decode cX1_init 835 = .ok (.bipush 13, 2) := by decide +kernel
theorem dX1_init_837 : decode cX1_init 837 = .ok (.iastore, 1) := by decide +kernel
theorem dX1_init_838 : decode cX1_init 838 = .ok (.dup, 1) := by decide +kernel
theorem dX1_init_839 : decode cX1_init 839 = .ok (.sipush 139, 3) := by decide +kernel
theorem dX1_init_842 : decode cX1_init 842 = .ok (.bipush 7, 2) := by decide +kernel
theorem dX1_init_844 : decode cX1_init 844 = .ok (.iastore, 1) := by decide +kernel
theorem dX1_init_845 : decode cX1_init 845 = .ok (.dup, 1) := by decide +kernel
theorem dX1_init_846 : decode cX1_init 846 = .ok (.sipush 140, 3) := by decide +kernel
theorem dX1_init_849 : decode cX1_init 849 = .ok (.iconst 1, 1) := by decide +kernel
theorem dX1_init_850 : decode cX1_init 850 = .ok (.iastore, 1) := by decide +kernel
theorem dX1_init_851 : decode cX1_init 851 = .ok (.dup, 1) := by decide +kernel
theorem dX1_init_852 : decode cX1_init 852 = .ok (.sipush 141, 3) := by decide +kernel
theorem dX1_init_855 : decode cX1_init 855 = .ok (.iconst 4, 1) := by decide +kernel
theorem dX1_init_856 : decode cX1_init 856 = .ok (.iastore, 1) := by decide +kernel
theorem dX1_init_857 : decode cX1_init 857 = .ok (.dup, 1) := by decide +kernel
theorem dX1_init_858 : decode cX1_init 858 = .ok (.sipush 142, 3) := by decide +kernel
theorem dX1_init_861 : decode cX1_init 861 = .ok (.bipush 10, 2) := by decide +kernel
theorem dX1_init_863 : decode cX1_init 863 = .ok (.iastore, 1) := by decide +kernel
theorem dX1_init_864 : decode cX1_init 864 = .ok (.dup, 1) := by decide +kernel
theorem dX1_init_865 : decode cX1_init 865 = .ok (.sipush 143, 3) := by decide +kernel
theorem dX1_init_868 : decode cX1_init 868 = .ok (.iconst 5, 1) := by decide +kernel
theorem dX1_init_869 : decode cX1_init 869 = .ok (.iastore, 1) := by decide +kernel
theorem dX1_init_870 : decode cX1_init 870 = .ok (.dup, 1) := by decide +kernel
theorem dX1_init_871 : decode cX1_init 871 = .ok (.sipush 144, 3) := by decide +kernel
theorem dX1_init_874 : decode cX1_init 874 = .ok (.bipush 10, 2) := by decide +kernel
theorem dX1_init_876 : decode cX1_init 876 = .ok (.iastore, 1) := by decide +kernel
theorem dX1_init_877 : decode cX1_init 877 = .ok (.dup, 1) := by decide +kernel
theorem dX1_init_878 : decode cX1_init 878 = .ok (.sipush 145, 3) := by decide +kernel
theorem dX1_init_881 : decode cX1_init 881 = .ok (.iconst 2, 1) := by decide +kernel
theorem dX1_init_882 : decode cX1_init 882 = .ok (.iastore, 1) := by decide +kernel
theorem dX1_init_883 : decode cX1_init 883 = .ok (.dup, 1) := by decide +kernel
theorem dX1_init_884 : decode cX1_init 884 = .ok (.sipush 146, 3) := by decide +kernel
theorem dX1_init_887 : decode cX1_init 887 = .ok (.bipush 8, 2) := by decide +kernel
theorem dX1_init_889 : decode cX1_init 889 = .ok (.iastore, 1) := by decide +kernel
theorem dX1_init_890 : decode cX1_init 890 = .ok (.dup, 1) := by decide +kernel
theorem dX1_init_891 : decode cX1_init 891 = .ok (.sipush 147, 3) := by decide +kernel
theorem dX1_init_894 : decode cX1_init 894 = .ok (.iconst 4, 1) := by decide +kernel
theorem dX1_init_895 : decode cX1_init 895 = .ok (.iastore, 1) := by decide +kernel
theorem dX1_init_896 : decode cX1_init 896 = .ok (.dup, 1) := by decide +kernel
theorem dX1_init_897 : decode cX1_init 897 = .ok (.sipush 148, 3) := by decide +kernel
theorem dX1_init_900 : decode cX1_init 900 = .ok (.bipush 7, 2) := by decide +kernel
theorem dX1_init_902 : decode cX1_init 902 = .ok (.iastore, 1) := by decide +kernel
theorem dX1_init_903 : decode cX1_init 903 = .ok (.dup, 1) := by decide +kernel
theorem dX1_init_904 : decode cX1_init 904 = .ok (.sipush 149, 3) := by decide +kernel
theorem dX1_init_907 : decode cX1_init 907 = .ok (.bipush 6, 2) := by decide +kernel
theorem dX1_init_909 : decode cX1_init 909 = .ok (.iastore, 1) := by decide +kernel
theorem dX1_init_910 : decode cX1_init 910 = .ok (.dup, 1) := by decide +kernel
theorem dX1_init_911 : decode cX1_init 911 = .ok (.sipush 150, 3) := by decide +kernel
theorem dX1_init_914 : decode cX1_init 914 = .ok (.iconst 1, 1) := by decide +kernel
theorem dX1_init_915 : decode cX1_init 915 = .ok (.iastore, 1) := by decide +kernel
theorem dX1_init_916 : decode cX1_init 916 = .ok (.dup, 1) := by decide +kernel
theorem dX1_init_917 : decode cX1_init 917 = .ok (.sipush 151, 3) := by decide +kernel
theorem dX1_init_920 : decode cX1_init 920 = .ok (.iconst 5, 1) := by decide +kernel
theorem dX1_init_921 : decode cX1_init 921 = .ok (.iastore, 1) := by decide +kernel
theorem dX1_init_922 : decode cX1_init 922 = .ok (.dup, 1) := by decide +kernel
theorem dX1_init_923 : decode cX1_init 923 = .ok (.sipush 152, 3) := by decide +kernel
theorem dX1_init_926 : decode cX1_init 926 = .ok (.bipush 15, 2) := by decide +kernel
theorem dX1_init_928 : decode cX1_init 928 = .ok (.iastore, 1) := by decide +kernel
theorem dX1_init_929 : decode cX1_init 929 = .ok (.dup, 1) := by decide +kernel
theorem dX1_init_930 : decode cX1_init 930 = .ok (.sipush 153, 3) := by decide +kernel
theorem dX1_init_933 : decode cX1_init 933 = .ok (.bipush 11, 2) := by decide +kernel
theorem dX1_init_935 : decode cX1_init 935 = .ok (.iastore, 1) := by decide +kernel
theorem dX1_init_936 : decode cX1_init 936 = .ok (.dup, 1) := by decide +kernel
theorem dX1_init_937 : decode cX1_init 937 = .ok (.sipush 154, 3) := by decide +kernel
theorem dX1_init_940 : decode cX1_init 940 = .ok (.bipush 9, 2) := by decide +kernel
theorem dX1_init_942 : decode cX1_init 942 = .ok (.iastore, 1) := by decide +kernel
theorem dX1_init_943 : decode cX1_init 943 = .ok (.dup, 1) := by decide +kernel
theorem dX1_init_944 : decode cX1_init 944 = .ok (.sipush 155, 3) := by decide +kernel
theorem dX1_init_947 : decode cX1_init 947 = .ok (.bipush 14, 2) := by decide +kernel
theorem dX1_init_949 : decode cX1_init 949 = .ok (.iastore, 1) := by decide +kernel
theorem dX1_init_950 : decode cX1_init 950 = .ok (.dup, 1) := by decide +kernel
theorem dX1_init_951 : decode cX1_init 951 = .ok (.sipush 156, 3) := by decide +kernel
theorem dX1_init_954 : decode cX1_init 954 = .ok (.iconst 3, 1) := by decide +kernel
theorem dX1_init_955 : decode cX1_init 955 = .ok (.iastore, 1) := by decide +kernel
theorem dX1_init_956 : decode cX1_init 956 = .ok (.dup, 1) := by decide +kernel
theorem dX1_init_957 : decode cX1_init 957 = .ok (.sipush 157, 3) := by decide +kernel
theorem dX1_init_960 : decode cX1_init 960 = .ok (.bipush 12, 2) := by decide +kernel
theorem dX1_init_962 : decode cX1_init 962 = .ok (.iastore, 1) := by decide +kernel
theorem dX1_init_963 : decode cX1_init 963 = .ok (.dup, 1) := by decide +kernel
theorem dX1_init_964 : decode cX1_init 964 = .ok (.sipush 158, 3) := by decide +kernel
theorem dX1_init_967 : decode cX1_init 967 = .ok (.bipush 13, 2) := by decide +kernel
theorem dX1_init_969 : decode cX1_init 969 = .ok (.iastore, 1) := by decide +kernel
theorem dX1_init_970 : decode cX1_init 970 = .ok (.dup, 1) := by decide +kernel
theorem dX1_init_971 : decode cX1_init 971 = .ok (.sipush 159, 3) := by decide +kernel
theorem dX1_init_974 : decode cX1_init 974 = .ok (.iconst 0, 1) := by decide +kernel
theorem dX1_init_975 : decode cX1_init 975 = .ok (.iastore, 1) := by decide +kernel
theorem dX1_init_976 : decode cX1_init 976 = .ok (.putfield 25, 3) := by decide +kernel
theorem dX1_init_979 : decode cX1_init 979 = .ok (.aload_n 0, 1) := by decide +kernel
theorem dX1_init_980 : decode cX1_init 980 = .ok (.iconst 0, 1) := by decide +kernel
theorem dX1_init_981 : decode cX1_init 981 = .ok (.putfield 28, 3) := by decide +kernel
theorem dX1_init_984 : decode cX1_init 984 = .ok (.return_, 1) := by decide +kernel
end
section
set_option maxRecDepth 100000
theorem dL_law_0 : decode cL_law 0 = .ok (.new 7, 3) := by decide +kernel
theorem dL_law_3 : decode cL_law 3 = .ok (.dup, 1) := by decide +kernel
theorem dL_law_4 : decode cL_law 4 = .ok (.invokespecial 9, 3) := by decide +kernel
theorem dL_law_7 : decode cL_law 7 = .ok (.astore_n 1, 1) := by decide +kernel
theorem dL_law_8 : decode cL_law 8 = .ok (.new 10, 3) := by decide +kernel
theorem dL_law_11 : decode cL_law 11 = .ok (.dup, 1) := by decide +kernel
theorem dL_law_12 : decode cL_law 12 = .ok (.invokespecial 12, 3) := by decide +kernel
theorem dL_law_15 : decode cL_law 15 = .ok (.astore_n 2, 1) := by decide +kernel
theorem dL_law_16 : decode cL_law 16 = .ok (.iconst 0, 1) := by decide +kernel
theorem dL_law_17 : decode cL_law 17 = .ok (.istore_n 3, 1) := by decide +kernel
theorem dL_law_18 : decode cL_law 18 = .ok (.iload_n 3, 1) := by decide +kernel
theorem dL_law_19 : decode cL_law 19 = .ok (.aload_n 0, 1) := by decide +kernel
theorem dL_law_20 : decode cL_law 20 = .ok (.arraylength, 1) := by decide +kernel
theorem dL_law_21 : decode cL_law 21 = .ok (.bipush 6, 2) := by decide +kernel
theorem dL_law_23 : decode cL_law 23 = .ok (.isub, 1) := by decide +kernel
theorem dL_law_24 : decode cL_law 24 = .ok (.if_icmp .gt 338, 3) := by decide +kernel
theorem dL_law_27 : decode cL_law 27 = .ok (.aload_n 0, 1) := by decide +kernel
theorem dL_law_28 : decode cL_law 28 = .ok (.iload_n 3, 1) := by decide +kernel
theorem dL_law_29 : decode cL_law 29 = .ok (.iaload, 1) := by decide +kernel
theorem dL_law_30 : decode cL_law 30 = .ok (.bipush 15, 2) := by decide +kernel
theorem dL_law_32 : decode cL_law 32 = .ok (.iand, 1) := by decide +kernel
theorem dL_law_33 : decode cL_law 33 = .ok (.tableswitch 323 0 9 #[55, 66, 99, 132, 155, 218, 251, 264, 287, 300], 55) := by decide +kernel
theorem dL_law_88 : decode cL_law 88 = .ok (.aload_n 1, 1) := by decide +kernel
theorem dL_law_89 : decode cL_law 89 = .ok (.invokevirtual 13, 3) := by decide +kernel
theorem dL_law_92 : decode cL_law 92 = .ok (.aload_n 2, 1) := by decide +kernel
theorem dL_law_93 : decode cL_law 93 = .ok (.invokevirtual 16, 3) := by decide +kernel
theorem dL_law_96 : decode cL_law 96 = .ok (.goto 260, 3) := by decide +kernel
theorem dL_law_99 : decode cL_law 99 = .ok (.aload_n 1, 1) := by decide +kernel
theorem dL_law_100 : decode cL_law 100 = .ok (.aload_n 0, 1) := by decide +kernel
theorem dL_law_101 : decode cL_law 101 = .ok (.iload_n 3, 1) := by decide +kernel
theorem dL_law_102 : decode cL_law 102 = .ok (.iconst 1, 1) := by decide +kernel
theorem dL_law_103 : decode cL_law 103 = .ok (.iadd, 1) := by decide +kernel
theorem dL_law_104 : decode cL_law 104 = .ok (.iaload, 1) := by decide +kernel
theorem dL_law_105 : decode cL_law 105 = .ok (.aload_n 0, 1) := by decide +kernel
theorem dL_law_106 : decode cL_law 106 = .ok (.iload_n 3, 1) := by decide +kernel
theorem dL_law_107 : decode cL_law 107 = .ok (.iconst 2, 1) := by decide +kernel
theorem dL_law_108 : decode cL_law 108 = .ok (.iadd, 1) := by decide +kernel
theorem dL_law_109 : decode cL_law 109 = .ok (.iaload, 1) := by decide +kernel
theorem dL_law_110 : decode cL_law 110 = .ok (.invokevirtual 17, 3) := by decide +kernel
theorem dL_law_113 : decode cL_law 113 = .ok (.aload_n 2, 1) := by decide +kernel
theorem dL_law_114 : decode cL_law 114 = .ok (.aload_n 0, 1) := by decide +kernel
theorem dL_law_115 : decode cL_law 115 = .ok (.iload_n 3, 1) := by decide +kernel
theorem dL_law_116 : decode cL_law 116 = .ok (.iconst 1, 1) := by decide +kernel
theorem dL_law_117 : decode cL_law 117 = .ok (.iadd, 1) := by decide +kernel
theorem dL_law_118 : decode cL_law 118 = .ok (.iaload, 1) := by decide +kernel
theorem dL_law_119 : decode cL_law 119 = .ok (.aload_n 0, 1) := by decide +kernel
theorem dL_law_120 : decode cL_law 120 = .ok (.iload_n 3, 1) := by decide +kernel
theorem dL_law_121 : decode cL_law 121 = .ok (.iconst 2, 1) := by decide +kernel
theorem dL_law_122 : decode cL_law 122 = .ok (.iadd, 1) := by decide +kernel
theorem dL_law_123 : decode cL_law 123 = .ok (.iaload, 1) := by decide +kernel
theorem dL_law_124 : decode cL_law 124 = .ok (.invokevirtual 21, 3) := by decide +kernel
theorem dL_law_127 : decode cL_law 127 = .ok (.if_icmp .eq 229, 3) := by decide +kernel
theorem dL_law_130 : decode cL_law 130 = .ok (.iconst 0, 1) := by decide +kernel
theorem dL_law_131 : decode cL_law 131 = .ok (.ireturn, 1) := by decide +kernel
theorem dL_law_132 : decode cL_law 132 = .ok (.aload_n 1, 1) := by decide +kernel
theorem dL_law_133 : decode cL_law 133 = .ok (.aload_n 0, 1) := by decide +kernel
theorem dL_law_134 : decode cL_law 134 = .ok (.iload_n 3, 1) := by decide +kernel
theorem dL_law_135 : decode cL_law 135 = .ok (.iconst 1, 1) := by decide +kernel
theorem dL_law_136 : decode cL_law 136 = .ok (.iadd, 1) := by decide +kernel
theorem dL_law_137 : decode cL_law 137 = .ok (.iaload, 1) := by decide +kernel
theorem dL_law_138 : decode cL_law 138 = .ok (.aload_n 0, 1) := by decide +kernel
theorem dL_law_139 : decode cL_law 139 = .ok (.iload_n 3, 1) := by decide +kernel
theorem dL_law_140 : decode cL_law 140 = .ok (.iconst 2, 1) := by decide +kernel
theorem dL_law_141 : decode cL_law 141 = .ok (.iadd, 1) := by decide +kernel
theorem dL_law_142 : decode cL_law 142 = .ok (.iaload, 1) := by decide +kernel
theorem dL_law_143 : decode cL_law 143 = .ok (.invokevirtual 22, 3) := by decide +kernel
theorem dL_law_146 : decode cL_law 146 = .ok (.aload_n 2, 1) := by decide +kernel
theorem dL_law_147 : decode cL_law 147 = .ok (.aload_n 0, 1) := by decide +kernel
theorem dL_law_148 : decode cL_law 148 = .ok (.iload_n 3, 1) := by decide +kernel
theorem dL_law_149 : decode cL_law 149 = .ok (.iconst 1, 1) := by decide +kernel
theorem dL_law_150 : decode cL_law 150 = .ok (.iadd, 1) := by decide +kernel
theorem dL_law_151 : decode cL_law 151 = .ok (.iaload, 1) := by decide +kernel
theorem dL_law_152 : decode cL_law 152 = .ok (.aload_n 0, 1) := by decide +kernel
theorem dL_law_153 : decode cL_law 153 = .ok (.iload_n 3, 1) := by decide +kernel
theorem dL_law_154 : decode cL_law 154 = .ok (.iconst 2, 1) := by decide +kernel
theorem dL_law_155 : decode cL_law 155 = .ok (.iadd, 1) := by decide +kernel
theorem dL_law_156 : decode cL_law 156 = .ok (.iaload, 1) := by decide +kernel
theorem dL_law_157 : decode cL_law 157 = .ok (.invokevirtual 25, 3) := by decide +kernel
theorem dL_law_160 : decode cL_law 160 = .ok (.if_icmp .eq 196, 3) := by decide +kernel
theorem dL_law_163 : decode cL_law 163 = .ok (.iconst 0, 1) := by decide +kernel
theorem dL_law_164 : decode cL_law 164 = .ok (.ireturn, 1) := by decide +kernel
theorem dL_law_165 : decode cL_law 165 = .ok (.aload_n 1, 1) := by decide +kernel
theorem dL_law_166 : decode cL_law 166 = .ok (.aload_n 0, 1) := by decide +kernel
theorem dL_law_167 : decode cL_law 167 = .ok (.iload_n 3, 1) := by decide +kernel
theorem dL_law_168 : decode cL_law 168 = .ok (.iconst 1, 1) := by decide +kernel
theorem dL_law_169 : decode cL_law 169 = .ok (.iadd, 1) := by decide +kernel
theorem dL_law_170 : decode cL_law 170 = .ok (.iaload, 1) := by decide +kernel
theorem dL_law_171 : decode cL_law 171 = .ok (.invokevirtual 26, 3) := by decide +kernel
theorem dL_law_174 : decode cL_law 174 = .ok (.aload_n 2, 1) := by decide +kernel
theorem dL_law_175 : decode cL_law 175 = .ok (.aload_n 0, 1) := by decide +kernel
theorem dL_law_176 : decode cL_law 176 = .ok (.iload_n 3, 1) := by decide +kernel
theorem dL_law_177 : decode cL_law 177 = .ok (.iconst 1, 1) := by decide +kernel
theorem dL_law_178 : decode cL_law 178 = .ok (.iadd, 1) := by decide +kernel
theorem dL_law_179 : decode cL_law 179 = .ok (.iaload, 1) := by decide +kernel
theorem dL_law_180 : decode cL_law 180 = .ok (.invokevirtual 30, 3) := by decide +kernel
theorem dL_law_183 : decode cL_law 183 = .ok (.if_icmp .eq 173, 3) := by decide +kernel
theorem dL_law_186 : decode cL_law 186 = .ok (.iconst 0, 1) := by decide +kernel
theorem dL_law_187 : decode cL_law 187 = .ok (.ireturn, 1) := by decide +kernel
theorem dL_law_188 : decode cL_law 188 = .ok (.aload_n 1, 1) := by decide +kernel
theorem dL_law_189 : decode cL_law 189 = .ok (.aload_n 0, 1) := by decide +kernel
theorem dL_law_190 : decode cL_law 190 = .ok (.iload_n 3, 1) := by decide +kernel
theorem dL_law_191 : decode cL_law 191 = .ok (.iconst 1, 1) := by decide +kernel
theorem dL_law_192 : decode cL_law 192 = .ok (.iadd, 1) := by decide +kernel
theorem dL_law_193 : decode cL_law 193 = .ok (.iaload, 1) := by decide +kernel
theorem dL_law_194 : decode cL_law 194 = .ok (.aload_n 0, 1) := by decide +kernel
theorem dL_law_195 : decode cL_law 195 = .ok (.iload_n 3, 1) := by decide +kernel
theorem dL_law_196 : decode cL_law 196 = .ok (.iconst 2, 1) := by decide +kernel
theorem dL_law_197 : decode cL_law 197 = .ok (.iadd, 1) := by decide +kernel
theorem dL_law_198 : decode cL_law 198 = .ok (.iaload, 1) := by decide +kernel
theorem dL_law_199 : decode cL_law 199 = .ok (.aload_n 0, 1) := by decide +kernel
theorem dL_law_200 : decode cL_law 200 = .ok (.iload_n 3, 1) := by decide +kernel
theorem dL_law_201 : decode cL_law 201 = .ok (.iconst 3, 1) := by decide +kernel
theorem dL_law_202 : decode cL_law 202 = .ok (.iadd, 1) := by decide +kernel
theorem dL_law_203 : decode cL_law 203 = .ok (.iaload, 1) := by decide +kernel
theorem dL_law_204 : decode cL_law 204 = .ok (.aload_n 0, 1) := by decide +kernel
theorem dL_law_205 : decode cL_law 205 = .ok (.iload_n 3, 1) := by decide +kernel
theorem dL_law_206 : decode cL_law 206 = .ok (.iconst 4, 1) := by decide +kernel
theorem dL_law_207 : decode cL_law 207 = .ok (.iadd, 1) := by decide +kernel
theorem dL_law_208 : decode cL_law 208 = .ok (.iaload, 1) := by decide +kernel
theorem dL_law_209 : decode cL_law 209 = .ok (.aload_n 0, 1) := by decide +kernel
theorem dL_law_210 : decode cL_law 210 = .ok (.iload_n 3, 1) := by decide +kernel
theorem dL_law_211 : decode cL_law 211 = .ok (.iconst 5, 1) := by decide +kernel
theorem dL_law_212 : decode cL_law 212 = .ok (.iadd, 1) := by decide +kernel
theorem dL_law_213 : decode cL_law 213 = .ok (.iaload, 1) := by decide +kernel
theorem dL_law_214 : decode cL_law 214 = .ok (.invokevirtual 31, 3) := by decide +kernel
theorem dL_law_217 : decode cL_law 217 = .ok (.aload_n 2, 1) := by decide +kernel
theorem dL_law_218 : decode cL_law 218 = .ok (.aload_n 0, 1) := by decide +kernel
theorem dL_law_219 : decode cL_law 219 = .ok (.iload_n 3, 1) := by decide +kernel
theorem dL_law_220 : decode cL_law 220 = .ok (.iconst 1, 1) := by decide +kernel
theorem dL_law_221 : decode cL_law 221 = .ok (.iadd, 1) := by decide +kernel
theorem dL_law_222 : decode cL_law 222 = .ok (.iaload, 1) := by decide +kernel
theorem dL_law_223 : decode cL_law 223 = .ok (.aload_n 0, 1) := by decide +kernel
theorem dL_law_224 : decode cL_law 224 = .ok (.iload_n 3, 1) := by decide +kernel
theorem dL_law_225 : decode cL_law 225 = .ok (.iconst 2, 1) := by decide +kernel
theorem dL_law_226 : decode cL_law 226 = .ok (.iadd, 1) := by decide +kernel
theorem dL_law_227 : decode cL_law 227 = .ok (.iaload, 1) := by decide +kernel
theorem dL_law_228 : decode cL_law 228 = .ok (.aload_n 0, 1) := by decide +kernel
theorem dL_law_229 : decode cL_law 229 = .ok (.iload_n 3, 1) := by decide +kernel
theorem dL_law_230 : decode cL_law 230 = .ok (.iconst 3, 1) := by decide +kernel
theorem dL_law_231 : decode cL_law 231 = .ok (.iadd, 1) := by decide +kernel
theorem dL_law_232 : decode cL_law 232 = .ok (.iaload, 1) := by decide +kernel
theorem dL_law_233 : decode cL_law 233 = .ok (.aload_n 0, 1) := by decide +kernel
theorem dL_law_234 : decode cL_law 234 = .ok (.iload_n 3, 1) := by decide +kernel
theorem dL_law_235 : decode cL_law 235 = .ok (.iconst 4, 1) := by decide +kernel
theorem dL_law_236 : decode cL_law 236 = .ok (.iadd, 1) := by decide +kernel
theorem dL_law_237 : decode cL_law 237 = .ok (.iaload, 1) := by decide +kernel
theorem dL_law_238 : decode cL_law 238 = .ok (.aload_n 0, 1) := by decide +kernel
theorem dL_law_239 : decode cL_law 239 = .ok (.iload_n 3, 1) := by decide +kernel
theorem dL_law_240 : decode cL_law 240 = .ok (.iconst 5, 1) := by decide +kernel
theorem dL_law_241 : decode cL_law 241 = .ok (.iadd, 1) := by decide +kernel
theorem dL_law_242 : decode cL_law 242 = .ok (.iaload, 1) := by decide +kernel
theorem dL_law_243 : decode cL_law 243 = .ok (.invokevirtual 35, 3) := by decide +kernel
theorem dL_law_246 : decode cL_law 246 = .ok (.if_icmp .eq 110, 3) := by decide +kernel
theorem dL_law_249 : decode cL_law 249 = .ok (.iconst 0, 1) := by decide +kernel
theorem dL_law_250 : decode cL_law 250 = .ok (.ireturn, 1) := by decide +kernel
theorem dL_law_251 : decode cL_law 251 = .ok (.aload_n 1, 1) := by decide +kernel
theorem dL_law_252 : decode cL_law 252 = .ok (.aload_n 0, 1) := by decide +kernel
theorem dL_law_253 : decode cL_law 253 = .ok (.iload_n 3, 1) := by decide +kernel
theorem dL_law_254 : decode cL_law 254 = .ok (.iconst 1, 1) := by decide +kernel
theorem dL_law_255 : decode cL_law 255 = .ok (.iadd, 1) := by decide +kernel
theorem dL_law_256 : decode cL_law 256 = .ok (.iaload, 1) := by decide +kernel
theorem dL_law_257 : decode cL_law 257 = .ok (.aload_n 0, 1) := by decide +kernel
theorem dL_law_258 : decode cL_law 258 = .ok (.iload_n 3, 1) := by decide +kernel
theorem dL_law_259 : decode cL_law 259 = .ok (.iconst 2, 1) := by decide +kernel
theorem dL_law_260 : decode cL_law 260 = .ok (.iadd, 1) := by decide +kernel
theorem dL_law_261 : decode cL_law 261 = .ok (.iaload, 1) := by decide +kernel
theorem dL_law_262 : decode cL_law 262 = .ok (.invokevirtual 36, 3) := by decide +kernel
theorem dL_law_265 : decode cL_law 265 = .ok (.aload_n 2, 1) := by decide +kernel
theorem dL_law_266 : decode cL_law 266 = .ok (.aload_n 0, 1) := by decide +kernel
theorem dL_law_267 : decode cL_law 267 = .ok (.iload_n 3, 1) := by decide +kernel
theorem dL_law_268 : decode cL_law 268 = .ok (.iconst 1, 1) := by decide +kernel
theorem dL_law_269 : decode cL_law 269 = .ok (.iadd, 1) := by decide +kernel
theorem dL_law_270 : decode cL_law 270 = .ok (.iaload, 1) := by decide +kernel
theorem dL_law_271 : decode cL_law 271 = .ok (.aload_n 0, 1) := by decide +kernel
theorem dL_law_272 : decode cL_law 272 = .ok (.iload_n 3, 1) := by decide +kernel
theorem dL_law_273 : decode cL_law 273 = .ok (.iconst 2, 1) := by decide +kernel
theorem dL_law_274 : decode cL_law 274 = .ok (.iadd, 1) := by decide +kernel
theorem dL_law_275 : decode cL_law 275 = .ok (.iaload, 1) := by decide +kernel
theorem dL_law_276 : decode cL_law 276 = .ok (.invokevirtual 39, 3) := by decide +kernel
theorem dL_law_279 : decode cL_law 279 = .ok (.if_icmp .eq 77, 3) := by decide +kernel
theorem dL_law_282 : decode cL_law 282 = .ok (.iconst 0, 1) := by decide +kernel
theorem dL_law_283 : decode cL_law 283 = .ok (.ireturn, 1) := by decide +kernel
theorem dL_law_284 : decode cL_law 284 = .ok (.aload_n 1, 1) := by decide +kernel
theorem dL_law_285 : decode cL_law 285 = .ok (.invokevirtual 40, 3) := by decide +kernel
theorem dL_law_288 : decode cL_law 288 = .ok (.aload_n 2, 1) := by decide +kernel
theorem dL_law_289 : decode cL_law 289 = .ok (.invokevirtual 44, 3) := by decide +kernel
theorem dL_law_292 : decode cL_law 292 = .ok (.if_icmp .eq 64, 3) := by decide +kernel
theorem dL_law_295 : decode cL_law 295 = .ok (.iconst 0, 1) := by decide +kernel
theorem dL_law_296 : decode cL_law 296 = .ok (.ireturn, 1) := by decide +kernel
theorem dL_law_297 : decode cL_law 297 = .ok (.aload_n 1, 1) := by decide +kernel
theorem dL_law_298 : decode cL_law 298 = .ok (.aload_n 0, 1) := by decide +kernel
theorem dL_law_299 : decode cL_law 299 = .ok (.iload_n 3, 1) := by decide +kernel
theorem dL_law_300 : decode cL_law 300 = .ok (.iconst 1, 1) := by decide +kernel
theorem dL_law_301 : decode cL_law 301 = .ok (.iadd, 1) := by decide +kernel
theorem dL_law_302 : decode cL_law 302 = .ok (.iaload, 1) := by decide +kernel
theorem dL_law_303 : decode cL_law 303 = .ok (.invokevirtual 45, 3) := by decide +kernel
theorem dL_law_306 : decode cL_law 306 = .ok (.aload_n 2, 1) := by decide +kernel
theorem dL_law_307 : decode cL_law 307 = .ok (.aload_n 0, 1) := by decide +kernel
theorem dL_law_308 : decode cL_law 308 = .ok (.iload_n 3, 1) := by decide +kernel
theorem dL_law_309 : decode cL_law 309 = .ok (.iconst 1, 1) := by decide +kernel
theorem dL_law_310 : decode cL_law 310 = .ok (.iadd, 1) := by decide +kernel
theorem dL_law_311 : decode cL_law 311 = .ok (.iaload, 1) := by decide +kernel
theorem dL_law_312 : decode cL_law 312 = .ok (.invokevirtual 49, 3) := by decide +kernel
theorem dL_law_315 : decode cL_law 315 = .ok (.if_icmp .eq 41, 3) := by decide +kernel
theorem dL_law_318 : decode cL_law 318 = .ok (.iconst 0, 1) := by decide +kernel
theorem dL_law_319 : decode cL_law 319 = .ok (.ireturn, 1) := by decide +kernel
theorem dL_law_320 : decode cL_law 320 = .ok (.aload_n 1, 1) := by decide +kernel
theorem dL_law_321 : decode cL_law 321 = .ok (.invokevirtual 50, 3) := by decide +kernel
theorem dL_law_324 : decode cL_law 324 = .ok (.aload_n 2, 1) := by decide +kernel
theorem dL_law_325 : decode cL_law 325 = .ok (.invokevirtual 54, 3) := by decide +kernel
theorem dL_law_328 : decode cL_law 328 = .ok (.if_icmp .eq 28, 3) := by decide +kernel
theorem dL_law_331 : decode cL_law 331 = .ok (.iconst 0, 1) := by decide +kernel
theorem dL_law_332 : decode cL_law 332 = .ok (.ireturn, 1) := by decide +kernel
theorem dL_law_333 : decode cL_law 333 = .ok (.aload_n 1, 1) := by decide +kernel
theorem dL_law_334 : decode cL_law 334 = .ok (.aload_n 0, 1) := by decide +kernel
theorem dL_law_335 : decode cL_law 335 = .ok (.iload_n 3, 1) := by decide +kernel
theorem dL_law_336 : decode cL_law 336 = .ok (.iconst 1, 1) := by decide +kernel
theorem dL_law_337 : decode cL_law 337 = .ok (.iadd, 1) := by decide +kernel
theorem dL_law_338 : decode cL_law 338 = .ok (.iaload, 1) := by decide +kernel
theorem dL_law_339 : decode cL_law 339 = .ok (.invokevirtual 55, 3) := by decide +kernel
theorem dL_law_342 : decode cL_law 342 = .ok (.aload_n 2, 1) := by decide +kernel
theorem dL_law_343 : decode cL_law 343 = .ok (.aload_n 0, 1) := by decide +kernel
theorem dL_law_344 : decode cL_law 344 = .ok (.iload_n 3, 1) := by decide +kernel
theorem dL_law_345 : decode cL_law 345 = .ok (.iconst 1, 1) := by decide +kernel
theorem dL_law_346 : decode cL_law 346 = .ok (.iadd, 1) := by decide +kernel
theorem dL_law_347 : decode cL_law 347 = .ok (.iaload, 1) := by decide +kernel
theorem dL_law_348 : decode cL_law 348 = .ok (.invokevirtual 58, 3) := by decide +kernel
theorem dL_law_351 : decode cL_law 351 = .ok (.if_icmp .eq 5, 3) := by decide +kernel
theorem dL_law_354 : decode cL_law 354 = .ok (.iconst 0, 1) := by decide +kernel
theorem dL_law_355 : decode cL_law 355 = .ok (.ireturn, 1) := by decide +kernel
theorem dL_law_356 : decode cL_law 356 = .ok (.iinc 3 6, 3) := by decide +kernel
theorem dL_law_359 : decode cL_law 359 = .ok (.goto (-341), 3) := by decide +kernel
theorem dL_law_362 : decode cL_law 362 = .ok (.iconst 1, 1) := by decide +kernel
theorem dL_law_363 : decode cL_law 363 = .ok (.ireturn, 1) := by decide +kernel
end
section
/-! the two worlds, and the kit's rows over them -/
set_option maxRecDepth 100000
abbrev tyL (cB cI : ClassId) : List (ClassId × FieldType) := [(cB, .byte), (cI, .int)]
/-- KeyedDigest: its object and its seven arrays -/
def xw (o a1 a2 a3 a4 a5 a6 a7 : Nat) (cB cI : ClassId) (rd ph : Int32) (ky pl bg hh mm vv bk : Nat → Int32) (fl : Int32) (mx : Int64) (dg : Int32) (ct : Int64) : va_W := [(o, .inr (0, [.int rd, .int ph, .ref a1, .ref a2, .ref a3, .ref a4, .ref a5, .ref a6, .ref a7, .int fl, .long mx, .int dg, .long ct])), (a1, .inl (cB, 32, .inl ky)), (a2, .inl (cB, 160, .inl pl)), (a3, .inl (cI, 8, .inl bg)), (a4, .inl (cI, 8, .inl hh)), (a5, .inl (cI, 16, .inl mm)), (a6, .inl (cI, 16, .inl vv)), (a7, .inl (cB, 64, .inl bk))]
/-- KeyedDigestModel: its object and its six arrays -/
def mw (o b1 b2 b3 b4 b5 b6 : Nat) (cI : ClassId) (rd io dn : Int32) (ky hh vv mm bk : Nat → Int32) (fl : Int32) (mx : Int64) (cm sz : Int32) (rw : Nat → Int32) : va_W := [(o, .inr (1, [.int rd, .int io, .int dn, .ref b1, .ref b2, .ref b3, .ref b4, .ref b5, .int fl, .long mx, .int cm, .int sz, .ref b6])), (b1, .inl (cI, 32, .inl ky)), (b2, .inl (cI, 8, .inl hh)), (b3, .inl (cI, 16, .inl vv)), (b4, .inl (cI, 16, .inl mm)), (b5, .inl (cI, 64, .inl bk)), (b6, .inl (cI, 160, .inl rw))]
/-- addresses alone tell whether cells are apart -/
theorem kd_Dcg {A : Nat → Prop} {w1 w2 : va_W} (h : w1.map (·.1) = w2.map (·.1)) (hD : va_D A w1) : va_D A w2 := by
  have key : ∀ (k : Nat) (q : Nat × va_E), w2[k]? = some q → ∃ q1 : Nat × va_E, w1[k]? = some q1 ∧ q1.1 = q.1 := by
    intro k q hk
    have h1 : (w2.map (·.1))[k]? = some q.1 := by rw [List.getElem?_map, hk]; rfl
    rw [← h, List.getElem?_map] at h1
    cases h2 : w1[k]? with
    | none => rw [h2] at h1; cases h1
    | some q1 => rw [h2] at h1; exact ⟨q1, rfl, Option.some.inj h1⟩
  refine ⟨fun i j x y hi hj hxy => ?_, fun k q hk => ?_⟩
  · obtain ⟨x1, e1, f1⟩ := key i x hi
    obtain ⟨y1, e2, f2⟩ := key j y hj
    exact hD.1 i j x1 y1 e1 e2 (by rw [f1, f2]; exact hxy)
  · obtain ⟨q1, e1, f1⟩ := key k q hk
    rw [← f1]
    exact hD.2 k q1 e1
/-- an array's picture counts within its length alone -/
theorem kd_cell {cA : ClassId} {n : Nat} {f g : Nat → Int32} (h : ∀ j, j < n → f j = g j) : vp_cell cA (n, .inl f) = vp_cell cA (n, .inl g) := by
  rw [vp_cell_i, vp_cell_i]
  unfold arrV
  have e : (Array.ofFn (n := n) fun j => Value.int (f j.val)) = Array.ofFn (n := n) fun j => Value.int (g j.val) := by
    congr 1
    funext j
    rw [h j.val j.isLt]
  rw [e]
theorem kd_cg {D : va_G} {ws : va_W} {H : Heap} (hP : va_P D vwCl ws H) (q0 : Nat) {a : Nat} {cA : ClassId} {n : Nat} {f g : Nat → Int32} (he : ws[q0]? = some (a, .inl (cA, n, .inl f))) (h : ∀ j, j < n → f j = g j) : va_P D vwCl (ws.set q0 (a, .inl (cA, n, .inl g))) H := by
  have hl := (List.getElem?_eq_some_iff.mp he).1
  intro k q hk
  by_cases hkp : k = q0
  · subst hkp
    rw [List.getElem?_set_self hl] at hk
    cases hk
    have h1 : H[a]? = some (vp_cell cA (n, .inl f)) := hP k _ he
    show H[a]? = some (vp_cell cA (n, .inl g))
    rw [h1, kd_cell h]
  · rw [List.getElem?_set_ne (Ne.symm hkp)] at hk
    exact hP k q hk
/-- array classes of one type are one class -/
theorem kd_one {D : va_G} {tys : List (ClassId × FieldType)} {U : State} (hK : va_K D vwCl tys U) (i j : Nat) {c1 c2 : ClassId} {ty : FieldType} (h1 : tys[i]? = some (c1, ty)) (h2 : tys[j]? = some (c2, ty)) (hty : ty = .byte ∨ ty = .int) : c1 = c2 := by
  have r1 := (hK.2 i _ h1).2
  have r2 := (hK.2 j _ h2).2
  rcases hty with rfl | rfl
  · exact Option.some.inj (r1.symm.trans r2)
  · exact Option.some.inj (r1.symm.trans r2)
/-- a method's start and end, by worlds -/
def kd_Pre (D : va_G) (tys : List (ClassId × FieldType)) (W0 : va_W) (sz : Nat) (U : State) : Prop := U.heap.size = sz ∧ va_P D vwCl W0 U.heap ∧ va_K D vwCl tys U ∧ va_D (fun _ => True) W0
def kd_B (D : va_G) (tys : List (ClassId × FieldType)) (A : Nat → Prop) (w : va_W) (t : State) : Prop := va_P D vwCl w t.heap ∧ va_K D vwCl tys t ∧ va_D A w
abbrev kd_QV (D : va_G) (tys : List (ClassId × FieldType)) (A : Nat → Prop) (WS : va_W → Prop) : Array Value → State → Outcome → State → Prop := va_Qv WS (fun w t => kd_B D tys A w t) A
abbrev kd_QI (D : va_G) (tys : List (ClassId × FieldType)) (A : Nat → Prop) (WS : Int32 → va_W → Prop) : Array Value → State → Outcome → State → Prop := va_Qi WS (fun w t => kd_B D tys A w t) A
/-- a void method's contract: from the world W0 to a world of WS -/
def kd_MV (l : Launch) (y : MethodName) (code : ByteArray) (nL : Nat) (rm : Room) (av : List Value) (D : va_G) (tys : List (ClassId × FieldType)) (W0 : va_W) (sz : Nat) (WS : va_W → Prop) : Prop := Met l y (ws_ y code nL none) rm (va_Pc av (kd_Pre D tys W0 sz)) (kd_QV D tys (va_A W0 sz) WS) 0 0 (va_A W0 sz)
/-- a method with an int or a boolean for its answer -/
def kd_MI (l : Launch) (y : MethodName) (code : ByteArray) (nL : Nat) (ty : FieldType) (rm : Room) (av : List Value) (D : va_G) (tys : List (ClassId × FieldType)) (W0 : va_W) (sz : Nat) (WS : Int32 → va_W → Prop) : Prop := Met l y (ws_ y code nL (some ty)) rm (va_Pc av (kd_Pre D tys W0 sz)) (kd_QI D tys (va_A W0 sz) WS) 0 0 (va_A W0 sz)
/-- a static method of numbers -/
def kd_MS (l : Launch) (y : MethodName) (code : ByteArray) (nL : Nat) (ty : FieldType) (rm : Room) (av : List Value) (r : Int32) : Prop := Met l y (ws_ y code nL (some ty)) rm (va_Pc av (fun _ => True)) (QcRead r) 0 0 (fun _ => False)
/-- a method that only reads -/
def kd_MR (l : Launch) (y : MethodName) (code : ByteArray) (nL : Nat) (ty : FieldType) (rm : Room) (av : List Value) (D : va_G) (tys : List (ClassId × FieldType)) (W0 : va_W) (r : Int32) : Prop := Met l y (ws_ y code nL (some ty)) rm (va_Pc av (fun U => va_P D vwCl W0 U.heap ∧ va_K D vwCl tys U)) (QcRead r) 0 0 (fun _ => False)
theorem kd_blind {D : va_G} {tys : List (ClassId × FieldType)} {W0 : va_W} {sz : Nat} {av : List Value} : FrameBlind (va_Pc av (kd_Pre D tys W0 sz)) := fun a U g mk q => by
  obtain ⟨q0, q1, qP, qK, qD⟩ := q
  exact ⟨q0, q1, qP, va_K.moved (u := U) (U := U.calling g mk a) (Vm.Alike.refl U.vm) qK, qD⟩
theorem kd_mv {l : Launch} {y : MethodName} {code : ByteArray} {nL : Nat} {rm : Room} {av : List Value} {D : va_G} {tys : List (ClassId × FieldType)} {W0 : va_W} {sz : Nat} {WS : va_W → Prop} (hy : plainName y.cls = true) (hlen : (lg_sl av).length ≤ nL)
    (body : ∀ (p : Program) (e : Env) (s : State) (m : MethodId) (below : List Frame) (meth : Method) (c : Code) (ls : Array Slot) (A : Nat → Prop), CallFix p m c code nL s av.toArray lw_all y.cls → meth.sig.returnType = none → meth.locks = false → meth.name = y.name → (∀ q, s.heap.size ≤ q → A q) → va_P D vwCl W0 s.heap → va_K D vwCl tys s → va_D A W0 → va_S A s.heap s.heap [] → lv_has ls nL (lv_args 0 av) →
      W p l e rm s m av.toArray below meth c s.heap [] 0 0 (MQ below (kd_QV D tys A WS) av.toArray s 0 0 A) (F0 m 0 ls [])) : kd_MV l y code nL rm av D tys W0 sz WS := by
  refine Met.ofW (cc := code) (maxL := nL) (ret := none) hy rfl ?_
  intro p e s m args below meth c s₁ B hml hv
  obtain ⟨rfl, hsz, hP, hK, hD0⟩ := hv
  have hts := atoms_spec (ws := ws_ y code nL none) B.pre
  have hts : ∀ w ∈ lw_all, w.before _ s = true := fun w h => hts w (List.mem_cons_of_mem _ h)
  subst hsz
  have hl := lv_entry av (n := nL) hlen
  rw [lg_entry_eq]
  exact body p e s m below meth c _ (va_A W0 s.heap.size) ⟨B.exec, B.bytes, hml, findClass_of_methodNamed B.named, hts⟩ B.returns B.notSynchronized (name_of_methodNamed B.named B.method).1 (fun q h => Or.inr h) hP hK hD0.self va_S.rf hl
theorem kd_mi {l : Launch} {y : MethodName} {code : ByteArray} {nL : Nat} {ty : FieldType} {rm : Room} {av : List Value} {D : va_G} {tys : List (ClassId × FieldType)} {W0 : va_W} {sz : Nat} {WS : Int32 → va_W → Prop} (hy : plainName y.cls = true) (hlen : (lg_sl av).length ≤ nL)
    (body : ∀ (p : Program) (e : Env) (s : State) (m : MethodId) (below : List Frame) (meth : Method) (c : Code) (ls : Array Slot) (A : Nat → Prop), CallFix p m c code nL s av.toArray lw_all y.cls → meth.sig.returnType = some ty → meth.locks = false → (∀ q, s.heap.size ≤ q → A q) → va_P D vwCl W0 s.heap → va_K D vwCl tys s → va_D A W0 → va_S A s.heap s.heap [] → lv_has ls nL (lv_args 0 av) →
      W p l e rm s m av.toArray below meth c s.heap [] 0 0 (MQ below (kd_QI D tys A WS) av.toArray s 0 0 A) (F0 m 0 ls [])) : kd_MI l y code nL ty rm av D tys W0 sz WS := by
  refine Met.ofW (cc := code) (maxL := nL) (ret := some ty) hy rfl ?_
  intro p e s m args below meth c s₁ B hml hv
  obtain ⟨rfl, hsz, hP, hK, hD0⟩ := hv
  have hts := atoms_spec (ws := ws_ y code nL (some ty)) B.pre
  have hts : ∀ w ∈ lw_all, w.before _ s = true := fun w h => hts w (List.mem_cons_of_mem _ h)
  subst hsz
  have hl := lv_entry av (n := nL) hlen
  rw [lg_entry_eq]
  exact body p e s m below meth c _ (va_A W0 s.heap.size) ⟨B.exec, B.bytes, hml, findClass_of_methodNamed B.named, hts⟩ B.returns B.notSynchronized (fun q h => Or.inr h) hP hK hD0.self va_S.rf hl
theorem kd_ms {l : Launch} {y : MethodName} {code : ByteArray} {nL : Nat} {ty : FieldType} {rm : Room} {av : List Value} {r : Int32} (hy : plainName y.cls = true) (hlen : (lg_sl av).length ≤ nL)
    (body : ∀ (p : Program) (e : Env) (s : State) (m : MethodId) (below : List Frame) (meth : Method) (c : Code) (ls : Array Slot), CallFix p m c code nL s av.toArray lw_all y.cls → meth.sig.returnType = some ty → meth.locks = false → lv_has ls nL (lv_args 0 av) →
      W p l e rm s m av.toArray below meth c s.heap [] 0 0 (MQ below (QcRead r) av.toArray s 0 0 (fun _ => False)) (F0 m 0 ls [])) : kd_MS l y code nL ty rm av r := by
  refine Met.ofW (cc := code) (maxL := nL) (ret := some ty) hy rfl ?_
  intro p e s m args below meth c s₁ B hml hv
  obtain ⟨rfl, -⟩ := hv
  have hts := atoms_spec (ws := ws_ y code nL (some ty)) B.pre
  have hts : ∀ w ∈ lw_all, w.before _ s = true := fun w h => hts w (List.mem_cons_of_mem _ h)
  have hl := lv_entry av (n := nL) hlen
  rw [lg_entry_eq]
  exact body p e s m below meth c _ ⟨B.exec, B.bytes, hml, findClass_of_methodNamed B.named, hts⟩ B.returns B.notSynchronized hl
theorem kd_mr {l : Launch} {y : MethodName} {code : ByteArray} {nL : Nat} {ty : FieldType} {rm : Room} {av : List Value} {D : va_G} {tys : List (ClassId × FieldType)} {W0 : va_W} {r : Int32} (hy : plainName y.cls = true) (hlen : (lg_sl av).length ≤ nL)
    (body : ∀ (p : Program) (e : Env) (s : State) (m : MethodId) (below : List Frame) (meth : Method) (c : Code) (ls : Array Slot), CallFix p m c code nL s av.toArray lw_all y.cls → meth.sig.returnType = some ty → meth.locks = false → va_P D vwCl W0 s.heap → va_K D vwCl tys s → lv_has ls nL (lv_args 0 av) →
      W p l e rm s m av.toArray below meth c s.heap [] 0 0 (MQ below (QcRead r) av.toArray s 0 0 (fun _ => False)) (F0 m 0 ls [])) : kd_MR l y code nL ty rm av D tys W0 r := by
  refine Met.ofW (cc := code) (maxL := nL) (ret := some ty) hy rfl ?_
  intro p e s m args below meth c s₁ B hml hv
  obtain ⟨rfl, hP, hK⟩ := hv
  have hts := atoms_spec (ws := ws_ y code nL (some ty)) B.pre
  have hts : ∀ w ∈ lw_all, w.before _ s = true := fun w h => hts w (List.mem_cons_of_mem _ h)
  have hl := lv_entry av (n := nL) hlen
  rw [lg_entry_eq]
  exact body p e s m below meth c _ ⟨B.exec, B.bytes, hml, findClass_of_methodNamed B.named, hts⟩ B.returns B.notSynchronized hP hK hl
section KDR
variable {p : Program} {l : Launch} {e : Env} {R : Room} {s : State} {m : MethodId} {args : Array Value} {below : List Frame} {meth : Method} {c : Code} {H : Heap} {locs : List Loc} {cells slots : Nat} {Q : State → Prop}
variable {cc : ByteArray} {pc nL : Nat} {ls : Array Slot} {rest : List Value} {D : va_G} {A : Nat → Prop} {H0 : Heap} {tys : List (ClassId × FieldType)}
variable {own : String} {w : va_W}
theorem kd_vend {WS : va_W → Prop} (S : CallFix p m c cc nL s args lw_all own) (hr : meth.sig.returnType = none) (hlk : meth.locks = false) (hK : va_K D vwCl tys s) (hP : va_P D vwCl w H) (hD : va_D A w) (hS : va_S A s.heap H locs) (hw : WS w) (hdg : decode cc pc = .ok (.return_, 1)) : W p l e R s m args below meth c H locs cells slots (MQ below (kd_QV D tys A WS) args s cells slots A) (F0 m pc ls []) :=
  W.vret S.1 S.2.1 hr (fun t ht hW => ⟨⟨w, rfl, hw, by rw [ht]; exact hP, va_K.moved hW.alike hK, hD⟩, hS.F ht⟩) hS.2.2 hdg hlk
theorem kd_iend {WS : Int32 → va_W → Prop} {r : Int32} {ty : FieldType} (S : CallFix p m c cc nL s args lw_all own) (hr : meth.sig.returnType = some ty) (hn : narrow ty (.int r) = .int r) (hlk : meth.locks = false) (hK : va_K D vwCl tys s) (hP : va_P D vwCl w H) (hD : va_D A w) (hS : va_S A s.heap H locs) (hw : WS r w) (hdg : decode cc pc = .ok (.ireturn, 1)) : W p l e R s m args below meth c H locs cells slots (MQ below (kd_QI D tys A WS) args s cells slots A) (F0 m pc ls [.int r]) :=
  W.zret S.1 S.2.1 hr hn (fun t ht hW => ⟨⟨r, w, rfl, hw, by rw [ht]; exact hP, va_K.moved hW.alike hK, hD⟩, hS.F ht⟩) hS.2.2 hdg hlk
theorem kd_rend {r v : Int32} {ty : FieldType} (S : CallFix p m c cc nL s args lw_all own) (hr : meth.sig.returnType = some ty) (hn : narrow ty (.int v) = .int v) (hlk : meth.locks = false) (hv : v = r) (hdg : decode cc pc = .ok (.ireturn, 1)) : W p l e R s m args below meth c s.heap [] cells slots (MQ below (QcRead r) args s cells slots (fun _ => False)) (F0 m pc ls [.int v]) :=
  W.zret S.1 S.2.1 hr hn (fun t ht hW => ⟨by rw [hv], ht⟩) (fun q h => by cases h) hdg hlk
theorem kd_fr {W0 : va_W} (hD : va_D A W0) (hS : va_S A H0 H locs) (hA : ∀ q, H0.size ≤ q → A q) : ∀ q, va_A W0 H.size q → A q := by
  intro q h
  rcases h with ⟨k, e, h⟩ | h
  · exact hD.2 k (q, e) h
  · exact hA q (Nat.le_trans hS.1 h)
variable {y : MethodName} {bytes : ByteArray} {maxL n index b : Nat} {rm : Room} {C : String} {As st : List Value} {W0 W2 : va_W}
/-- a call whose callee has the whole world -/
theorem kd_cv {WS : va_W → Prop} (S : CallFix p m c cc nL s args lw_all own) (hM : kd_MV l y bytes maxL rm (.ref b :: As) D tys W0 H.size WS) (cw : CallW R s args own C index y bytes maxL none (ws_ y bytes maxL none) rm 0 0 n) (hK : va_K D vwCl tys s) (hP : va_P D vwCl W0 H) (hD : va_D A W0) (hS : va_S A H0 H locs) (hA : ∀ q, H0.size ≤ q → A q) (hrec : ∃ cell : Cell, H[b]? = some cell ∧ cell.vm.isStatics = false ∧ s.vm.findClass C = some cell.cls)
    (hn : As.length = n) (hsz : ls.size = nL) (hst : st = As.reverse ++ .ref b :: rest) (hW : (rest.map fun v => v.category).sum ≤ 8) (hdg : decode cc pc = .ok (.invokevirtual index, 3)) (hf : cells ≤ R.cells ∧ slots ≤ R.slots)
    (kk : ∀ (w : va_W) (H1 : Heap) (locs1 : List Loc), WS w → va_P D vwCl w H1 → va_D A w → va_S A H0 H1 locs1 → W p l e R s m args below meth c H1 locs1 cells slots Q (F0 m (pc + 3) ls rest)) : W p l e R s m args below meth c H locs cells slots Q (F0 m pc ls st) := by
  have hFc := kd_fr hD hS hA
  refine va_callv (va_runV (As := As) (rest := rest) S hM cw ⟨kd_blind, hrec, fun U hU hWm => ⟨rfl, by rw [hU], by rw [hU]; exact hP, va_K.moved hWm.alike hK, hD.weaken (fun _ _ _ _ => trivial)⟩⟩ rfl hn hsz hst (lv_room (m := m) (pc := pc) (ls := ls) (rest := st) hW) hdg hf) hS (fun q _ h => hFc q h) hFc (fun u t H1 locs1 ht hvm hw hB hz hk hS1 => ?_)
  obtain ⟨hP1, hK1, hD1⟩ := hB
  rw [ht] at hP1
  exact kk u H1 locs1 hw hP1 (hD1.weaken (fun k q _ h => hFc q.1 h)) hS1
theorem kd_ci {WS : Int32 → va_W → Prop} {ty : FieldType} (S : CallFix p m c cc nL s args lw_all own) (hM : kd_MI l y bytes maxL ty rm (.ref b :: As) D tys W0 H.size WS) (cw : CallW R s args own C index y bytes maxL (some ty) (ws_ y bytes maxL (some ty)) rm 0 0 n) (hK : va_K D vwCl tys s) (hP : va_P D vwCl W0 H) (hD : va_D A W0) (hS : va_S A H0 H locs) (hA : ∀ q, H0.size ≤ q → A q) (hrec : ∃ cell : Cell, H[b]? = some cell ∧ cell.vm.isStatics = false ∧ s.vm.findClass C = some cell.cls)
    (hn : As.length = n) (hsz : ls.size = nL) (hst : st = As.reverse ++ .ref b :: rest) (hW : (rest.map fun v => v.category).sum ≤ 8) (hdg : decode cc pc = .ok (.invokevirtual index, 3)) (hf : cells ≤ R.cells ∧ slots ≤ R.slots)
    (kk : ∀ (r : Int32) (w : va_W) (H1 : Heap) (locs1 : List Loc), WS r w → va_P D vwCl w H1 → va_D A w → va_S A H0 H1 locs1 → W p l e R s m args below meth c H1 locs1 cells slots Q (F0 m (pc + 3) ls (.int r :: rest))) : W p l e R s m args below meth c H locs cells slots Q (F0 m pc ls st) := by
  have hFc := kd_fr hD hS hA
  refine va_calli (va_runV (As := As) (rest := rest) S hM cw ⟨kd_blind, hrec, fun U hU hWm => ⟨rfl, by rw [hU], by rw [hU]; exact hP, va_K.moved hWm.alike hK, hD.weaken (fun _ _ _ _ => trivial)⟩⟩ rfl hn hsz hst (lv_room (m := m) (pc := pc) (ls := ls) (rest := st) hW) hdg hf) hS (fun q _ h => hFc q h) hFc (fun r u t H1 locs1 ht hvm hw hB hz hk hS1 => ?_)
  obtain ⟨hP1, hK1, hD1⟩ := hB
  rw [ht] at hP1
  exact kk r u H1 locs1 hw hP1 (hD1.weaken (fun k q _ h => hFc q.1 h)) hS1
/-- a static call -/
theorem kd_cs {r : Int32} {ty : FieldType} (S : CallFix p m c cc nL s args lw_all own) (hM : kd_MS l y bytes maxL ty rm As r) (cw : CallB R s args own index y bytes maxL (some ty) (ws_ y bytes maxL (some ty)) rm 0 0 n ∧ (Cond.static y).before args s = true)
    (hn : As.length = n) (hsz : ls.size = nL) (hst : st = As.reverse ++ rest) (hW : (rest.map fun v => v.category).sum ≤ 8) (hdg : decode cc pc = .ok (.invokestatic index, 3)) (hf : cells ≤ R.cells ∧ slots ≤ R.slots)
    (kk : W p l e R s m args below meth c H locs cells slots Q (F0 m (pc + 3) ls (.int r :: rest))) : W p l e R s m args below meth c H locs cells slots Q (F0 m pc ls st) :=
  W.callR (W.runS (As := As) (rest := rest) S hM cw ⟨fun _ _ _ _ q => q, fun _ _ _ => ⟨rfl, trivial⟩⟩ rfl hn hsz hst (lv_room (m := m) (pc := pc) (ls := ls) (rest := st) hW) hdg hf) kk
/-- a call that only reads -/
theorem kd_cr {r : Int32} {ty : FieldType} (S : CallFix p m c cc nL s args lw_all own) (hM : kd_MR l y bytes maxL ty rm (.ref b :: As) D tys W0 r) (cw : CallW R s args own C index y bytes maxL (some ty) (ws_ y bytes maxL (some ty)) rm 0 0 n) (hK : va_K D vwCl tys s) (hP : va_P D vwCl W0 H) (hrec : ∃ cell : Cell, H[b]? = some cell ∧ cell.vm.isStatics = false ∧ s.vm.findClass C = some cell.cls)
    (hn : As.length = n) (hsz : ls.size = nL) (hst : st = As.reverse ++ .ref b :: rest) (hW : (rest.map fun v => v.category).sum ≤ 8) (hdg : decode cc pc = .ok (.invokevirtual index, 3)) (hf : cells ≤ R.cells ∧ slots ≤ R.slots)
    (kk : W p l e R s m args below meth c H locs cells slots Q (F0 m (pc + 3) ls (.int r :: rest))) : W p l e R s m args below meth c H locs cells slots Q (F0 m pc ls st) :=
  W.callR (W.runV (As := As) (rest := rest) S hM cw ⟨fun a U g mk q => ⟨q.1, q.2.1, va_K.moved (u := U) (U := U.calling g mk a) (Vm.Alike.refl U.vm) q.2.2⟩, hrec, fun U hU hWm => ⟨rfl, by rw [hU]; exact hP, va_K.moved hWm.alike hK⟩⟩ rfl hn hsz hst (lv_room (m := m) (pc := pc) (ls := ls) (rest := st) hW) hdg hf) kk
/-- two worlds apart -/
def kd_ap (w1 w2 : va_W) : Prop := ∀ (i j : Nat) (x y : Nat × va_E), w1[i]? = some x → w2[j]? = some y → x.1 ≠ y.1
theorem kd_ap.symm {w1 w2 : va_W} (h : kd_ap w1 w2) : kd_ap w2 w1 := fun i j x y hx hy e => h j i y x hy hx e.symm
/-- the other world stays -/
theorem kd_off (hP2 : va_P D vwCl W2 H) (hap : kd_ap W0 W2) : ∀ (k : Nat) (q : Nat × va_E), W2[k]? = some q → q.1 < H.size ∧ ¬ va_A W0 H.size q.1 := by
  intro k q hq
  have hl := (hP2 k q hq).lt
  refine ⟨hl, fun h => ?_⟩
  rcases h with ⟨k1, e1, h1⟩ | h
  · exact hap k1 k (q.1, e1) q h1 hq rfl
  · omega
/-- the law's call: the callee has W0, the other world W2 stays -/
theorem kd_lv {WS : va_W → Prop} (S : CallFix p m c cc nL s args lw_all own) (hM : kd_MV l y bytes maxL rm (.ref b :: As) D tys W0 H.size WS) (cw : CallW R s args own C index y bytes maxL none (ws_ y bytes maxL none) rm 0 0 n) (hK : va_K D vwCl tys s) (hP : va_P D vwCl W0 H) (hP2 : va_P D vwCl W2 H) (hap : kd_ap W0 W2) (hD : va_D A W0) (hS : va_S A H0 H locs) (hA : ∀ q, H0.size ≤ q → A q) (hrec : ∃ cell : Cell, H[b]? = some cell ∧ cell.vm.isStatics = false ∧ s.vm.findClass C = some cell.cls)
    (hn : As.length = n) (hsz : ls.size = nL) (hst : st = As.reverse ++ .ref b :: rest) (hW : (rest.map fun v => v.category).sum ≤ 8) (hdg : decode cc pc = .ok (.invokevirtual index, 3)) (hf : cells ≤ R.cells ∧ slots ≤ R.slots)
    (kk : ∀ (w : va_W) (H1 : Heap) (locs1 : List Loc), WS w → va_P D vwCl w H1 → va_P D vwCl W2 H1 → kd_ap w W2 → va_D A w → va_S A H0 H1 locs1 → W p l e R s m args below meth c H1 locs1 cells slots Q (F0 m (pc + 3) ls rest)) : W p l e R s m args below meth c H locs cells slots Q (F0 m pc ls st) := by
  have hFc := kd_fr hD hS hA
  have hoff := kd_off hP2 hap
  refine va_callv (va_runV (As := As) (rest := rest) S hM cw ⟨kd_blind, hrec, fun U hU hWm => ⟨rfl, by rw [hU], by rw [hU]; exact hP, va_K.moved hWm.alike hK, hD.weaken (fun _ _ _ _ => trivial)⟩⟩ rfl hn hsz hst (lv_room (m := m) (pc := pc) (ls := ls) (rest := st) hW) hdg hf) hS (fun q _ h => hFc q h) hFc (fun u t H1 locs1 ht hvm hw hB hz hk hS1 => ?_)
  obtain ⟨hP1, hK1, hD1⟩ := hB
  rw [ht] at hP1
  exact kk u H1 locs1 hw hP1 (hP2.kept (fun k q hq => hk q.1 (hoff k q hq).1 (hoff k q hq).2)) (fun i j x y hx hy e => (hoff j y hy).2 (by rw [← e]; exact hD1.2 i x hx)) (hD1.weaken (fun k q _ h => hFc q.1 h)) hS1
theorem kd_li {WS : Int32 → va_W → Prop} {ty : FieldType} (S : CallFix p m c cc nL s args lw_all own) (hM : kd_MI l y bytes maxL ty rm (.ref b :: As) D tys W0 H.size WS) (cw : CallW R s args own C index y bytes maxL (some ty) (ws_ y bytes maxL (some ty)) rm 0 0 n) (hK : va_K D vwCl tys s) (hP : va_P D vwCl W0 H) (hP2 : va_P D vwCl W2 H) (hap : kd_ap W0 W2) (hD : va_D A W0) (hS : va_S A H0 H locs) (hA : ∀ q, H0.size ≤ q → A q) (hrec : ∃ cell : Cell, H[b]? = some cell ∧ cell.vm.isStatics = false ∧ s.vm.findClass C = some cell.cls)
    (hn : As.length = n) (hsz : ls.size = nL) (hst : st = As.reverse ++ .ref b :: rest) (hW : (rest.map fun v => v.category).sum ≤ 8) (hdg : decode cc pc = .ok (.invokevirtual index, 3)) (hf : cells ≤ R.cells ∧ slots ≤ R.slots)
    (kk : ∀ (r : Int32) (w : va_W) (H1 : Heap) (locs1 : List Loc), WS r w → va_P D vwCl w H1 → va_P D vwCl W2 H1 → kd_ap w W2 → va_D A w → va_S A H0 H1 locs1 → W p l e R s m args below meth c H1 locs1 cells slots Q (F0 m (pc + 3) ls (.int r :: rest))) : W p l e R s m args below meth c H locs cells slots Q (F0 m pc ls st) := by
  have hFc := kd_fr hD hS hA
  have hoff := kd_off hP2 hap
  refine va_calli (va_runV (As := As) (rest := rest) S hM cw ⟨kd_blind, hrec, fun U hU hWm => ⟨rfl, by rw [hU], by rw [hU]; exact hP, va_K.moved hWm.alike hK, hD.weaken (fun _ _ _ _ => trivial)⟩⟩ rfl hn hsz hst (lv_room (m := m) (pc := pc) (ls := ls) (rest := st) hW) hdg hf) hS (fun q _ h => hFc q h) hFc (fun r u t H1 locs1 ht hvm hw hB hz hk hS1 => ?_)
  obtain ⟨hP1, hK1, hD1⟩ := hB
  rw [ht] at hP1
  exact kk r u H1 locs1 hw hP1 (hP2.kept (fun k q hq => hk q.1 (hoff k q hq).1 (hoff k q hq).2)) (fun i j x y hx hy e => (hoff j y hy).2 (by rw [← e]; exact hD1.2 i x hx)) (hD1.weaken (fun k q _ h => hFc q.1 h)) hS1
end KDR
section KDX
variable {p : Program} {l : Launch} {e : Env} {R : Room} {s : State} {m : MethodId} {args : Array Value} {below : List Frame} {meth : Method} {c : Code} {H : Heap} {locs : List Loc} {cells slots : Nat} {Q : State → Prop}
variable {cc : ByteArray} {pc nL : Nat} {ls : Array Slot} {rest : List Value} {D : va_G} {A : Nat → Prop} {H0 : Heap} {tys : List (ClassId × FieldType)}
variable {o a1 a2 a3 a4 a5 a6 a7 : Nat} {cB cI : ClassId} {rd ph fl dg : Int32} {ky pl bg hh mm vv bk : Nat → Int32} {mx ct : Int64}

theorem xg_rd (S : CallFix p m c cc nL s args lw_all RX0) (hK : va_K D vwCl (tyL cB cI) s) (hP : va_P D vwCl (xw o a1 a2 a3 a4 a5 a6 a7 cB cI rd ph ky pl bg hh mm vv bk fl mx dg ct) H) (hdg : decode cc pc = .ok (.getfield 66, 3)) (kk : W p l e R s m args below meth c H locs cells slots Q (F0 m (pc + 3) ls (.int rd :: rest))) : W p l e R s m args below meth c H locs cells slots Q (F0 m pc ls (.ref o :: rest)) :=
  va_get (D := D) (ci := 0) (C := RX0) (T := TX0) (N := 13) S.1 S.2.1 S.2.2.2.2 in_X0 S.2.2.2.1 hK hP 0 rfl rfl 0 (by decide) (S.2.2.2.2 _ q19) (fun _ h9 => h9) rfl hdg kk
theorem xp_rd {x : Int32} (S : CallFix p m c cc nL s args lw_all RX0) (hK : va_K D vwCl (tyL cB cI) s) (hP : va_P D vwCl (xw o a1 a2 a3 a4 a5 a6 a7 cB cI rd ph ky pl bg hh mm vv bk fl mx dg ct) H) (hD : va_D A (xw o a1 a2 a3 a4 a5 a6 a7 cB cI rd ph ky pl bg hh mm vv bk fl mx dg ct)) (hS : va_S A H0 H locs) (hn : narrow .boolean (.int x) = .int x) (hfi : fits .boolean (.int x) = true) (hdg : decode cc pc = .ok (.putfield 66, 3)) (kk : ∀ (H1 : Heap) (locs1 : List Loc), va_P D vwCl (xw o a1 a2 a3 a4 a5 a6 a7 cB cI x ph ky pl bg hh mm vv bk fl mx dg ct) H1 → va_D A (xw o a1 a2 a3 a4 a5 a6 a7 cB cI x ph ky pl bg hh mm vv bk fl mx dg ct) → va_S A H0 H1 locs1 → W p l e R s m args below meth c H1 locs1 cells slots Q (F0 m (pc + 3) ls rest)) : W p l e R s m args below meth c H locs cells slots Q (F0 m pc ls (.int x :: .ref o :: rest)) :=
  va_put (D := D) (ci := 0) (ty := .boolean) (C := RX0) (T := TX0) (N := 13) S.1 S.2.1 S.2.2.2.2 in_X0 tyX0 tyX0_ok nmX0 S.2.2.2.1 hK hP hD hS 0 rfl rfl 0 (by decide) (S.2.2.2.2 _ q19) (fun _ h9 => h9) rfl (by decide +kernel) hn hfi (Nat.le_of_ble_eq_true rfl) hdg kk
theorem xg_ph (S : CallFix p m c cc nL s args lw_all RX0) (hK : va_K D vwCl (tyL cB cI) s) (hP : va_P D vwCl (xw o a1 a2 a3 a4 a5 a6 a7 cB cI rd ph ky pl bg hh mm vv bk fl mx dg ct) H) (hdg : decode cc pc = .ok (.getfield 70, 3)) (kk : W p l e R s m args below meth c H locs cells slots Q (F0 m (pc + 3) ls (.int ph :: rest))) : W p l e R s m args below meth c H locs cells slots Q (F0 m pc ls (.ref o :: rest)) :=
  va_get (D := D) (ci := 0) (C := RX0) (T := TX0) (N := 13) S.1 S.2.1 S.2.2.2.2 in_X0 S.2.2.2.1 hK hP 0 rfl rfl 1 (by decide) (S.2.2.2.2 _ q20) (fun _ h9 => h9) rfl hdg kk
theorem xp_ph {x : Int32} (S : CallFix p m c cc nL s args lw_all RX0) (hK : va_K D vwCl (tyL cB cI) s) (hP : va_P D vwCl (xw o a1 a2 a3 a4 a5 a6 a7 cB cI rd ph ky pl bg hh mm vv bk fl mx dg ct) H) (hD : va_D A (xw o a1 a2 a3 a4 a5 a6 a7 cB cI rd ph ky pl bg hh mm vv bk fl mx dg ct)) (hS : va_S A H0 H locs) (hdg : decode cc pc = .ok (.putfield 70, 3)) (kk : ∀ (H1 : Heap) (locs1 : List Loc), va_P D vwCl (xw o a1 a2 a3 a4 a5 a6 a7 cB cI rd x ky pl bg hh mm vv bk fl mx dg ct) H1 → va_D A (xw o a1 a2 a3 a4 a5 a6 a7 cB cI rd x ky pl bg hh mm vv bk fl mx dg ct) → va_S A H0 H1 locs1 → W p l e R s m args below meth c H1 locs1 cells slots Q (F0 m (pc + 3) ls rest)) : W p l e R s m args below meth c H locs cells slots Q (F0 m pc ls (.int x :: .ref o :: rest)) :=
  va_put (D := D) (ci := 0) (ty := .int) (C := RX0) (T := TX0) (N := 13) S.1 S.2.1 S.2.2.2.2 in_X0 tyX0 tyX0_ok nmX0 S.2.2.2.1 hK hP hD hS 0 rfl rfl 1 (by decide) (S.2.2.2.2 _ q20) (fun _ h9 => h9) rfl (by decide +kernel) rfl rfl (Nat.le_of_ble_eq_true rfl) hdg kk
theorem xg_a1 (S : CallFix p m c cc nL s args lw_all RX0) (hK : va_K D vwCl (tyL cB cI) s) (hP : va_P D vwCl (xw o a1 a2 a3 a4 a5 a6 a7 cB cI rd ph ky pl bg hh mm vv bk fl mx dg ct) H) (hdg : decode cc pc = .ok (.getfield 9, 3)) (kk : W p l e R s m args below meth c H locs cells slots Q (F0 m (pc + 3) ls (.ref a1 :: rest))) : W p l e R s m args below meth c H locs cells slots Q (F0 m pc ls (.ref o :: rest)) :=
  va_get (D := D) (ci := 0) (C := RX0) (T := TX0) (N := 13) S.1 S.2.1 S.2.2.2.2 in_X0 S.2.2.2.1 hK hP 0 rfl rfl 2 (by decide) (S.2.2.2.2 _ q21) (fun _ h9 => h9) rfl hdg kk
theorem xg_a2 (S : CallFix p m c cc nL s args lw_all RX0) (hK : va_K D vwCl (tyL cB cI) s) (hP : va_P D vwCl (xw o a1 a2 a3 a4 a5 a6 a7 cB cI rd ph ky pl bg hh mm vv bk fl mx dg ct) H) (hdg : decode cc pc = .ok (.getfield 13, 3)) (kk : W p l e R s m args below meth c H locs cells slots Q (F0 m (pc + 3) ls (.ref a2 :: rest))) : W p l e R s m args below meth c H locs cells slots Q (F0 m pc ls (.ref o :: rest)) :=
  va_get (D := D) (ci := 0) (C := RX0) (T := TX0) (N := 13) S.1 S.2.1 S.2.2.2.2 in_X0 S.2.2.2.1 hK hP 0 rfl rfl 3 (by decide) (S.2.2.2.2 _ q22) (fun _ h9 => h9) rfl hdg kk
theorem xg_a3 (S : CallFix p m c cc nL s args lw_all RX0) (hK : va_K D vwCl (tyL cB cI) s) (hP : va_P D vwCl (xw o a1 a2 a3 a4 a5 a6 a7 cB cI rd ph ky pl bg hh mm vv bk fl mx dg ct) H) (hdg : decode cc pc = .ok (.getfield 16, 3)) (kk : W p l e R s m args below meth c H locs cells slots Q (F0 m (pc + 3) ls (.ref a3 :: rest))) : W p l e R s m args below meth c H locs cells slots Q (F0 m pc ls (.ref o :: rest)) :=
  va_get (D := D) (ci := 0) (C := RX0) (T := TX0) (N := 13) S.1 S.2.1 S.2.2.2.2 in_X0 S.2.2.2.1 hK hP 0 rfl rfl 4 (by decide) (S.2.2.2.2 _ q23) (fun _ h9 => h9) rfl hdg kk
theorem xg_a4 (S : CallFix p m c cc nL s args lw_all RX0) (hK : va_K D vwCl (tyL cB cI) s) (hP : va_P D vwCl (xw o a1 a2 a3 a4 a5 a6 a7 cB cI rd ph ky pl bg hh mm vv bk fl mx dg ct) H) (hdg : decode cc pc = .ok (.getfield 20, 3)) (kk : W p l e R s m args below meth c H locs cells slots Q (F0 m (pc + 3) ls (.ref a4 :: rest))) : W p l e R s m args below meth c H locs cells slots Q (F0 m pc ls (.ref o :: rest)) :=
  va_get (D := D) (ci := 0) (C := RX0) (T := TX0) (N := 13) S.1 S.2.1 S.2.2.2.2 in_X0 S.2.2.2.1 hK hP 0 rfl rfl 5 (by decide) (S.2.2.2.2 _ q24) (fun _ h9 => h9) rfl hdg kk
theorem xg_a5 (S : CallFix p m c cc nL s args lw_all RX0) (hK : va_K D vwCl (tyL cB cI) s) (hP : va_P D vwCl (xw o a1 a2 a3 a4 a5 a6 a7 cB cI rd ph ky pl bg hh mm vv bk fl mx dg ct) H) (hdg : decode cc pc = .ok (.getfield 23, 3)) (kk : W p l e R s m args below meth c H locs cells slots Q (F0 m (pc + 3) ls (.ref a5 :: rest))) : W p l e R s m args below meth c H locs cells slots Q (F0 m pc ls (.ref o :: rest)) :=
  va_get (D := D) (ci := 0) (C := RX0) (T := TX0) (N := 13) S.1 S.2.1 S.2.2.2.2 in_X0 S.2.2.2.1 hK hP 0 rfl rfl 6 (by decide) (S.2.2.2.2 _ q25) (fun _ h9 => h9) rfl hdg kk
theorem xg_a6 (S : CallFix p m c cc nL s args lw_all RX0) (hK : va_K D vwCl (tyL cB cI) s) (hP : va_P D vwCl (xw o a1 a2 a3 a4 a5 a6 a7 cB cI rd ph ky pl bg hh mm vv bk fl mx dg ct) H) (hdg : decode cc pc = .ok (.getfield 26, 3)) (kk : W p l e R s m args below meth c H locs cells slots Q (F0 m (pc + 3) ls (.ref a6 :: rest))) : W p l e R s m args below meth c H locs cells slots Q (F0 m pc ls (.ref o :: rest)) :=
  va_get (D := D) (ci := 0) (C := RX0) (T := TX0) (N := 13) S.1 S.2.1 S.2.2.2.2 in_X0 S.2.2.2.1 hK hP 0 rfl rfl 7 (by decide) (S.2.2.2.2 _ q26) (fun _ h9 => h9) rfl hdg kk
theorem xg_a7 (S : CallFix p m c cc nL s args lw_all RX0) (hK : va_K D vwCl (tyL cB cI) s) (hP : va_P D vwCl (xw o a1 a2 a3 a4 a5 a6 a7 cB cI rd ph ky pl bg hh mm vv bk fl mx dg ct) H) (hdg : decode cc pc = .ok (.getfield 29, 3)) (kk : W p l e R s m args below meth c H locs cells slots Q (F0 m (pc + 3) ls (.ref a7 :: rest))) : W p l e R s m args below meth c H locs cells slots Q (F0 m pc ls (.ref o :: rest)) :=
  va_get (D := D) (ci := 0) (C := RX0) (T := TX0) (N := 13) S.1 S.2.1 S.2.2.2.2 in_X0 S.2.2.2.1 hK hP 0 rfl rfl 8 (by decide) (S.2.2.2.2 _ q27) (fun _ h9 => h9) rfl hdg kk
theorem xg_fl (S : CallFix p m c cc nL s args lw_all RX0) (hK : va_K D vwCl (tyL cB cI) s) (hP : va_P D vwCl (xw o a1 a2 a3 a4 a5 a6 a7 cB cI rd ph ky pl bg hh mm vv bk fl mx dg ct) H) (hdg : decode cc pc = .ok (.getfield 98, 3)) (kk : W p l e R s m args below meth c H locs cells slots Q (F0 m (pc + 3) ls (.int fl :: rest))) : W p l e R s m args below meth c H locs cells slots Q (F0 m pc ls (.ref o :: rest)) :=
  va_get (D := D) (ci := 0) (C := RX0) (T := TX0) (N := 13) S.1 S.2.1 S.2.2.2.2 in_X0 S.2.2.2.1 hK hP 0 rfl rfl 9 (by decide) (S.2.2.2.2 _ q28) (fun _ h9 => h9) rfl hdg kk
theorem xp_fl {x : Int32} (S : CallFix p m c cc nL s args lw_all RX0) (hK : va_K D vwCl (tyL cB cI) s) (hP : va_P D vwCl (xw o a1 a2 a3 a4 a5 a6 a7 cB cI rd ph ky pl bg hh mm vv bk fl mx dg ct) H) (hD : va_D A (xw o a1 a2 a3 a4 a5 a6 a7 cB cI rd ph ky pl bg hh mm vv bk fl mx dg ct)) (hS : va_S A H0 H locs) (hdg : decode cc pc = .ok (.putfield 98, 3)) (kk : ∀ (H1 : Heap) (locs1 : List Loc), va_P D vwCl (xw o a1 a2 a3 a4 a5 a6 a7 cB cI rd ph ky pl bg hh mm vv bk x mx dg ct) H1 → va_D A (xw o a1 a2 a3 a4 a5 a6 a7 cB cI rd ph ky pl bg hh mm vv bk x mx dg ct) → va_S A H0 H1 locs1 → W p l e R s m args below meth c H1 locs1 cells slots Q (F0 m (pc + 3) ls rest)) : W p l e R s m args below meth c H locs cells slots Q (F0 m pc ls (.int x :: .ref o :: rest)) :=
  va_put (D := D) (ci := 0) (ty := .int) (C := RX0) (T := TX0) (N := 13) S.1 S.2.1 S.2.2.2.2 in_X0 tyX0 tyX0_ok nmX0 S.2.2.2.1 hK hP hD hS 0 rfl rfl 9 (by decide) (S.2.2.2.2 _ q28) (fun _ h9 => h9) rfl (by decide +kernel) rfl rfl (Nat.le_of_ble_eq_true rfl) hdg kk
theorem xg_mx (S : CallFix p m c cc nL s args lw_all RX0) (hK : va_K D vwCl (tyL cB cI) s) (hP : va_P D vwCl (xw o a1 a2 a3 a4 a5 a6 a7 cB cI rd ph ky pl bg hh mm vv bk fl mx dg ct) H) (hdg : decode cc pc = .ok (.getfield 86, 3)) (kk : W p l e R s m args below meth c H locs cells slots Q (F0 m (pc + 3) ls (.long mx :: rest))) : W p l e R s m args below meth c H locs cells slots Q (F0 m pc ls (.ref o :: rest)) :=
  va_get (D := D) (ci := 0) (C := RX0) (T := TX0) (N := 13) S.1 S.2.1 S.2.2.2.2 in_X0 S.2.2.2.1 hK hP 0 rfl rfl 10 (by decide) (S.2.2.2.2 _ q29) (fun _ h9 => h9) rfl hdg kk
theorem xp_mx {x : Int64} (S : CallFix p m c cc nL s args lw_all RX0) (hK : va_K D vwCl (tyL cB cI) s) (hP : va_P D vwCl (xw o a1 a2 a3 a4 a5 a6 a7 cB cI rd ph ky pl bg hh mm vv bk fl mx dg ct) H) (hD : va_D A (xw o a1 a2 a3 a4 a5 a6 a7 cB cI rd ph ky pl bg hh mm vv bk fl mx dg ct)) (hS : va_S A H0 H locs) (hdg : decode cc pc = .ok (.putfield 86, 3)) (kk : ∀ (H1 : Heap) (locs1 : List Loc), va_P D vwCl (xw o a1 a2 a3 a4 a5 a6 a7 cB cI rd ph ky pl bg hh mm vv bk fl x dg ct) H1 → va_D A (xw o a1 a2 a3 a4 a5 a6 a7 cB cI rd ph ky pl bg hh mm vv bk fl x dg ct) → va_S A H0 H1 locs1 → W p l e R s m args below meth c H1 locs1 cells slots Q (F0 m (pc + 3) ls rest)) : W p l e R s m args below meth c H locs cells slots Q (F0 m pc ls (.long x :: .ref o :: rest)) :=
  va_put (D := D) (ci := 0) (ty := .long) (C := RX0) (T := TX0) (N := 13) S.1 S.2.1 S.2.2.2.2 in_X0 tyX0 tyX0_ok nmX0 S.2.2.2.1 hK hP hD hS 0 rfl rfl 10 (by decide) (S.2.2.2.2 _ q29) (fun _ h9 => h9) rfl (by decide +kernel) rfl rfl (Nat.le_of_ble_eq_true rfl) hdg kk
theorem xg_dg (S : CallFix p m c cc nL s args lw_all RX0) (hK : va_K D vwCl (tyL cB cI) s) (hP : va_P D vwCl (xw o a1 a2 a3 a4 a5 a6 a7 cB cI rd ph ky pl bg hh mm vv bk fl mx dg ct) H) (hdg : decode cc pc = .ok (.getfield 95, 3)) (kk : W p l e R s m args below meth c H locs cells slots Q (F0 m (pc + 3) ls (.int dg :: rest))) : W p l e R s m args below meth c H locs cells slots Q (F0 m pc ls (.ref o :: rest)) :=
  va_get (D := D) (ci := 0) (C := RX0) (T := TX0) (N := 13) S.1 S.2.1 S.2.2.2.2 in_X0 S.2.2.2.1 hK hP 0 rfl rfl 11 (by decide) (S.2.2.2.2 _ q30) (fun _ h9 => h9) rfl hdg kk
theorem xp_dg {x : Int32} (S : CallFix p m c cc nL s args lw_all RX0) (hK : va_K D vwCl (tyL cB cI) s) (hP : va_P D vwCl (xw o a1 a2 a3 a4 a5 a6 a7 cB cI rd ph ky pl bg hh mm vv bk fl mx dg ct) H) (hD : va_D A (xw o a1 a2 a3 a4 a5 a6 a7 cB cI rd ph ky pl bg hh mm vv bk fl mx dg ct)) (hS : va_S A H0 H locs) (hdg : decode cc pc = .ok (.putfield 95, 3)) (kk : ∀ (H1 : Heap) (locs1 : List Loc), va_P D vwCl (xw o a1 a2 a3 a4 a5 a6 a7 cB cI rd ph ky pl bg hh mm vv bk fl mx x ct) H1 → va_D A (xw o a1 a2 a3 a4 a5 a6 a7 cB cI rd ph ky pl bg hh mm vv bk fl mx x ct) → va_S A H0 H1 locs1 → W p l e R s m args below meth c H1 locs1 cells slots Q (F0 m (pc + 3) ls rest)) : W p l e R s m args below meth c H locs cells slots Q (F0 m pc ls (.int x :: .ref o :: rest)) :=
  va_put (D := D) (ci := 0) (ty := .int) (C := RX0) (T := TX0) (N := 13) S.1 S.2.1 S.2.2.2.2 in_X0 tyX0 tyX0_ok nmX0 S.2.2.2.1 hK hP hD hS 0 rfl rfl 11 (by decide) (S.2.2.2.2 _ q30) (fun _ h9 => h9) rfl (by decide +kernel) rfl rfl (Nat.le_of_ble_eq_true rfl) hdg kk
theorem xg_ct (S : CallFix p m c cc nL s args lw_all RX0) (hK : va_K D vwCl (tyL cB cI) s) (hP : va_P D vwCl (xw o a1 a2 a3 a4 a5 a6 a7 cB cI rd ph ky pl bg hh mm vv bk fl mx dg ct) H) (hdg : decode cc pc = .ok (.getfield 101, 3)) (kk : W p l e R s m args below meth c H locs cells slots Q (F0 m (pc + 3) ls (.long ct :: rest))) : W p l e R s m args below meth c H locs cells slots Q (F0 m pc ls (.ref o :: rest)) :=
  va_get (D := D) (ci := 0) (C := RX0) (T := TX0) (N := 13) S.1 S.2.1 S.2.2.2.2 in_X0 S.2.2.2.1 hK hP 0 rfl rfl 12 (by decide) (S.2.2.2.2 _ q31) (fun _ h9 => h9) rfl hdg kk
theorem xp_ct {x : Int64} (S : CallFix p m c cc nL s args lw_all RX0) (hK : va_K D vwCl (tyL cB cI) s) (hP : va_P D vwCl (xw o a1 a2 a3 a4 a5 a6 a7 cB cI rd ph ky pl bg hh mm vv bk fl mx dg ct) H) (hD : va_D A (xw o a1 a2 a3 a4 a5 a6 a7 cB cI rd ph ky pl bg hh mm vv bk fl mx dg ct)) (hS : va_S A H0 H locs) (hdg : decode cc pc = .ok (.putfield 101, 3)) (kk : ∀ (H1 : Heap) (locs1 : List Loc), va_P D vwCl (xw o a1 a2 a3 a4 a5 a6 a7 cB cI rd ph ky pl bg hh mm vv bk fl mx dg x) H1 → va_D A (xw o a1 a2 a3 a4 a5 a6 a7 cB cI rd ph ky pl bg hh mm vv bk fl mx dg x) → va_S A H0 H1 locs1 → W p l e R s m args below meth c H1 locs1 cells slots Q (F0 m (pc + 3) ls rest)) : W p l e R s m args below meth c H locs cells slots Q (F0 m pc ls (.long x :: .ref o :: rest)) :=
  va_put (D := D) (ci := 0) (ty := .long) (C := RX0) (T := TX0) (N := 13) S.1 S.2.1 S.2.2.2.2 in_X0 tyX0 tyX0_ok nmX0 S.2.2.2.1 hK hP hD hS 0 rfl rfl 12 (by decide) (S.2.2.2.2 _ q31) (fun _ h9 => h9) rfl (by decide +kernel) rfl rfl (Nat.le_of_ble_eq_true rfl) hdg kk
theorem xl_ky {i : Int32} {j : Nat} (S : CallFix p m c cc nL s args lw_all RX0) (hK : va_K D vwCl (tyL cB cI) s) (hP : va_P D vwCl (xw o a1 a2 a3 a4 a5 a6 a7 cB cI rd ph ky pl bg hh mm vv bk fl mx dg ct) H) (hi : kd_ix i j 32) (hdg : decode cc pc = .ok (.baload, 1)) (kk : W p l e R s m args below meth c H locs cells slots Q (F0 m (pc + 1) ls (.int (ky j) :: rest))) : W p l e R s m args below meth c H locs cells slots Q (F0 m pc ls (.int i :: .ref a1 :: rest)) :=
  va_bald S.1 S.2.1 hK hP 1 0 rfl rfl hi.1 hdg (by rw [hi.2]; exact kk)
theorem xs_ky {i x : Int32} {j : Nat} {g : Nat → Int32} (S : CallFix p m c cc nL s args lw_all RX0) (hK : va_K D vwCl (tyL cB cI) s) (hP : va_P D vwCl (xw o a1 a2 a3 a4 a5 a6 a7 cB cI rd ph ky pl bg hh mm vv bk fl mx dg ct) H) (hD : va_D A (xw o a1 a2 a3 a4 a5 a6 a7 cB cI rd ph ky pl bg hh mm vv bk fl mx dg ct)) (hS : va_S A H0 H locs) (hi : kd_ix i j 32) (hg : upd ky j (x.toInt8.toInt32) = g) (hdg : decode cc pc = .ok (.bastore, 1)) (kk : ∀ (H1 : Heap) (locs1 : List Loc), va_P D vwCl (xw o a1 a2 a3 a4 a5 a6 a7 cB cI rd ph g pl bg hh mm vv bk fl mx dg ct) H1 → va_D A (xw o a1 a2 a3 a4 a5 a6 a7 cB cI rd ph g pl bg hh mm vv bk fl mx dg ct) → va_S A H0 H1 locs1 → W p l e R s m args below meth c H1 locs1 cells slots Q (F0 m (pc + 1) ls rest)) : W p l e R s m args below meth c H locs cells slots Q (F0 m pc ls (.int x :: .int i :: .ref a1 :: rest)) := by
  obtain ⟨hi, rfl⟩ := hi
  subst hg
  exact va_bast S.1 S.2.1 hK hP hD hS 1 0 rfl rfl hi hdg kk
theorem xc_ky {g : Nat → Int32} (hP : va_P D vwCl (xw o a1 a2 a3 a4 a5 a6 a7 cB cI rd ph ky pl bg hh mm vv bk fl mx dg ct) H) (h : ∀ j, j < 32 → ky j = g j) : va_P D vwCl (xw o a1 a2 a3 a4 a5 a6 a7 cB cI rd ph g pl bg hh mm vv bk fl mx dg ct) H := kd_cg hP 1 rfl h
theorem xl_pl {i : Int32} {j : Nat} (S : CallFix p m c cc nL s args lw_all RX0) (hK : va_K D vwCl (tyL cB cI) s) (hP : va_P D vwCl (xw o a1 a2 a3 a4 a5 a6 a7 cB cI rd ph ky pl bg hh mm vv bk fl mx dg ct) H) (hi : kd_ix i j 160) (hdg : decode cc pc = .ok (.baload, 1)) (kk : W p l e R s m args below meth c H locs cells slots Q (F0 m (pc + 1) ls (.int (pl j) :: rest))) : W p l e R s m args below meth c H locs cells slots Q (F0 m pc ls (.int i :: .ref a2 :: rest)) :=
  va_bald S.1 S.2.1 hK hP 2 0 rfl rfl hi.1 hdg (by rw [hi.2]; exact kk)
theorem xs_pl {i x : Int32} {j : Nat} {g : Nat → Int32} (S : CallFix p m c cc nL s args lw_all RX0) (hK : va_K D vwCl (tyL cB cI) s) (hP : va_P D vwCl (xw o a1 a2 a3 a4 a5 a6 a7 cB cI rd ph ky pl bg hh mm vv bk fl mx dg ct) H) (hD : va_D A (xw o a1 a2 a3 a4 a5 a6 a7 cB cI rd ph ky pl bg hh mm vv bk fl mx dg ct)) (hS : va_S A H0 H locs) (hi : kd_ix i j 160) (hg : upd pl j (x.toInt8.toInt32) = g) (hdg : decode cc pc = .ok (.bastore, 1)) (kk : ∀ (H1 : Heap) (locs1 : List Loc), va_P D vwCl (xw o a1 a2 a3 a4 a5 a6 a7 cB cI rd ph ky g bg hh mm vv bk fl mx dg ct) H1 → va_D A (xw o a1 a2 a3 a4 a5 a6 a7 cB cI rd ph ky g bg hh mm vv bk fl mx dg ct) → va_S A H0 H1 locs1 → W p l e R s m args below meth c H1 locs1 cells slots Q (F0 m (pc + 1) ls rest)) : W p l e R s m args below meth c H locs cells slots Q (F0 m pc ls (.int x :: .int i :: .ref a2 :: rest)) := by
  obtain ⟨hi, rfl⟩ := hi
  subst hg
  exact va_bast S.1 S.2.1 hK hP hD hS 2 0 rfl rfl hi hdg kk
theorem xc_pl {g : Nat → Int32} (hP : va_P D vwCl (xw o a1 a2 a3 a4 a5 a6 a7 cB cI rd ph ky pl bg hh mm vv bk fl mx dg ct) H) (h : ∀ j, j < 160 → pl j = g j) : va_P D vwCl (xw o a1 a2 a3 a4 a5 a6 a7 cB cI rd ph ky g bg hh mm vv bk fl mx dg ct) H := kd_cg hP 2 rfl h
theorem xl_bg {i : Int32} {j : Nat} (S : CallFix p m c cc nL s args lw_all RX0) (hK : va_K D vwCl (tyL cB cI) s) (hP : va_P D vwCl (xw o a1 a2 a3 a4 a5 a6 a7 cB cI rd ph ky pl bg hh mm vv bk fl mx dg ct) H) (hi : kd_ix i j 8) (hdg : decode cc pc = .ok (.iaload, 1)) (kk : W p l e R s m args below meth c H locs cells slots Q (F0 m (pc + 1) ls (.int (bg j) :: rest))) : W p l e R s m args below meth c H locs cells slots Q (F0 m pc ls (.int i :: .ref a3 :: rest)) :=
  va_iald S.1 S.2.1 hK hP 3 1 rfl rfl hi.1 hdg (by rw [hi.2]; exact kk)
theorem xs_bg {i x : Int32} {j : Nat} {g : Nat → Int32} (S : CallFix p m c cc nL s args lw_all RX0) (hK : va_K D vwCl (tyL cB cI) s) (hP : va_P D vwCl (xw o a1 a2 a3 a4 a5 a6 a7 cB cI rd ph ky pl bg hh mm vv bk fl mx dg ct) H) (hD : va_D A (xw o a1 a2 a3 a4 a5 a6 a7 cB cI rd ph ky pl bg hh mm vv bk fl mx dg ct)) (hS : va_S A H0 H locs) (hi : kd_ix i j 8) (hg : upd bg j x = g) (hdg : decode cc pc = .ok (.iastore, 1)) (kk : ∀ (H1 : Heap) (locs1 : List Loc), va_P D vwCl (xw o a1 a2 a3 a4 a5 a6 a7 cB cI rd ph ky pl g hh mm vv bk fl mx dg ct) H1 → va_D A (xw o a1 a2 a3 a4 a5 a6 a7 cB cI rd ph ky pl g hh mm vv bk fl mx dg ct) → va_S A H0 H1 locs1 → W p l e R s m args below meth c H1 locs1 cells slots Q (F0 m (pc + 1) ls rest)) : W p l e R s m args below meth c H locs cells slots Q (F0 m pc ls (.int x :: .int i :: .ref a3 :: rest)) := by
  obtain ⟨hi, rfl⟩ := hi
  subst hg
  exact va_iast S.1 S.2.1 hK hP hD hS 3 1 rfl rfl hi hdg kk
theorem xc_bg {g : Nat → Int32} (hP : va_P D vwCl (xw o a1 a2 a3 a4 a5 a6 a7 cB cI rd ph ky pl bg hh mm vv bk fl mx dg ct) H) (h : ∀ j, j < 8 → bg j = g j) : va_P D vwCl (xw o a1 a2 a3 a4 a5 a6 a7 cB cI rd ph ky pl g hh mm vv bk fl mx dg ct) H := kd_cg hP 3 rfl h
theorem xl_hh {i : Int32} {j : Nat} (S : CallFix p m c cc nL s args lw_all RX0) (hK : va_K D vwCl (tyL cB cI) s) (hP : va_P D vwCl (xw o a1 a2 a3 a4 a5 a6 a7 cB cI rd ph ky pl bg hh mm vv bk fl mx dg ct) H) (hi : kd_ix i j 8) (hdg : decode cc pc = .ok (.iaload, 1)) (kk : W p l e R s m args below meth c H locs cells slots Q (F0 m (pc + 1) ls (.int (hh j) :: rest))) : W p l e R s m args below meth c H locs cells slots Q (F0 m pc ls (.int i :: .ref a4 :: rest)) :=
  va_iald S.1 S.2.1 hK hP 4 1 rfl rfl hi.1 hdg (by rw [hi.2]; exact kk)
theorem xs_hh {i x : Int32} {j : Nat} {g : Nat → Int32} (S : CallFix p m c cc nL s args lw_all RX0) (hK : va_K D vwCl (tyL cB cI) s) (hP : va_P D vwCl (xw o a1 a2 a3 a4 a5 a6 a7 cB cI rd ph ky pl bg hh mm vv bk fl mx dg ct) H) (hD : va_D A (xw o a1 a2 a3 a4 a5 a6 a7 cB cI rd ph ky pl bg hh mm vv bk fl mx dg ct)) (hS : va_S A H0 H locs) (hi : kd_ix i j 8) (hg : upd hh j x = g) (hdg : decode cc pc = .ok (.iastore, 1)) (kk : ∀ (H1 : Heap) (locs1 : List Loc), va_P D vwCl (xw o a1 a2 a3 a4 a5 a6 a7 cB cI rd ph ky pl bg g mm vv bk fl mx dg ct) H1 → va_D A (xw o a1 a2 a3 a4 a5 a6 a7 cB cI rd ph ky pl bg g mm vv bk fl mx dg ct) → va_S A H0 H1 locs1 → W p l e R s m args below meth c H1 locs1 cells slots Q (F0 m (pc + 1) ls rest)) : W p l e R s m args below meth c H locs cells slots Q (F0 m pc ls (.int x :: .int i :: .ref a4 :: rest)) := by
  obtain ⟨hi, rfl⟩ := hi
  subst hg
  exact va_iast S.1 S.2.1 hK hP hD hS 4 1 rfl rfl hi hdg kk
theorem xc_hh {g : Nat → Int32} (hP : va_P D vwCl (xw o a1 a2 a3 a4 a5 a6 a7 cB cI rd ph ky pl bg hh mm vv bk fl mx dg ct) H) (h : ∀ j, j < 8 → hh j = g j) : va_P D vwCl (xw o a1 a2 a3 a4 a5 a6 a7 cB cI rd ph ky pl bg g mm vv bk fl mx dg ct) H := kd_cg hP 4 rfl h
theorem xl_mm {i : Int32} {j : Nat} (S : CallFix p m c cc nL s args lw_all RX0) (hK : va_K D vwCl (tyL cB cI) s) (hP : va_P D vwCl (xw o a1 a2 a3 a4 a5 a6 a7 cB cI rd ph ky pl bg hh mm vv bk fl mx dg ct) H) (hi : kd_ix i j 16) (hdg : decode cc pc = .ok (.iaload, 1)) (kk : W p l e R s m args below meth c H locs cells slots Q (F0 m (pc + 1) ls (.int (mm j) :: rest))) : W p l e R s m args below meth c H locs cells slots Q (F0 m pc ls (.int i :: .ref a5 :: rest)) :=
  va_iald S.1 S.2.1 hK hP 5 1 rfl rfl hi.1 hdg (by rw [hi.2]; exact kk)
theorem xs_mm {i x : Int32} {j : Nat} {g : Nat → Int32} (S : CallFix p m c cc nL s args lw_all RX0) (hK : va_K D vwCl (tyL cB cI) s) (hP : va_P D vwCl (xw o a1 a2 a3 a4 a5 a6 a7 cB cI rd ph ky pl bg hh mm vv bk fl mx dg ct) H) (hD : va_D A (xw o a1 a2 a3 a4 a5 a6 a7 cB cI rd ph ky pl bg hh mm vv bk fl mx dg ct)) (hS : va_S A H0 H locs) (hi : kd_ix i j 16) (hg : upd mm j x = g) (hdg : decode cc pc = .ok (.iastore, 1)) (kk : ∀ (H1 : Heap) (locs1 : List Loc), va_P D vwCl (xw o a1 a2 a3 a4 a5 a6 a7 cB cI rd ph ky pl bg hh g vv bk fl mx dg ct) H1 → va_D A (xw o a1 a2 a3 a4 a5 a6 a7 cB cI rd ph ky pl bg hh g vv bk fl mx dg ct) → va_S A H0 H1 locs1 → W p l e R s m args below meth c H1 locs1 cells slots Q (F0 m (pc + 1) ls rest)) : W p l e R s m args below meth c H locs cells slots Q (F0 m pc ls (.int x :: .int i :: .ref a5 :: rest)) := by
  obtain ⟨hi, rfl⟩ := hi
  subst hg
  exact va_iast S.1 S.2.1 hK hP hD hS 5 1 rfl rfl hi hdg kk
theorem xc_mm {g : Nat → Int32} (hP : va_P D vwCl (xw o a1 a2 a3 a4 a5 a6 a7 cB cI rd ph ky pl bg hh mm vv bk fl mx dg ct) H) (h : ∀ j, j < 16 → mm j = g j) : va_P D vwCl (xw o a1 a2 a3 a4 a5 a6 a7 cB cI rd ph ky pl bg hh g vv bk fl mx dg ct) H := kd_cg hP 5 rfl h
theorem xl_vv {i : Int32} {j : Nat} (S : CallFix p m c cc nL s args lw_all RX0) (hK : va_K D vwCl (tyL cB cI) s) (hP : va_P D vwCl (xw o a1 a2 a3 a4 a5 a6 a7 cB cI rd ph ky pl bg hh mm vv bk fl mx dg ct) H) (hi : kd_ix i j 16) (hdg : decode cc pc = .ok (.iaload, 1)) (kk : W p l e R s m args below meth c H locs cells slots Q (F0 m (pc + 1) ls (.int (vv j) :: rest))) : W p l e R s m args below meth c H locs cells slots Q (F0 m pc ls (.int i :: .ref a6 :: rest)) :=
  va_iald S.1 S.2.1 hK hP 6 1 rfl rfl hi.1 hdg (by rw [hi.2]; exact kk)
theorem xs_vv {i x : Int32} {j : Nat} {g : Nat → Int32} (S : CallFix p m c cc nL s args lw_all RX0) (hK : va_K D vwCl (tyL cB cI) s) (hP : va_P D vwCl (xw o a1 a2 a3 a4 a5 a6 a7 cB cI rd ph ky pl bg hh mm vv bk fl mx dg ct) H) (hD : va_D A (xw o a1 a2 a3 a4 a5 a6 a7 cB cI rd ph ky pl bg hh mm vv bk fl mx dg ct)) (hS : va_S A H0 H locs) (hi : kd_ix i j 16) (hg : upd vv j x = g) (hdg : decode cc pc = .ok (.iastore, 1)) (kk : ∀ (H1 : Heap) (locs1 : List Loc), va_P D vwCl (xw o a1 a2 a3 a4 a5 a6 a7 cB cI rd ph ky pl bg hh mm g bk fl mx dg ct) H1 → va_D A (xw o a1 a2 a3 a4 a5 a6 a7 cB cI rd ph ky pl bg hh mm g bk fl mx dg ct) → va_S A H0 H1 locs1 → W p l e R s m args below meth c H1 locs1 cells slots Q (F0 m (pc + 1) ls rest)) : W p l e R s m args below meth c H locs cells slots Q (F0 m pc ls (.int x :: .int i :: .ref a6 :: rest)) := by
  obtain ⟨hi, rfl⟩ := hi
  subst hg
  exact va_iast S.1 S.2.1 hK hP hD hS 6 1 rfl rfl hi hdg kk
theorem xc_vv {g : Nat → Int32} (hP : va_P D vwCl (xw o a1 a2 a3 a4 a5 a6 a7 cB cI rd ph ky pl bg hh mm vv bk fl mx dg ct) H) (h : ∀ j, j < 16 → vv j = g j) : va_P D vwCl (xw o a1 a2 a3 a4 a5 a6 a7 cB cI rd ph ky pl bg hh mm g bk fl mx dg ct) H := kd_cg hP 6 rfl h
theorem xl_bk {i : Int32} {j : Nat} (S : CallFix p m c cc nL s args lw_all RX0) (hK : va_K D vwCl (tyL cB cI) s) (hP : va_P D vwCl (xw o a1 a2 a3 a4 a5 a6 a7 cB cI rd ph ky pl bg hh mm vv bk fl mx dg ct) H) (hi : kd_ix i j 64) (hdg : decode cc pc = .ok (.baload, 1)) (kk : W p l e R s m args below meth c H locs cells slots Q (F0 m (pc + 1) ls (.int (bk j) :: rest))) : W p l e R s m args below meth c H locs cells slots Q (F0 m pc ls (.int i :: .ref a7 :: rest)) :=
  va_bald S.1 S.2.1 hK hP 7 0 rfl rfl hi.1 hdg (by rw [hi.2]; exact kk)
theorem xs_bk {i x : Int32} {j : Nat} {g : Nat → Int32} (S : CallFix p m c cc nL s args lw_all RX0) (hK : va_K D vwCl (tyL cB cI) s) (hP : va_P D vwCl (xw o a1 a2 a3 a4 a5 a6 a7 cB cI rd ph ky pl bg hh mm vv bk fl mx dg ct) H) (hD : va_D A (xw o a1 a2 a3 a4 a5 a6 a7 cB cI rd ph ky pl bg hh mm vv bk fl mx dg ct)) (hS : va_S A H0 H locs) (hi : kd_ix i j 64) (hg : upd bk j (x.toInt8.toInt32) = g) (hdg : decode cc pc = .ok (.bastore, 1)) (kk : ∀ (H1 : Heap) (locs1 : List Loc), va_P D vwCl (xw o a1 a2 a3 a4 a5 a6 a7 cB cI rd ph ky pl bg hh mm vv g fl mx dg ct) H1 → va_D A (xw o a1 a2 a3 a4 a5 a6 a7 cB cI rd ph ky pl bg hh mm vv g fl mx dg ct) → va_S A H0 H1 locs1 → W p l e R s m args below meth c H1 locs1 cells slots Q (F0 m (pc + 1) ls rest)) : W p l e R s m args below meth c H locs cells slots Q (F0 m pc ls (.int x :: .int i :: .ref a7 :: rest)) := by
  obtain ⟨hi, rfl⟩ := hi
  subst hg
  exact va_bast S.1 S.2.1 hK hP hD hS 7 0 rfl rfl hi hdg kk
theorem xc_bk {g : Nat → Int32} (hP : va_P D vwCl (xw o a1 a2 a3 a4 a5 a6 a7 cB cI rd ph ky pl bg hh mm vv bk fl mx dg ct) H) (h : ∀ j, j < 64 → bk j = g j) : va_P D vwCl (xw o a1 a2 a3 a4 a5 a6 a7 cB cI rd ph ky pl bg hh mm vv g fl mx dg ct) H := kd_cg hP 7 rfl h
theorem x_D {rd' : Int32} {ph' : Int32} {ky' : Nat → Int32} {pl' : Nat → Int32} {bg' : Nat → Int32} {hh' : Nat → Int32} {mm' : Nat → Int32} {vv' : Nat → Int32} {bk' : Nat → Int32} {fl' : Int32} {mx' : Int64} {dg' : Int32} {ct' : Int64} (hD : va_D A (xw o a1 a2 a3 a4 a5 a6 a7 cB cI rd ph ky pl bg hh mm vv bk fl mx dg ct)) : va_D A (xw o a1 a2 a3 a4 a5 a6 a7 cB cI rd' ph' ky' pl' bg' hh' mm' vv' bk' fl' mx' dg' ct') := kd_Dcg (w1 := (xw o a1 a2 a3 a4 a5 a6 a7 cB cI rd ph ky pl bg hh mm vv bk fl mx dg ct)) rfl hD
theorem x_rec (hK : va_K D vwCl (tyL cB cI) s) (hP : va_P D vwCl (xw o a1 a2 a3 a4 a5 a6 a7 cB cI rd ph ky pl bg hh mm vv bk fl mx dg ct) H) : ∃ cell : Cell, H[o]? = some cell ∧ cell.vm.isStatics = false ∧ s.vm.findClass RX0 = some cell.cls := va_recv hK hP (ci := 0) (q0 := 0) rfl rfl
end KDX
section KDM
variable {p : Program} {l : Launch} {e : Env} {R : Room} {s : State} {m : MethodId} {args : Array Value} {below : List Frame} {meth : Method} {c : Code} {H : Heap} {locs : List Loc} {cells slots : Nat} {Q : State → Prop}
variable {cc : ByteArray} {pc nL : Nat} {ls : Array Slot} {rest : List Value} {D : va_G} {A : Nat → Prop} {H0 : Heap} {tys : List (ClassId × FieldType)}
variable {o b1 b2 b3 b4 b5 b6 : Nat} {cB cI : ClassId} {rd io dn fl cm sz : Int32} {ky hh vv mm bk rw : Nat → Int32} {mx : Int64}

theorem mg_rd (S : CallFix p m c cc nL s args lw_all RX1) (hK : va_K D vwCl (tyL cB cI) s) (hP : va_P D vwCl (mw o b1 b2 b3 b4 b5 b6 cI rd io dn ky hh vv mm bk fl mx cm sz rw) H) (hdg : decode cc pc = .ok (.getfield 28, 3)) (kk : W p l e R s m args below meth c H locs cells slots Q (F0 m (pc + 3) ls (.int rd :: rest))) : W p l e R s m args below meth c H locs cells slots Q (F0 m pc ls (.ref o :: rest)) :=
  va_get (D := D) (ci := 1) (C := RX1) (T := TX1) (N := 13) S.1 S.2.1 S.2.2.2.2 in_X1 S.2.2.2.1 hK hP 0 rfl rfl 0 (by decide) (S.2.2.2.2 _ q154) (fun _ h9 => h9) rfl hdg kk
theorem mp_rd {x : Int32} (S : CallFix p m c cc nL s args lw_all RX1) (hK : va_K D vwCl (tyL cB cI) s) (hP : va_P D vwCl (mw o b1 b2 b3 b4 b5 b6 cI rd io dn ky hh vv mm bk fl mx cm sz rw) H) (hD : va_D A (mw o b1 b2 b3 b4 b5 b6 cI rd io dn ky hh vv mm bk fl mx cm sz rw)) (hS : va_S A H0 H locs) (hn : narrow .boolean (.int x) = .int x) (hfi : fits .boolean (.int x) = true) (hdg : decode cc pc = .ok (.putfield 28, 3)) (kk : ∀ (H1 : Heap) (locs1 : List Loc), va_P D vwCl (mw o b1 b2 b3 b4 b5 b6 cI x io dn ky hh vv mm bk fl mx cm sz rw) H1 → va_D A (mw o b1 b2 b3 b4 b5 b6 cI x io dn ky hh vv mm bk fl mx cm sz rw) → va_S A H0 H1 locs1 → W p l e R s m args below meth c H1 locs1 cells slots Q (F0 m (pc + 3) ls rest)) : W p l e R s m args below meth c H locs cells slots Q (F0 m pc ls (.int x :: .ref o :: rest)) :=
  va_put (D := D) (ci := 1) (ty := .boolean) (C := RX1) (T := TX1) (N := 13) S.1 S.2.1 S.2.2.2.2 in_X1 tyX1 tyX1_ok nmX1 S.2.2.2.1 hK hP hD hS 0 rfl rfl 0 (by decide) (S.2.2.2.2 _ q154) (fun _ h9 => h9) rfl (by decide +kernel) hn hfi (Nat.le_of_ble_eq_true rfl) hdg kk
theorem mg_io (S : CallFix p m c cc nL s args lw_all RX1) (hK : va_K D vwCl (tyL cB cI) s) (hP : va_P D vwCl (mw o b1 b2 b3 b4 b5 b6 cI rd io dn ky hh vv mm bk fl mx cm sz rw) H) (hdg : decode cc pc = .ok (.getfield 32, 3)) (kk : W p l e R s m args below meth c H locs cells slots Q (F0 m (pc + 3) ls (.int io :: rest))) : W p l e R s m args below meth c H locs cells slots Q (F0 m pc ls (.ref o :: rest)) :=
  va_get (D := D) (ci := 1) (C := RX1) (T := TX1) (N := 13) S.1 S.2.1 S.2.2.2.2 in_X1 S.2.2.2.1 hK hP 0 rfl rfl 1 (by decide) (S.2.2.2.2 _ q155) (fun _ h9 => h9) rfl hdg kk
theorem mp_io {x : Int32} (S : CallFix p m c cc nL s args lw_all RX1) (hK : va_K D vwCl (tyL cB cI) s) (hP : va_P D vwCl (mw o b1 b2 b3 b4 b5 b6 cI rd io dn ky hh vv mm bk fl mx cm sz rw) H) (hD : va_D A (mw o b1 b2 b3 b4 b5 b6 cI rd io dn ky hh vv mm bk fl mx cm sz rw)) (hS : va_S A H0 H locs) (hn : narrow .boolean (.int x) = .int x) (hfi : fits .boolean (.int x) = true) (hdg : decode cc pc = .ok (.putfield 32, 3)) (kk : ∀ (H1 : Heap) (locs1 : List Loc), va_P D vwCl (mw o b1 b2 b3 b4 b5 b6 cI rd x dn ky hh vv mm bk fl mx cm sz rw) H1 → va_D A (mw o b1 b2 b3 b4 b5 b6 cI rd x dn ky hh vv mm bk fl mx cm sz rw) → va_S A H0 H1 locs1 → W p l e R s m args below meth c H1 locs1 cells slots Q (F0 m (pc + 3) ls rest)) : W p l e R s m args below meth c H locs cells slots Q (F0 m pc ls (.int x :: .ref o :: rest)) :=
  va_put (D := D) (ci := 1) (ty := .boolean) (C := RX1) (T := TX1) (N := 13) S.1 S.2.1 S.2.2.2.2 in_X1 tyX1 tyX1_ok nmX1 S.2.2.2.1 hK hP hD hS 0 rfl rfl 1 (by decide) (S.2.2.2.2 _ q155) (fun _ h9 => h9) rfl (by decide +kernel) hn hfi (Nat.le_of_ble_eq_true rfl) hdg kk
theorem mg_dn (S : CallFix p m c cc nL s args lw_all RX1) (hK : va_K D vwCl (tyL cB cI) s) (hP : va_P D vwCl (mw o b1 b2 b3 b4 b5 b6 cI rd io dn ky hh vv mm bk fl mx cm sz rw) H) (hdg : decode cc pc = .ok (.getfield 35, 3)) (kk : W p l e R s m args below meth c H locs cells slots Q (F0 m (pc + 3) ls (.int dn :: rest))) : W p l e R s m args below meth c H locs cells slots Q (F0 m pc ls (.ref o :: rest)) :=
  va_get (D := D) (ci := 1) (C := RX1) (T := TX1) (N := 13) S.1 S.2.1 S.2.2.2.2 in_X1 S.2.2.2.1 hK hP 0 rfl rfl 2 (by decide) (S.2.2.2.2 _ q156) (fun _ h9 => h9) rfl hdg kk
theorem mp_dn {x : Int32} (S : CallFix p m c cc nL s args lw_all RX1) (hK : va_K D vwCl (tyL cB cI) s) (hP : va_P D vwCl (mw o b1 b2 b3 b4 b5 b6 cI rd io dn ky hh vv mm bk fl mx cm sz rw) H) (hD : va_D A (mw o b1 b2 b3 b4 b5 b6 cI rd io dn ky hh vv mm bk fl mx cm sz rw)) (hS : va_S A H0 H locs) (hn : narrow .boolean (.int x) = .int x) (hfi : fits .boolean (.int x) = true) (hdg : decode cc pc = .ok (.putfield 35, 3)) (kk : ∀ (H1 : Heap) (locs1 : List Loc), va_P D vwCl (mw o b1 b2 b3 b4 b5 b6 cI rd io x ky hh vv mm bk fl mx cm sz rw) H1 → va_D A (mw o b1 b2 b3 b4 b5 b6 cI rd io x ky hh vv mm bk fl mx cm sz rw) → va_S A H0 H1 locs1 → W p l e R s m args below meth c H1 locs1 cells slots Q (F0 m (pc + 3) ls rest)) : W p l e R s m args below meth c H locs cells slots Q (F0 m pc ls (.int x :: .ref o :: rest)) :=
  va_put (D := D) (ci := 1) (ty := .boolean) (C := RX1) (T := TX1) (N := 13) S.1 S.2.1 S.2.2.2.2 in_X1 tyX1 tyX1_ok nmX1 S.2.2.2.1 hK hP hD hS 0 rfl rfl 2 (by decide) (S.2.2.2.2 _ q156) (fun _ h9 => h9) rfl (by decide +kernel) hn hfi (Nat.le_of_ble_eq_true rfl) hdg kk
theorem mg_b1 (S : CallFix p m c cc nL s args lw_all RX1) (hK : va_K D vwCl (tyL cB cI) s) (hP : va_P D vwCl (mw o b1 b2 b3 b4 b5 b6 cI rd io dn ky hh vv mm bk fl mx cm sz rw) H) (hdg : decode cc pc = .ok (.getfield 7, 3)) (kk : W p l e R s m args below meth c H locs cells slots Q (F0 m (pc + 3) ls (.ref b1 :: rest))) : W p l e R s m args below meth c H locs cells slots Q (F0 m pc ls (.ref o :: rest)) :=
  va_get (D := D) (ci := 1) (C := RX1) (T := TX1) (N := 13) S.1 S.2.1 S.2.2.2.2 in_X1 S.2.2.2.1 hK hP 0 rfl rfl 3 (by decide) (S.2.2.2.2 _ q157) (fun _ h9 => h9) rfl hdg kk
theorem mg_b2 (S : CallFix p m c cc nL s args lw_all RX1) (hK : va_K D vwCl (tyL cB cI) s) (hP : va_P D vwCl (mw o b1 b2 b3 b4 b5 b6 cI rd io dn ky hh vv mm bk fl mx cm sz rw) H) (hdg : decode cc pc = .ok (.getfield 13, 3)) (kk : W p l e R s m args below meth c H locs cells slots Q (F0 m (pc + 3) ls (.ref b2 :: rest))) : W p l e R s m args below meth c H locs cells slots Q (F0 m pc ls (.ref o :: rest)) :=
  va_get (D := D) (ci := 1) (C := RX1) (T := TX1) (N := 13) S.1 S.2.1 S.2.2.2.2 in_X1 S.2.2.2.1 hK hP 0 rfl rfl 4 (by decide) (S.2.2.2.2 _ q158) (fun _ h9 => h9) rfl hdg kk
theorem mg_b3 (S : CallFix p m c cc nL s args lw_all RX1) (hK : va_K D vwCl (tyL cB cI) s) (hP : va_P D vwCl (mw o b1 b2 b3 b4 b5 b6 cI rd io dn ky hh vv mm bk fl mx cm sz rw) H) (hdg : decode cc pc = .ok (.getfield 16, 3)) (kk : W p l e R s m args below meth c H locs cells slots Q (F0 m (pc + 3) ls (.ref b3 :: rest))) : W p l e R s m args below meth c H locs cells slots Q (F0 m pc ls (.ref o :: rest)) :=
  va_get (D := D) (ci := 1) (C := RX1) (T := TX1) (N := 13) S.1 S.2.1 S.2.2.2.2 in_X1 S.2.2.2.1 hK hP 0 rfl rfl 5 (by decide) (S.2.2.2.2 _ q159) (fun _ h9 => h9) rfl hdg kk
theorem mg_b4 (S : CallFix p m c cc nL s args lw_all RX1) (hK : va_K D vwCl (tyL cB cI) s) (hP : va_P D vwCl (mw o b1 b2 b3 b4 b5 b6 cI rd io dn ky hh vv mm bk fl mx cm sz rw) H) (hdg : decode cc pc = .ok (.getfield 19, 3)) (kk : W p l e R s m args below meth c H locs cells slots Q (F0 m (pc + 3) ls (.ref b4 :: rest))) : W p l e R s m args below meth c H locs cells slots Q (F0 m pc ls (.ref o :: rest)) :=
  va_get (D := D) (ci := 1) (C := RX1) (T := TX1) (N := 13) S.1 S.2.1 S.2.2.2.2 in_X1 S.2.2.2.1 hK hP 0 rfl rfl 6 (by decide) (S.2.2.2.2 _ q160) (fun _ h9 => h9) rfl hdg kk
theorem mg_b5 (S : CallFix p m c cc nL s args lw_all RX1) (hK : va_K D vwCl (tyL cB cI) s) (hP : va_P D vwCl (mw o b1 b2 b3 b4 b5 b6 cI rd io dn ky hh vv mm bk fl mx cm sz rw) H) (hdg : decode cc pc = .ok (.getfield 22, 3)) (kk : W p l e R s m args below meth c H locs cells slots Q (F0 m (pc + 3) ls (.ref b5 :: rest))) : W p l e R s m args below meth c H locs cells slots Q (F0 m pc ls (.ref o :: rest)) :=
  va_get (D := D) (ci := 1) (C := RX1) (T := TX1) (N := 13) S.1 S.2.1 S.2.2.2.2 in_X1 S.2.2.2.1 hK hP 0 rfl rfl 7 (by decide) (S.2.2.2.2 _ q161) (fun _ h9 => h9) rfl hdg kk
theorem mg_fl (S : CallFix p m c cc nL s args lw_all RX1) (hK : va_K D vwCl (tyL cB cI) s) (hP : va_P D vwCl (mw o b1 b2 b3 b4 b5 b6 cI rd io dn ky hh vv mm bk fl mx cm sz rw) H) (hdg : decode cc pc = .ok (.getfield 55, 3)) (kk : W p l e R s m args below meth c H locs cells slots Q (F0 m (pc + 3) ls (.int fl :: rest))) : W p l e R s m args below meth c H locs cells slots Q (F0 m pc ls (.ref o :: rest)) :=
  va_get (D := D) (ci := 1) (C := RX1) (T := TX1) (N := 13) S.1 S.2.1 S.2.2.2.2 in_X1 S.2.2.2.1 hK hP 0 rfl rfl 8 (by decide) (S.2.2.2.2 _ q162) (fun _ h9 => h9) rfl hdg kk
theorem mp_fl {x : Int32} (S : CallFix p m c cc nL s args lw_all RX1) (hK : va_K D vwCl (tyL cB cI) s) (hP : va_P D vwCl (mw o b1 b2 b3 b4 b5 b6 cI rd io dn ky hh vv mm bk fl mx cm sz rw) H) (hD : va_D A (mw o b1 b2 b3 b4 b5 b6 cI rd io dn ky hh vv mm bk fl mx cm sz rw)) (hS : va_S A H0 H locs) (hdg : decode cc pc = .ok (.putfield 55, 3)) (kk : ∀ (H1 : Heap) (locs1 : List Loc), va_P D vwCl (mw o b1 b2 b3 b4 b5 b6 cI rd io dn ky hh vv mm bk x mx cm sz rw) H1 → va_D A (mw o b1 b2 b3 b4 b5 b6 cI rd io dn ky hh vv mm bk x mx cm sz rw) → va_S A H0 H1 locs1 → W p l e R s m args below meth c H1 locs1 cells slots Q (F0 m (pc + 3) ls rest)) : W p l e R s m args below meth c H locs cells slots Q (F0 m pc ls (.int x :: .ref o :: rest)) :=
  va_put (D := D) (ci := 1) (ty := .int) (C := RX1) (T := TX1) (N := 13) S.1 S.2.1 S.2.2.2.2 in_X1 tyX1 tyX1_ok nmX1 S.2.2.2.1 hK hP hD hS 0 rfl rfl 8 (by decide) (S.2.2.2.2 _ q162) (fun _ h9 => h9) rfl (by decide +kernel) rfl rfl (Nat.le_of_ble_eq_true rfl) hdg kk
theorem mg_mx (S : CallFix p m c cc nL s args lw_all RX1) (hK : va_K D vwCl (tyL cB cI) s) (hP : va_P D vwCl (mw o b1 b2 b3 b4 b5 b6 cI rd io dn ky hh vv mm bk fl mx cm sz rw) H) (hdg : decode cc pc = .ok (.getfield 58, 3)) (kk : W p l e R s m args below meth c H locs cells slots Q (F0 m (pc + 3) ls (.long mx :: rest))) : W p l e R s m args below meth c H locs cells slots Q (F0 m pc ls (.ref o :: rest)) :=
  va_get (D := D) (ci := 1) (C := RX1) (T := TX1) (N := 13) S.1 S.2.1 S.2.2.2.2 in_X1 S.2.2.2.1 hK hP 0 rfl rfl 9 (by decide) (S.2.2.2.2 _ q163) (fun _ h9 => h9) rfl hdg kk
theorem mp_mx {x : Int64} (S : CallFix p m c cc nL s args lw_all RX1) (hK : va_K D vwCl (tyL cB cI) s) (hP : va_P D vwCl (mw o b1 b2 b3 b4 b5 b6 cI rd io dn ky hh vv mm bk fl mx cm sz rw) H) (hD : va_D A (mw o b1 b2 b3 b4 b5 b6 cI rd io dn ky hh vv mm bk fl mx cm sz rw)) (hS : va_S A H0 H locs) (hdg : decode cc pc = .ok (.putfield 58, 3)) (kk : ∀ (H1 : Heap) (locs1 : List Loc), va_P D vwCl (mw o b1 b2 b3 b4 b5 b6 cI rd io dn ky hh vv mm bk fl x cm sz rw) H1 → va_D A (mw o b1 b2 b3 b4 b5 b6 cI rd io dn ky hh vv mm bk fl x cm sz rw) → va_S A H0 H1 locs1 → W p l e R s m args below meth c H1 locs1 cells slots Q (F0 m (pc + 3) ls rest)) : W p l e R s m args below meth c H locs cells slots Q (F0 m pc ls (.long x :: .ref o :: rest)) :=
  va_put (D := D) (ci := 1) (ty := .long) (C := RX1) (T := TX1) (N := 13) S.1 S.2.1 S.2.2.2.2 in_X1 tyX1 tyX1_ok nmX1 S.2.2.2.1 hK hP hD hS 0 rfl rfl 9 (by decide) (S.2.2.2.2 _ q163) (fun _ h9 => h9) rfl (by decide +kernel) rfl rfl (Nat.le_of_ble_eq_true rfl) hdg kk
theorem mg_cm (S : CallFix p m c cc nL s args lw_all RX1) (hK : va_K D vwCl (tyL cB cI) s) (hP : va_P D vwCl (mw o b1 b2 b3 b4 b5 b6 cI rd io dn ky hh vv mm bk fl mx cm sz rw) H) (hdg : decode cc pc = .ok (.getfield 62, 3)) (kk : W p l e R s m args below meth c H locs cells slots Q (F0 m (pc + 3) ls (.int cm :: rest))) : W p l e R s m args below meth c H locs cells slots Q (F0 m pc ls (.ref o :: rest)) :=
  va_get (D := D) (ci := 1) (C := RX1) (T := TX1) (N := 13) S.1 S.2.1 S.2.2.2.2 in_X1 S.2.2.2.1 hK hP 0 rfl rfl 10 (by decide) (S.2.2.2.2 _ q164) (fun _ h9 => h9) rfl hdg kk
theorem mp_cm {x : Int32} (S : CallFix p m c cc nL s args lw_all RX1) (hK : va_K D vwCl (tyL cB cI) s) (hP : va_P D vwCl (mw o b1 b2 b3 b4 b5 b6 cI rd io dn ky hh vv mm bk fl mx cm sz rw) H) (hD : va_D A (mw o b1 b2 b3 b4 b5 b6 cI rd io dn ky hh vv mm bk fl mx cm sz rw)) (hS : va_S A H0 H locs) (hdg : decode cc pc = .ok (.putfield 62, 3)) (kk : ∀ (H1 : Heap) (locs1 : List Loc), va_P D vwCl (mw o b1 b2 b3 b4 b5 b6 cI rd io dn ky hh vv mm bk fl mx x sz rw) H1 → va_D A (mw o b1 b2 b3 b4 b5 b6 cI rd io dn ky hh vv mm bk fl mx x sz rw) → va_S A H0 H1 locs1 → W p l e R s m args below meth c H1 locs1 cells slots Q (F0 m (pc + 3) ls rest)) : W p l e R s m args below meth c H locs cells slots Q (F0 m pc ls (.int x :: .ref o :: rest)) :=
  va_put (D := D) (ci := 1) (ty := .int) (C := RX1) (T := TX1) (N := 13) S.1 S.2.1 S.2.2.2.2 in_X1 tyX1 tyX1_ok nmX1 S.2.2.2.1 hK hP hD hS 0 rfl rfl 10 (by decide) (S.2.2.2.2 _ q164) (fun _ h9 => h9) rfl (by decide +kernel) rfl rfl (Nat.le_of_ble_eq_true rfl) hdg kk
theorem mg_sz (S : CallFix p m c cc nL s args lw_all RX1) (hK : va_K D vwCl (tyL cB cI) s) (hP : va_P D vwCl (mw o b1 b2 b3 b4 b5 b6 cI rd io dn ky hh vv mm bk fl mx cm sz rw) H) (hdg : decode cc pc = .ok (.getfield 51, 3)) (kk : W p l e R s m args below meth c H locs cells slots Q (F0 m (pc + 3) ls (.int sz :: rest))) : W p l e R s m args below meth c H locs cells slots Q (F0 m pc ls (.ref o :: rest)) :=
  va_get (D := D) (ci := 1) (C := RX1) (T := TX1) (N := 13) S.1 S.2.1 S.2.2.2.2 in_X1 S.2.2.2.1 hK hP 0 rfl rfl 11 (by decide) (S.2.2.2.2 _ q165) (fun _ h9 => h9) rfl hdg kk
theorem mp_sz {x : Int32} (S : CallFix p m c cc nL s args lw_all RX1) (hK : va_K D vwCl (tyL cB cI) s) (hP : va_P D vwCl (mw o b1 b2 b3 b4 b5 b6 cI rd io dn ky hh vv mm bk fl mx cm sz rw) H) (hD : va_D A (mw o b1 b2 b3 b4 b5 b6 cI rd io dn ky hh vv mm bk fl mx cm sz rw)) (hS : va_S A H0 H locs) (hdg : decode cc pc = .ok (.putfield 51, 3)) (kk : ∀ (H1 : Heap) (locs1 : List Loc), va_P D vwCl (mw o b1 b2 b3 b4 b5 b6 cI rd io dn ky hh vv mm bk fl mx cm x rw) H1 → va_D A (mw o b1 b2 b3 b4 b5 b6 cI rd io dn ky hh vv mm bk fl mx cm x rw) → va_S A H0 H1 locs1 → W p l e R s m args below meth c H1 locs1 cells slots Q (F0 m (pc + 3) ls rest)) : W p l e R s m args below meth c H locs cells slots Q (F0 m pc ls (.int x :: .ref o :: rest)) :=
  va_put (D := D) (ci := 1) (ty := .int) (C := RX1) (T := TX1) (N := 13) S.1 S.2.1 S.2.2.2.2 in_X1 tyX1 tyX1_ok nmX1 S.2.2.2.1 hK hP hD hS 0 rfl rfl 11 (by decide) (S.2.2.2.2 _ q165) (fun _ h9 => h9) rfl (by decide +kernel) rfl rfl (Nat.le_of_ble_eq_true rfl) hdg kk
theorem mg_b6 (S : CallFix p m c cc nL s args lw_all RX1) (hK : va_K D vwCl (tyL cB cI) s) (hP : va_P D vwCl (mw o b1 b2 b3 b4 b5 b6 cI rd io dn ky hh vv mm bk fl mx cm sz rw) H) (hdg : decode cc pc = .ok (.getfield 25, 3)) (kk : W p l e R s m args below meth c H locs cells slots Q (F0 m (pc + 3) ls (.ref b6 :: rest))) : W p l e R s m args below meth c H locs cells slots Q (F0 m pc ls (.ref o :: rest)) :=
  va_get (D := D) (ci := 1) (C := RX1) (T := TX1) (N := 13) S.1 S.2.1 S.2.2.2.2 in_X1 S.2.2.2.1 hK hP 0 rfl rfl 12 (by decide) (S.2.2.2.2 _ q166) (fun _ h9 => h9) rfl hdg kk
theorem ml_ky {i : Int32} {j : Nat} (S : CallFix p m c cc nL s args lw_all RX1) (hK : va_K D vwCl (tyL cB cI) s) (hP : va_P D vwCl (mw o b1 b2 b3 b4 b5 b6 cI rd io dn ky hh vv mm bk fl mx cm sz rw) H) (hi : kd_ix i j 32) (hdg : decode cc pc = .ok (.iaload, 1)) (kk : W p l e R s m args below meth c H locs cells slots Q (F0 m (pc + 1) ls (.int (ky j) :: rest))) : W p l e R s m args below meth c H locs cells slots Q (F0 m pc ls (.int i :: .ref b1 :: rest)) :=
  va_iald S.1 S.2.1 hK hP 1 1 rfl rfl hi.1 hdg (by rw [hi.2]; exact kk)
theorem ms_ky {i x : Int32} {j : Nat} {g : Nat → Int32} (S : CallFix p m c cc nL s args lw_all RX1) (hK : va_K D vwCl (tyL cB cI) s) (hP : va_P D vwCl (mw o b1 b2 b3 b4 b5 b6 cI rd io dn ky hh vv mm bk fl mx cm sz rw) H) (hD : va_D A (mw o b1 b2 b3 b4 b5 b6 cI rd io dn ky hh vv mm bk fl mx cm sz rw)) (hS : va_S A H0 H locs) (hi : kd_ix i j 32) (hg : upd ky j x = g) (hdg : decode cc pc = .ok (.iastore, 1)) (kk : ∀ (H1 : Heap) (locs1 : List Loc), va_P D vwCl (mw o b1 b2 b3 b4 b5 b6 cI rd io dn g hh vv mm bk fl mx cm sz rw) H1 → va_D A (mw o b1 b2 b3 b4 b5 b6 cI rd io dn g hh vv mm bk fl mx cm sz rw) → va_S A H0 H1 locs1 → W p l e R s m args below meth c H1 locs1 cells slots Q (F0 m (pc + 1) ls rest)) : W p l e R s m args below meth c H locs cells slots Q (F0 m pc ls (.int x :: .int i :: .ref b1 :: rest)) := by
  obtain ⟨hi, rfl⟩ := hi
  subst hg
  exact va_iast S.1 S.2.1 hK hP hD hS 1 1 rfl rfl hi hdg kk
theorem mc_ky {g : Nat → Int32} (hP : va_P D vwCl (mw o b1 b2 b3 b4 b5 b6 cI rd io dn ky hh vv mm bk fl mx cm sz rw) H) (h : ∀ j, j < 32 → ky j = g j) : va_P D vwCl (mw o b1 b2 b3 b4 b5 b6 cI rd io dn g hh vv mm bk fl mx cm sz rw) H := kd_cg hP 1 rfl h
theorem ml_hh {i : Int32} {j : Nat} (S : CallFix p m c cc nL s args lw_all RX1) (hK : va_K D vwCl (tyL cB cI) s) (hP : va_P D vwCl (mw o b1 b2 b3 b4 b5 b6 cI rd io dn ky hh vv mm bk fl mx cm sz rw) H) (hi : kd_ix i j 8) (hdg : decode cc pc = .ok (.iaload, 1)) (kk : W p l e R s m args below meth c H locs cells slots Q (F0 m (pc + 1) ls (.int (hh j) :: rest))) : W p l e R s m args below meth c H locs cells slots Q (F0 m pc ls (.int i :: .ref b2 :: rest)) :=
  va_iald S.1 S.2.1 hK hP 2 1 rfl rfl hi.1 hdg (by rw [hi.2]; exact kk)
theorem ms_hh {i x : Int32} {j : Nat} {g : Nat → Int32} (S : CallFix p m c cc nL s args lw_all RX1) (hK : va_K D vwCl (tyL cB cI) s) (hP : va_P D vwCl (mw o b1 b2 b3 b4 b5 b6 cI rd io dn ky hh vv mm bk fl mx cm sz rw) H) (hD : va_D A (mw o b1 b2 b3 b4 b5 b6 cI rd io dn ky hh vv mm bk fl mx cm sz rw)) (hS : va_S A H0 H locs) (hi : kd_ix i j 8) (hg : upd hh j x = g) (hdg : decode cc pc = .ok (.iastore, 1)) (kk : ∀ (H1 : Heap) (locs1 : List Loc), va_P D vwCl (mw o b1 b2 b3 b4 b5 b6 cI rd io dn ky g vv mm bk fl mx cm sz rw) H1 → va_D A (mw o b1 b2 b3 b4 b5 b6 cI rd io dn ky g vv mm bk fl mx cm sz rw) → va_S A H0 H1 locs1 → W p l e R s m args below meth c H1 locs1 cells slots Q (F0 m (pc + 1) ls rest)) : W p l e R s m args below meth c H locs cells slots Q (F0 m pc ls (.int x :: .int i :: .ref b2 :: rest)) := by
  obtain ⟨hi, rfl⟩ := hi
  subst hg
  exact va_iast S.1 S.2.1 hK hP hD hS 2 1 rfl rfl hi hdg kk
theorem mc_hh {g : Nat → Int32} (hP : va_P D vwCl (mw o b1 b2 b3 b4 b5 b6 cI rd io dn ky hh vv mm bk fl mx cm sz rw) H) (h : ∀ j, j < 8 → hh j = g j) : va_P D vwCl (mw o b1 b2 b3 b4 b5 b6 cI rd io dn ky g vv mm bk fl mx cm sz rw) H := kd_cg hP 2 rfl h
theorem ml_vv {i : Int32} {j : Nat} (S : CallFix p m c cc nL s args lw_all RX1) (hK : va_K D vwCl (tyL cB cI) s) (hP : va_P D vwCl (mw o b1 b2 b3 b4 b5 b6 cI rd io dn ky hh vv mm bk fl mx cm sz rw) H) (hi : kd_ix i j 16) (hdg : decode cc pc = .ok (.iaload, 1)) (kk : W p l e R s m args below meth c H locs cells slots Q (F0 m (pc + 1) ls (.int (vv j) :: rest))) : W p l e R s m args below meth c H locs cells slots Q (F0 m pc ls (.int i :: .ref b3 :: rest)) :=
  va_iald S.1 S.2.1 hK hP 3 1 rfl rfl hi.1 hdg (by rw [hi.2]; exact kk)
theorem ms_vv {i x : Int32} {j : Nat} {g : Nat → Int32} (S : CallFix p m c cc nL s args lw_all RX1) (hK : va_K D vwCl (tyL cB cI) s) (hP : va_P D vwCl (mw o b1 b2 b3 b4 b5 b6 cI rd io dn ky hh vv mm bk fl mx cm sz rw) H) (hD : va_D A (mw o b1 b2 b3 b4 b5 b6 cI rd io dn ky hh vv mm bk fl mx cm sz rw)) (hS : va_S A H0 H locs) (hi : kd_ix i j 16) (hg : upd vv j x = g) (hdg : decode cc pc = .ok (.iastore, 1)) (kk : ∀ (H1 : Heap) (locs1 : List Loc), va_P D vwCl (mw o b1 b2 b3 b4 b5 b6 cI rd io dn ky hh g mm bk fl mx cm sz rw) H1 → va_D A (mw o b1 b2 b3 b4 b5 b6 cI rd io dn ky hh g mm bk fl mx cm sz rw) → va_S A H0 H1 locs1 → W p l e R s m args below meth c H1 locs1 cells slots Q (F0 m (pc + 1) ls rest)) : W p l e R s m args below meth c H locs cells slots Q (F0 m pc ls (.int x :: .int i :: .ref b3 :: rest)) := by
  obtain ⟨hi, rfl⟩ := hi
  subst hg
  exact va_iast S.1 S.2.1 hK hP hD hS 3 1 rfl rfl hi hdg kk
theorem mc_vv {g : Nat → Int32} (hP : va_P D vwCl (mw o b1 b2 b3 b4 b5 b6 cI rd io dn ky hh vv mm bk fl mx cm sz rw) H) (h : ∀ j, j < 16 → vv j = g j) : va_P D vwCl (mw o b1 b2 b3 b4 b5 b6 cI rd io dn ky hh g mm bk fl mx cm sz rw) H := kd_cg hP 3 rfl h
theorem ml_mm {i : Int32} {j : Nat} (S : CallFix p m c cc nL s args lw_all RX1) (hK : va_K D vwCl (tyL cB cI) s) (hP : va_P D vwCl (mw o b1 b2 b3 b4 b5 b6 cI rd io dn ky hh vv mm bk fl mx cm sz rw) H) (hi : kd_ix i j 16) (hdg : decode cc pc = .ok (.iaload, 1)) (kk : W p l e R s m args below meth c H locs cells slots Q (F0 m (pc + 1) ls (.int (mm j) :: rest))) : W p l e R s m args below meth c H locs cells slots Q (F0 m pc ls (.int i :: .ref b4 :: rest)) :=
  va_iald S.1 S.2.1 hK hP 4 1 rfl rfl hi.1 hdg (by rw [hi.2]; exact kk)
theorem ms_mm {i x : Int32} {j : Nat} {g : Nat → Int32} (S : CallFix p m c cc nL s args lw_all RX1) (hK : va_K D vwCl (tyL cB cI) s) (hP : va_P D vwCl (mw o b1 b2 b3 b4 b5 b6 cI rd io dn ky hh vv mm bk fl mx cm sz rw) H) (hD : va_D A (mw o b1 b2 b3 b4 b5 b6 cI rd io dn ky hh vv mm bk fl mx cm sz rw)) (hS : va_S A H0 H locs) (hi : kd_ix i j 16) (hg : upd mm j x = g) (hdg : decode cc pc = .ok (.iastore, 1)) (kk : ∀ (H1 : Heap) (locs1 : List Loc), va_P D vwCl (mw o b1 b2 b3 b4 b5 b6 cI rd io dn ky hh vv g bk fl mx cm sz rw) H1 → va_D A (mw o b1 b2 b3 b4 b5 b6 cI rd io dn ky hh vv g bk fl mx cm sz rw) → va_S A H0 H1 locs1 → W p l e R s m args below meth c H1 locs1 cells slots Q (F0 m (pc + 1) ls rest)) : W p l e R s m args below meth c H locs cells slots Q (F0 m pc ls (.int x :: .int i :: .ref b4 :: rest)) := by
  obtain ⟨hi, rfl⟩ := hi
  subst hg
  exact va_iast S.1 S.2.1 hK hP hD hS 4 1 rfl rfl hi hdg kk
theorem mc_mm {g : Nat → Int32} (hP : va_P D vwCl (mw o b1 b2 b3 b4 b5 b6 cI rd io dn ky hh vv mm bk fl mx cm sz rw) H) (h : ∀ j, j < 16 → mm j = g j) : va_P D vwCl (mw o b1 b2 b3 b4 b5 b6 cI rd io dn ky hh vv g bk fl mx cm sz rw) H := kd_cg hP 4 rfl h
theorem ml_bk {i : Int32} {j : Nat} (S : CallFix p m c cc nL s args lw_all RX1) (hK : va_K D vwCl (tyL cB cI) s) (hP : va_P D vwCl (mw o b1 b2 b3 b4 b5 b6 cI rd io dn ky hh vv mm bk fl mx cm sz rw) H) (hi : kd_ix i j 64) (hdg : decode cc pc = .ok (.iaload, 1)) (kk : W p l e R s m args below meth c H locs cells slots Q (F0 m (pc + 1) ls (.int (bk j) :: rest))) : W p l e R s m args below meth c H locs cells slots Q (F0 m pc ls (.int i :: .ref b5 :: rest)) :=
  va_iald S.1 S.2.1 hK hP 5 1 rfl rfl hi.1 hdg (by rw [hi.2]; exact kk)
theorem ms_bk {i x : Int32} {j : Nat} {g : Nat → Int32} (S : CallFix p m c cc nL s args lw_all RX1) (hK : va_K D vwCl (tyL cB cI) s) (hP : va_P D vwCl (mw o b1 b2 b3 b4 b5 b6 cI rd io dn ky hh vv mm bk fl mx cm sz rw) H) (hD : va_D A (mw o b1 b2 b3 b4 b5 b6 cI rd io dn ky hh vv mm bk fl mx cm sz rw)) (hS : va_S A H0 H locs) (hi : kd_ix i j 64) (hg : upd bk j x = g) (hdg : decode cc pc = .ok (.iastore, 1)) (kk : ∀ (H1 : Heap) (locs1 : List Loc), va_P D vwCl (mw o b1 b2 b3 b4 b5 b6 cI rd io dn ky hh vv mm g fl mx cm sz rw) H1 → va_D A (mw o b1 b2 b3 b4 b5 b6 cI rd io dn ky hh vv mm g fl mx cm sz rw) → va_S A H0 H1 locs1 → W p l e R s m args below meth c H1 locs1 cells slots Q (F0 m (pc + 1) ls rest)) : W p l e R s m args below meth c H locs cells slots Q (F0 m pc ls (.int x :: .int i :: .ref b5 :: rest)) := by
  obtain ⟨hi, rfl⟩ := hi
  subst hg
  exact va_iast S.1 S.2.1 hK hP hD hS 5 1 rfl rfl hi hdg kk
theorem mc_bk {g : Nat → Int32} (hP : va_P D vwCl (mw o b1 b2 b3 b4 b5 b6 cI rd io dn ky hh vv mm bk fl mx cm sz rw) H) (h : ∀ j, j < 64 → bk j = g j) : va_P D vwCl (mw o b1 b2 b3 b4 b5 b6 cI rd io dn ky hh vv mm g fl mx cm sz rw) H := kd_cg hP 5 rfl h
theorem ml_rw {i : Int32} {j : Nat} (S : CallFix p m c cc nL s args lw_all RX1) (hK : va_K D vwCl (tyL cB cI) s) (hP : va_P D vwCl (mw o b1 b2 b3 b4 b5 b6 cI rd io dn ky hh vv mm bk fl mx cm sz rw) H) (hi : kd_ix i j 160) (hdg : decode cc pc = .ok (.iaload, 1)) (kk : W p l e R s m args below meth c H locs cells slots Q (F0 m (pc + 1) ls (.int (rw j) :: rest))) : W p l e R s m args below meth c H locs cells slots Q (F0 m pc ls (.int i :: .ref b6 :: rest)) :=
  va_iald S.1 S.2.1 hK hP 6 1 rfl rfl hi.1 hdg (by rw [hi.2]; exact kk)
theorem ms_rw {i x : Int32} {j : Nat} {g : Nat → Int32} (S : CallFix p m c cc nL s args lw_all RX1) (hK : va_K D vwCl (tyL cB cI) s) (hP : va_P D vwCl (mw o b1 b2 b3 b4 b5 b6 cI rd io dn ky hh vv mm bk fl mx cm sz rw) H) (hD : va_D A (mw o b1 b2 b3 b4 b5 b6 cI rd io dn ky hh vv mm bk fl mx cm sz rw)) (hS : va_S A H0 H locs) (hi : kd_ix i j 160) (hg : upd rw j x = g) (hdg : decode cc pc = .ok (.iastore, 1)) (kk : ∀ (H1 : Heap) (locs1 : List Loc), va_P D vwCl (mw o b1 b2 b3 b4 b5 b6 cI rd io dn ky hh vv mm bk fl mx cm sz g) H1 → va_D A (mw o b1 b2 b3 b4 b5 b6 cI rd io dn ky hh vv mm bk fl mx cm sz g) → va_S A H0 H1 locs1 → W p l e R s m args below meth c H1 locs1 cells slots Q (F0 m (pc + 1) ls rest)) : W p l e R s m args below meth c H locs cells slots Q (F0 m pc ls (.int x :: .int i :: .ref b6 :: rest)) := by
  obtain ⟨hi, rfl⟩ := hi
  subst hg
  exact va_iast S.1 S.2.1 hK hP hD hS 6 1 rfl rfl hi hdg kk
theorem mc_rw {g : Nat → Int32} (hP : va_P D vwCl (mw o b1 b2 b3 b4 b5 b6 cI rd io dn ky hh vv mm bk fl mx cm sz rw) H) (h : ∀ j, j < 160 → rw j = g j) : va_P D vwCl (mw o b1 b2 b3 b4 b5 b6 cI rd io dn ky hh vv mm bk fl mx cm sz g) H := kd_cg hP 6 rfl h
theorem m_D {rd' : Int32} {io' : Int32} {dn' : Int32} {ky' : Nat → Int32} {hh' : Nat → Int32} {vv' : Nat → Int32} {mm' : Nat → Int32} {bk' : Nat → Int32} {fl' : Int32} {mx' : Int64} {cm' : Int32} {sz' : Int32} {rw' : Nat → Int32} (hD : va_D A (mw o b1 b2 b3 b4 b5 b6 cI rd io dn ky hh vv mm bk fl mx cm sz rw)) : va_D A (mw o b1 b2 b3 b4 b5 b6 cI rd' io' dn' ky' hh' vv' mm' bk' fl' mx' cm' sz' rw') := kd_Dcg (w1 := (mw o b1 b2 b3 b4 b5 b6 cI rd io dn ky hh vv mm bk fl mx cm sz rw)) rfl hD
theorem m_rec (hK : va_K D vwCl (tyL cB cI) s) (hP : va_P D vwCl (mw o b1 b2 b3 b4 b5 b6 cI rd io dn ky hh vv mm bk fl mx cm sz rw) H) : ∃ cell : Cell, H[o]? = some cell ∧ cell.vm.isStatics = false ∧ s.vm.findClass RX1 = some cell.cls := va_recv hK hP (ci := 1) (q0 := 0) rfl rfl
end KDM
end
section
/-! pure rows: sums of indices, bytes and words -/
set_option maxRecDepth 100000
theorem kd_a {x : Int32} {a : Nat} (e : x = nI a) (b : Nat) : x + nI b = nI (a + b) := by rw [e, nI_add]
def kd_ib (b : Int32) : Int32 := if ¬ b < 0 ∧ ¬ 256 ≤ b then 1 else 0
theorem kd_ib_1 {b : Int32} (h : ¬ kd_ib b = 0) : ¬ b < 0 ∧ ¬ 256 ≤ b := by
  unfold kd_ib at h
  by_cases hq : ¬ b < 0 ∧ ¬ 256 ≤ b
  · exact hq
  · rw [if_neg hq] at h
    exact absurd rfl h
theorem kd_ib_0 {b : Int32} (h : kd_ib b = 0) : ¬ (¬ b < 0 ∧ ¬ 256 ≤ b) := by
  intro hq
  unfold kd_ib at h
  rw [if_pos hq] at h
  exact absurd h (by decide)
def kd_bt (x : Int32) (i : Nat) : Bool := x.toBitVec.getLsbD i
theorem kd_bext {x y : Int32} (h : ∀ i, i < 32 → kd_bt x i = kd_bt y i) : x = y := Int32.toBitVec_inj.mp (BitVec.eq_of_getLsbD_eq (fun i hi => h i hi))
theorem kd_b255 : ∀ i < 32, 8 ≤ i → (255 : Int32).toBitVec.getLsbD i = false := by decide
theorem kd_sxand (x : Int32) : kd_sx x &&& 255 = x &&& 255 := by
  unfold kd_sx
  apply Int32.toBitVec_inj.mp
  rw [Int32.toBitVec_and, Int32.toBitVec_and, Int8.toBitVec_toInt32, Int32.toBitVec_toInt8]
  apply BitVec.eq_of_getLsbD_eq
  intro i hi
  rw [BitVec.getLsbD_and, BitVec.getLsbD_and]
  rcases Nat.lt_or_ge i 8 with z | z
  · rw [BitVec.getLsbD_signExtend, BitVec.getLsbD_signExtend, if_pos z, if_pos hi]
    simp only [z, hi, decide_true, Bool.true_and]
  · rw [kd_b255 i hi z]; simp
theorem kd_sxby {x : Int32} (h : kd_by x) : kd_sx x &&& 255 = x := (kd_sxand x).trans h
theorem kd_sl24 : (((24 : Int32) &&& 31).toBitVec.smod 32).toNat = 24 := by decide +kernel
theorem kd_shl24 (x : Int32) {i : Nat} (hi : i < 32) : (x <<< ((24 : Int32) &&& 31)).toBitVec.getLsbD i = (decide (24 ≤ i) && x.toBitVec.getLsbD (i - 24)) := by
  rw [Int32.toBitVec_shiftLeft]
  show (x.toBitVec <<< (((24 : Int32) &&& 31).toBitVec.smod 32).toNat).getLsbD i = _
  rw [kd_sl24, BitVec.getLsbD_shiftLeft]
  rcases Nat.lt_or_ge i 24 with h | h
  · simp [h, Nat.not_le.mpr h]
  · simp [hi, h, Nat.not_lt.mpr h]
theorem kd_sxshl (x : Int32) : kd_sx x <<< ((24 : Int32) &&& 31) = x <<< ((24 : Int32) &&& 31) := by
  apply Int32.toBitVec_inj.mp
  apply BitVec.eq_of_getLsbD_eq
  intro i hi
  rw [kd_shl24 _ hi, kd_shl24 _ hi]
  rcases Nat.lt_or_ge i 24 with h | h
  · simp [Nat.not_le.mpr h]
  · have z : i - 24 < 8 := by omega
    have z2 : i - 24 < 32 := by omega
    unfold kd_sx
    rw [Int8.toBitVec_toInt32, Int32.toBitVec_toInt8, BitVec.getLsbD_signExtend, BitVec.getLsbD_signExtend, if_pos z, if_pos z2]
    simp only [z, z2, decide_true, Bool.true_and]
/-- X's word out of its bytes -/
theorem kd_wx {bk : Nat → Int32} (h : ∀ j, kd_by (bk j)) (i : Nat) : (((kd_e bk (4 * i) &&& 255) ||| ((kd_e bk (4 * i + 1) &&& 255) <<< ((8 : Int32) &&& 31))) ||| ((kd_e bk (4 * i + 2) &&& 255) <<< ((16 : Int32) &&& 31))) ||| (kd_e bk (4 * i + 3) <<< ((24 : Int32) &&& 31)) = kd_w bk i := by
  unfold kd_e kd_w
  rw [kd_sxby (h _), kd_sxby (h _), kd_sxby (h _), kd_sxshl]
/-- X's first v, filled from both ends -/
def kd_vf (h v : Nat → Int32) (i : Nat) : Nat → Int32 := fun j => if j < i then h j else if 8 ≤ j ∧ j < 8 + i then kd_iv (j - 8) else v j
theorem kd_vf_0 (h v : Nat → Int32) : kd_vf h v 0 = v := by
  funext j
  unfold kd_vf
  rw [if_neg (by omega), if_neg (by omega)]
theorem kd_vf_s (h v : Nat → Int32) {i : Nat} (hi : i < 8) : upd (upd (kd_vf h v i) i (h i)) (8 + i) (kd_iv i) = kd_vf h v (i + 1) := by
  funext j
  unfold upd kd_vf
  by_cases h1 : j = 8 + i
  · subst h1
    rw [if_pos rfl, if_neg (by omega), if_pos (by omega)]
    congr 1
    omega
  · rw [if_neg h1]
    by_cases h2 : j = i
    · subst h2
      rw [if_pos rfl, if_pos (by omega)]
    · rw [if_neg h2]
      by_cases h3 : j < i
      · rw [if_pos h3, if_pos (by omega)]
      · rw [if_neg h3, if_neg (show ¬ j < i + 1 by omega)]
        by_cases h4 : 8 ≤ j ∧ j < 8 + i
        · rw [if_pos h4, if_pos (by omega)]
        · rw [if_neg h4, if_neg (by omega)]
theorem kd_vf_8 (h v : Nat → Int32) : ∀ j, j < 16 → kd_vf h v 8 j = kd_vs h j := by
  intro j hj
  unfold kd_vf kd_vs
  by_cases h1 : j < 8
  · rw [if_pos h1, if_pos h1]
  · rw [if_neg h1, if_neg h1, if_pos (by omega)]
theorem kd_rs_s (w v : Nat → Int32) (i : Nat) : kd_rs w v (i + 1) = kd_rnd w (kd_rs w v i) i := rfl
theorem kd_v0_0 (h : Nat → Int32) (n : Int64) {last : Int32} (hl : last = 0) : kd_v0 h n last = kd_x13 (kd_x12 (kd_vs h) n) n := if_pos hl
theorem kd_v0_1 (h : Nat → Int32) (n : Int64) {last : Int32} (hl : ¬ last = 0) : kd_v0 h n last = kd_x14 (kd_x13 (kd_x12 (kd_vs h) n) n) := if_neg hl
theorem kd_tk_1 {h bk : Nat → Int32} {f : Nat} {n : Int64} (hf : f = 64) (b : Int32) : kd_tk (h, bk, f, n) b = (kd_mx (kd_w bk) h (n + 64) 0, upd bk 0 b, 1, n + 64) := if_pos hf
theorem kd_tk_0 {h bk : Nat → Int32} {f : Nat} {n : Int64} (hf : ¬ f = 64) (b : Int32) : kd_tk (h, bk, f, n) b = (h, upd bk f b, f + 1, n) := if_neg hf
theorem kd_64 {f : Nat} (hf : f ≤ 64) : nI f = 64 ↔ f = 64 := nI_eq (b := 64) (by omega) (by omega)
end
section
set_option maxRecDepth 100000
set_option maxHeartbeats 4000000 in
/-- down(x, b) -/
theorem metX0_down (l : Launch) (x b : Int32) : kd_MS l yX0_down cX0_down 2 .int ({ frames := 0, cells := 0, slots := 0, locals := 0 } : Room) [.int x, .int b] (kd_dn x b) := by
  refine kd_ms (by decide) (Nat.le_of_ble_eq_true rfl) ?_
  intro p e s m below meth c ls S hr hlk hl
  have S : CallFix p m c cX0_down 2 s _ lw_all RX0 := S
  have hl : lv_has ls 2 [(0, .int x), (1, .int b)] := hl
  have hx := S.1
  have hb := S.2.1
  have hown := S.2.2.2.1
  have hts := S.2.2.2.2
  refine lv_iload_n hx hb dX0_down_0 rfl (lv_at hl 0 rfl) ?_
  refine lv_iload_n hx hb dX0_down_1 rfl (lv_at hl 1 rfl) ?_
  refine lv_iushr hx hb dX0_down_2 rfl ?_
  refine lv_iload_n hx hb dX0_down_3 rfl (lv_at hl 0 rfl) ?_
  refine lv_bipush (v := 32) hx hb dX0_down_4 (by decide) ?_
  refine lv_iload_n hx hb dX0_down_6 rfl (lv_at hl 1 rfl) ?_
  refine lv_isub hx hb dX0_down_7 ?_
  refine lv_ishl hx hb dX0_down_8 ?_
  refine lv_ior hx hb dX0_down_9 ?_
  exact kd_rend S hr rfl hlk rfl dX0_down_10
set_option maxHeartbeats 4000000 in
/-- down(x, b) -/
theorem metX1_down (l : Launch) (x b : Int32) : kd_MS l yX1_down cX1_down 2 .int ({ frames := 0, cells := 0, slots := 0, locals := 0 } : Room) [.int x, .int b] (kd_dn x b) := by
  refine kd_ms (by decide) (Nat.le_of_ble_eq_true rfl) ?_
  intro p e s m below meth c ls S hr hlk hl
  have S : CallFix p m c cX1_down 2 s _ lw_all RX1 := S
  have hl : lv_has ls 2 [(0, .int x), (1, .int b)] := hl
  have hx := S.1
  have hb := S.2.1
  have hown := S.2.2.2.1
  have hts := S.2.2.2.2
  refine lv_iload_n hx hb dX1_down_0 rfl (lv_at hl 0 rfl) ?_
  refine lv_iload_n hx hb dX1_down_1 rfl (lv_at hl 1 rfl) ?_
  refine lv_iushr hx hb dX1_down_2 rfl ?_
  refine lv_iload_n hx hb dX1_down_3 rfl (lv_at hl 0 rfl) ?_
  refine lv_bipush (v := 32) hx hb dX1_down_4 (by decide) ?_
  refine lv_iload_n hx hb dX1_down_6 rfl (lv_at hl 1 rfl) ?_
  refine lv_isub hx hb dX1_down_7 ?_
  refine lv_ishl hx hb dX1_down_8 ?_
  refine lv_ior hx hb dX1_down_9 ?_
  exact kd_rend S hr rfl hlk rfl dX1_down_10
set_option maxHeartbeats 4000000 in
/-- isByte(b) -/
theorem metX0_isByte (l : Launch) (b : Int32) : kd_MS l yX0_isByte cX0_isByte 1 .boolean ({ frames := 0, cells := 0, slots := 0, locals := 0 } : Room) [.int b] (kd_ib b) := by
  refine kd_ms (by decide) (Nat.le_of_ble_eq_true rfl) ?_
  intro p e s m below meth c ls S hr hlk hl
  have S : CallFix p m c cX0_isByte 1 s _ lw_all RX0 := S
  have hl : lv_has ls 1 [(0, .int b)] := hl
  have hx := S.1
  have hb := S.2.1
  have hown := S.2.2.2.1
  have hts := S.2.2.2.2
  refine lv_iload_n hx hb dX0_isByte_0 rfl (lv_at hl 0 rfl) ?_
  refine lv_if_lt (tgt := 15) hx hb dX0_isByte_1 (by decide) (fun h1 => ?_) (fun h1 => ?_)
  · refine lv_iconst (v := 0) hx hb dX0_isByte_15 (by decide) ?_
    exact kd_rend S hr rfl hlk (if_neg (fun q => q.1 h1)).symm dX0_isByte_16
  · refine lv_iload_n hx hb dX0_isByte_4 rfl (lv_at hl 0 rfl) ?_
    refine lv_sipush (v := 256) hx hb dX0_isByte_5 (by decide) ?_
    refine lv_icmp_ge (tgt := 15) hx hb dX0_isByte_8 (by decide) (fun h2 => ?_) (fun h2 => ?_)
    · refine lv_iconst (v := 0) hx hb dX0_isByte_15 (by decide) ?_
      exact kd_rend S hr rfl hlk (if_neg (fun q => q.2 h2)).symm dX0_isByte_16
    · refine lv_iconst (v := 1) hx hb dX0_isByte_11 (by decide) ?_
      refine lv_goto (tgt := 16) hx hb dX0_isByte_12 (by decide) ?_
      exact kd_rend S hr rfl hlk (if_pos ⟨h1, h2⟩).symm dX0_isByte_16
set_option maxHeartbeats 4000000 in
/-- half(a, b, c, d, x, first, second) -/
theorem metX0_half (l : Launch) (D : va_G) (o a1 a2 a3 a4 a5 a6 a7 : Nat) (cB cI : ClassId) (rd ph : Int32) (ky pl bg hh mm vv bk : Nat → Int32) (fl : Int32) (mx : Int64) (dg : Int32) (ct : Int64) (sz : Nat) (xa xb xc xd xx s1 s2 : Int32) (ja jb jc jd jx : Nat) (ha : kd_ix xa ja 16) (hb9 : kd_ix xb jb 16) (hc : kd_ix xc jc 16) (hd : kd_ix xd jd 16) (hj : kd_ix xx jx 16) : kd_MV l yX0_half cX0_half 8 ({ frames := 1, cells := 0, slots := 0, locals := 21 } : Room) [.ref o, .int xa, .int xb, .int xc, .int xd, .int xx, .int s1, .int s2] D (tyL cB cI) (xw o a1 a2 a3 a4 a5 a6 a7 cB cI rd ph ky pl bg hh mm vv bk fl mx dg ct) sz (fun w => w = (xw o a1 a2 a3 a4 a5 a6 a7 cB cI rd ph ky pl bg hh mm (kd_hf vv ja jb jc jd (mm jx) s1 s2) bk fl mx dg ct)) := by
  refine kd_mv (by decide) (Nat.le_of_ble_eq_true rfl) ?_
  intro p e s m below meth c ls A S hr hlk hnm hA hP hK hD hS hl
  have S : CallFix p m c cX0_half 8 s _ lw_all RX0 := S
  have hl : lv_has ls 8 [(0, .ref o), (1, .int xa), (2, .int xb), (3, .int xc), (4, .int xd), (5, .int xx), (6, .int s1), (7, .int s2)] := hl
  have hx := S.1
  have hb := S.2.1
  have hown := S.2.2.2.1
  have hts := S.2.2.2.2
  refine lv_aload_n hx hb dX0_half_0 rfl (lv_at hl 0 rfl) ?_
  refine xg_a6 S hK hP dX0_half_1 ?_
  refine lv_iload_n hx hb dX0_half_4 rfl (lv_at hl 1 rfl) ?_
  refine lv_dup2_11 hx hb dX0_half_5 rfl rfl ?_
  refine xl_vv (j := ja) S hK hP ha dX0_half_6 ?_
  refine lv_aload_n hx hb dX0_half_7 rfl (lv_at hl 0 rfl) ?_
  refine xg_a6 S hK hP dX0_half_8 ?_
  refine lv_iload_n hx hb dX0_half_11 rfl (lv_at hl 2 rfl) ?_
  refine xl_vv (j := jb) S hK hP hb9 dX0_half_12 ?_
  refine lv_aload_n hx hb dX0_half_13 rfl (lv_at hl 0 rfl) ?_
  refine xg_a5 S hK hP dX0_half_14 ?_
  refine lv_iload hx hb dX0_half_17 (lv_at hl 5 rfl) ?_
  refine xl_mm (j := jx) S hK hP hj dX0_half_19 ?_
  refine lv_iadd hx hb dX0_half_20 ?_
  refine lv_iadd hx hb dX0_half_21 ?_
  refine xs_vv (j := ja) (g := kd_h1 vv ja jb (mm jx)) S hK hP hD hS ha rfl dX0_half_22 (fun H locs hP hD hS => ?_)
  refine lv_aload_n hx hb dX0_half_23 rfl (lv_at hl 0 rfl) ?_
  refine xg_a6 S hK hP dX0_half_24 ?_
  refine lv_iload hx hb dX0_half_27 (lv_at hl 4 rfl) ?_
  refine lv_aload_n hx hb dX0_half_29 rfl (lv_at hl 0 rfl) ?_
  refine xg_a6 S hK hP dX0_half_30 ?_
  refine lv_iload hx hb dX0_half_33 (lv_at hl 4 rfl) ?_
  refine xl_vv (j := jd) S hK hP hd dX0_half_35 ?_
  refine lv_aload_n hx hb dX0_half_36 rfl (lv_at hl 0 rfl) ?_
  refine xg_a6 S hK hP dX0_half_37 ?_
  refine lv_iload_n hx hb dX0_half_40 rfl (lv_at hl 1 rfl) ?_
  refine xl_vv (j := ja) S hK hP ha dX0_half_41 ?_
  refine lv_ixor hx hb dX0_half_42 ?_
  refine lv_iload hx hb dX0_half_43 (lv_at hl 6 rfl) ?_
  refine kd_cs (rest := [.int xd, .ref a6]) S (metX0_down l (((kd_h1 vv ja jb (mm jx)) jd) ^^^ ((kd_h1 vv ja jb (mm jx)) ja)) s1) (va_cwS 2 hts (lw_S q121 q122 q9 q123) rfl rfl rfl (by decide +kernel) ⟨Nat.le_of_ble_eq_true rfl, Nat.le_of_ble_eq_true rfl⟩) rfl hl.1 rfl (Nat.le_of_ble_eq_true rfl) dX0_half_45 ⟨Nat.zero_le _, Nat.zero_le _⟩ ?_
  refine xs_vv (j := jd) (g := kd_h2 (kd_h1 vv ja jb (mm jx)) ja jd s1) S hK hP hD hS hd rfl dX0_half_48 (fun H locs hP hD hS => ?_)
  refine lv_aload_n hx hb dX0_half_49 rfl (lv_at hl 0 rfl) ?_
  refine xg_a6 S hK hP dX0_half_50 ?_
  refine lv_iload_n hx hb dX0_half_53 rfl (lv_at hl 3 rfl) ?_
  refine lv_dup2_11 hx hb dX0_half_54 rfl rfl ?_
  refine xl_vv (j := jc) S hK hP hc dX0_half_55 ?_
  refine lv_aload_n hx hb dX0_half_56 rfl (lv_at hl 0 rfl) ?_
  refine xg_a6 S hK hP dX0_half_57 ?_
  refine lv_iload hx hb dX0_half_60 (lv_at hl 4 rfl) ?_
  refine xl_vv (j := jd) S hK hP hd dX0_half_62 ?_
  refine lv_iadd hx hb dX0_half_63 ?_
  refine xs_vv (j := jc) (g := kd_h3 (kd_h2 (kd_h1 vv ja jb (mm jx)) ja jd s1) jc jd) S hK hP hD hS hc rfl dX0_half_64 (fun H locs hP hD hS => ?_)
  refine lv_aload_n hx hb dX0_half_65 rfl (lv_at hl 0 rfl) ?_
  refine xg_a6 S hK hP dX0_half_66 ?_
  refine lv_iload_n hx hb dX0_half_69 rfl (lv_at hl 2 rfl) ?_
  refine lv_aload_n hx hb dX0_half_70 rfl (lv_at hl 0 rfl) ?_
  refine xg_a6 S hK hP dX0_half_71 ?_
  refine lv_iload_n hx hb dX0_half_74 rfl (lv_at hl 2 rfl) ?_
  refine xl_vv (j := jb) S hK hP hb9 dX0_half_75 ?_
  refine lv_aload_n hx hb dX0_half_76 rfl (lv_at hl 0 rfl) ?_
  refine xg_a6 S hK hP dX0_half_77 ?_
  refine lv_iload_n hx hb dX0_half_80 rfl (lv_at hl 3 rfl) ?_
  refine xl_vv (j := jc) S hK hP hc dX0_half_81 ?_
  refine lv_ixor hx hb dX0_half_82 ?_
  refine lv_iload hx hb dX0_half_83 (lv_at hl 7 rfl) ?_
  refine kd_cs (rest := [.int xb, .ref a6]) S (metX0_down l (((kd_h3 (kd_h2 (kd_h1 vv ja jb (mm jx)) ja jd s1) jc jd) jb) ^^^ ((kd_h3 (kd_h2 (kd_h1 vv ja jb (mm jx)) ja jd s1) jc jd) jc)) s2) (va_cwS 2 hts (lw_S q121 q122 q9 q123) rfl rfl rfl (by decide +kernel) ⟨Nat.le_of_ble_eq_true rfl, Nat.le_of_ble_eq_true rfl⟩) rfl hl.1 rfl (Nat.le_of_ble_eq_true rfl) dX0_half_85 ⟨Nat.zero_le _, Nat.zero_le _⟩ ?_
  refine xs_vv (j := jb) (g := kd_h2 (kd_h3 (kd_h2 (kd_h1 vv ja jb (mm jx)) ja jd s1) jc jd) jc jb s2) S hK hP hD hS hb9 rfl dX0_half_88 (fun H locs hP hD hS => ?_)
  exact kd_vend S hr hlk hK hP hD hS rfl dX0_half_89
set_option maxHeartbeats 4000000 in
/-- four(a, b, c, d, at) -/
theorem metX0_four (l : Launch) (D : va_G) (o a1 a2 a3 a4 a5 a6 a7 : Nat) (cB cI : ClassId) (rd ph : Int32) (ky bg hh mm vv bk : Nat → Int32) (fl : Int32) (mx : Int64) (dg : Int32) (ct : Int64) (sz : Nat) (xa xb xc xd xt : Int32) (ja jb jc jd t : Nat) (ha : kd_ix xa ja 16) (hb9 : kd_ix xb jb 16) (hc : kd_ix xc jc 16) (hd : kd_ix xd jd 16) (et : xt = nI t) (ht : t + 1 < 160) : kd_MV l yX0_four cX0_four 6 ({ frames := 2, cells := 0, slots := 0, locals := 48 } : Room) [.ref o, .int xa, .int xb, .int xc, .int xd, .int xt] D (tyL cB cI) (xw o a1 a2 a3 a4 a5 a6 a7 cB cI rd ph ky kd_tbl bg hh mm vv bk fl mx dg ct) sz (fun w => w = (xw o a1 a2 a3 a4 a5 a6 a7 cB cI rd ph ky kd_tbl bg hh mm (kd_G vv ja jb jc jd (kd_px mm t) (kd_px mm (t + 1))) bk fl mx dg ct)) := by
  refine kd_mv (by decide) (Nat.le_of_ble_eq_true rfl) ?_
  intro p e s m below meth c ls A S hr hlk hnm hA hP hK hD hS hl
  have S : CallFix p m c cX0_four 6 s _ lw_all RX0 := S
  have hl : lv_has ls 6 [(0, .ref o), (1, .int xa), (2, .int xb), (3, .int xc), (4, .int xd), (5, .int xt)] := hl
  have hx := S.1
  have hb := S.2.1
  have hown := S.2.2.2.1
  have hts := S.2.2.2.2
  refine lv_aload_n hx hb dX0_four_0 rfl (lv_at hl 0 rfl) ?_
  refine lv_iload_n hx hb dX0_four_1 rfl (lv_at hl 1 rfl) ?_
  refine lv_iload_n hx hb dX0_four_2 rfl (lv_at hl 2 rfl) ?_
  refine lv_iload_n hx hb dX0_four_3 rfl (lv_at hl 3 rfl) ?_
  refine lv_iload hx hb dX0_four_4 (lv_at hl 4 rfl) ?_
  refine lv_aload_n hx hb dX0_four_6 rfl (lv_at hl 0 rfl) ?_
  refine xg_a2 S hK hP dX0_four_7 ?_
  refine lv_iload hx hb dX0_four_10 (lv_at hl 5 rfl) ?_
  refine xl_pl (j := t) S hK hP (kd_ix_e et (by omega) (by omega)) dX0_four_12 ?_
  refine lv_bipush (v := 16) hx hb dX0_four_13 (by decide) ?_
  refine lv_bipush (v := 12) hx hb dX0_four_15 (by decide) ?_
  refine kd_cv (rest := []) S (metX0_half l D o a1 a2 a3 a4 a5 a6 a7 cB cI rd ph ky kd_tbl bg hh mm vv bk fl mx dg ct _ xa xb xc xd (kd_tbl t) 16 12 ja jb jc jd (kd_pn t) ha hb9 hc hd (kd_tbl_ix (by omega))) (cwV 7 hts (lw_V q117 q119 qs4 q9 q120) rfl rfl rfl (by decide +kernel) ⟨Nat.le_of_ble_eq_true rfl, Nat.le_of_ble_eq_true rfl⟩) hK hP hD hS hA (x_rec hK hP) rfl hl.1 rfl (Nat.le_of_ble_eq_true rfl) dX0_four_17 ⟨Nat.zero_le _, Nat.zero_le _⟩ (fun w H locs hw hP hD hS => ?_)
  subst hw
  refine lv_aload_n hx hb dX0_four_20 rfl (lv_at hl 0 rfl) ?_
  refine lv_iload_n hx hb dX0_four_21 rfl (lv_at hl 1 rfl) ?_
  refine lv_iload_n hx hb dX0_four_22 rfl (lv_at hl 2 rfl) ?_
  refine lv_iload_n hx hb dX0_four_23 rfl (lv_at hl 3 rfl) ?_
  refine lv_iload hx hb dX0_four_24 (lv_at hl 4 rfl) ?_
  refine lv_aload_n hx hb dX0_four_26 rfl (lv_at hl 0 rfl) ?_
  refine xg_a2 S hK hP dX0_four_27 ?_
  refine lv_iload hx hb dX0_four_30 (lv_at hl 5 rfl) ?_
  refine lv_iconst (v := 1) hx hb dX0_four_32 (by decide) ?_
  refine lv_iadd hx hb dX0_four_33 ?_
  refine xl_pl (j := (t + 1)) S hK hP (kd_ix_e (kd_a et 1) (by omega) (by omega)) dX0_four_34 ?_
  refine lv_bipush (v := 8) hx hb dX0_four_35 (by decide) ?_
  refine lv_bipush (v := 7) hx hb dX0_four_37 (by decide) ?_
  refine kd_cv (rest := []) S (metX0_half l D o a1 a2 a3 a4 a5 a6 a7 cB cI rd ph ky kd_tbl bg hh mm (kd_hf vv ja jb jc jd (kd_px mm t) 16 12) bk fl mx dg ct H.size xa xb xc xd (kd_tbl (t + 1)) 8 7 ja jb jc jd (kd_pn (t + 1)) ha hb9 hc hd (kd_tbl_ix (by omega))) (cwV 7 hts (lw_V q117 q119 qs4 q9 q120) rfl rfl rfl (by decide +kernel) ⟨Nat.le_of_ble_eq_true rfl, Nat.le_of_ble_eq_true rfl⟩) hK hP hD hS hA (x_rec hK hP) rfl hl.1 rfl (Nat.le_of_ble_eq_true rfl) dX0_four_39 ⟨Nat.zero_le _, Nat.zero_le _⟩ (fun w H locs hw hP hD hS => ?_)
  subst hw
  exact kd_vend S hr hlk hK hP hD hS rfl dX0_four_42
end
section
set_option maxRecDepth 100000
section XMIX
variable {p : Program} {l : Launch} {e : Env} {R : Room} {s : State} {m : MethodId} {args : Array Value} {below : List Frame} {meth : Method} {c : Code} {Q : State → Prop} {D : va_G} {A : Nat → Prop} {H0 : Heap}
variable {o a1 a2 a3 a4 a5 a6 a7 : Nat} {cB cI : ClassId} {rd ph fl dg : Int32} {ky pl bg hh mm vv bk : Nat → Int32} {mx ct : Int64}
variable {b0 w v0 : Nat → Int32} {last : Int32}
set_option maxHeartbeats 4000000 in
theorem kd_Xm1 (hby : ∀ j, kd_by (b0 j)) (S : CallFix p m c cX0_mix 3 s args lw_all RX0) (hK : va_K D vwCl (tyL cB cI) s)
    (kx : ∀ (H : Heap) (locs : List Loc) (ls : Array Slot), va_P D vwCl (xw o a1 a2 a3 a4 a5 a6 a7 cB cI rd ph ky pl bg hh (kd_w b0) vv (kd_e b0) fl mx dg ct) H → va_D A (xw o a1 a2 a3 a4 a5 a6 a7 cB cI rd ph ky pl bg hh (kd_w b0) vv (kd_e b0) fl mx dg ct) → va_S A H0 H locs → lv_has ls 3 [(2, .int (nI 16)), (0, .ref o), (1, .int last)] → W p l e R s m args below meth c H locs 0 0 Q (F0 m 82 ls [])) :
    ∀ (n i : Nat), i + n = 16 → ∀ (H : Heap) (locs : List Loc) (ls : Array Slot), va_P D vwCl (xw o a1 a2 a3 a4 a5 a6 a7 cB cI rd ph ky pl bg hh (kd_fill (kd_w b0) mm i) vv (kd_e b0) fl mx dg ct) H → va_D A (xw o a1 a2 a3 a4 a5 a6 a7 cB cI rd ph ky pl bg hh (kd_fill (kd_w b0) mm i) vv (kd_e b0) fl mx dg ct) → va_S A H0 H locs → lv_has ls 3 [(2, .int (nI i)), (0, .ref o), (1, .int last)] → W p l e R s m args below meth c H locs 0 0 Q (F0 m 2 ls []) := by
  have hx := S.1
  have hb := S.2.1
  have hown := S.2.2.2.1
  have hts := S.2.2.2.2
  intro n
  induction n with
  | zero =>
    intro i hi  H locs ls hP hD hS hl
    obtain rfl : i = 16 := by omega
    refine lv_iload_n hx hb dX0_mix_2 rfl (lv_at hl 0 rfl) ?_
    refine lv_bipush (v := 16) hx hb dX0_mix_3 (by decide) ?_
    refine lv_icmp_ge (tgt := 82) hx hb dX0_mix_5 (by decide) (fun hc => ?_) (fun hc => ?_)
    · have hP := xc_mm (g := kd_w b0) hP (fun j hj => kd_fill_in hj)
      exact kx H locs ls hP (x_D hD) hS hl
    · exact absurd (by decide) hc
  | succ n ih =>
    intro i hi  H locs ls hP hD hS hl
    refine lv_iload_n hx hb dX0_mix_2 rfl (lv_at hl 0 rfl) ?_
    refine lv_bipush (v := 16) hx hb dX0_mix_3 (by decide) ?_
    refine lv_icmp_ge (tgt := 82) hx hb dX0_mix_5 (by decide) (fun hc => ?_) (fun hc => ?_)
    · exact absurd hc (nI_ge (a := i) (b := 16) (by omega) (by omega))
    · refine lv_aload_n hx hb dX0_mix_8 rfl (lv_at hl 1 rfl) ?_
      refine xg_a5 S hK hP dX0_mix_9 ?_
      refine lv_iload_n hx hb dX0_mix_12 rfl (lv_at hl 0 rfl) ?_
      refine lv_aload_n hx hb dX0_mix_13 rfl (lv_at hl 1 rfl) ?_
      refine xg_a7 S hK hP dX0_mix_14 ?_
      refine lv_iconst (v := 4) hx hb dX0_mix_17 (by decide) ?_
      refine lv_iload_n hx hb dX0_mix_18 rfl (lv_at hl 0 rfl) ?_
      refine lv_imul hx hb dX0_mix_19 ?_
      refine xl_bk (j := (4 * i)) S hK hP (kd_ix_e (pk_mul 4 i) (by omega) (by omega)) dX0_mix_20 ?_
      refine lv_sipush (v := 255) hx hb dX0_mix_21 (by decide) ?_
      refine lv_iand hx hb dX0_mix_24 ?_
      refine lv_aload_n hx hb dX0_mix_25 rfl (lv_at hl 1 rfl) ?_
      refine xg_a7 S hK hP dX0_mix_26 ?_
      refine lv_iconst (v := 4) hx hb dX0_mix_29 (by decide) ?_
      refine lv_iload_n hx hb dX0_mix_30 rfl (lv_at hl 0 rfl) ?_
      refine lv_imul hx hb dX0_mix_31 ?_
      refine lv_iconst (v := 1) hx hb dX0_mix_32 (by decide) ?_
      refine lv_iadd hx hb dX0_mix_33 ?_
      refine xl_bk (j := (4 * i + 1)) S hK hP (kd_ix_e (kd_a (pk_mul 4 i) 1) (by omega) (by omega)) dX0_mix_34 ?_
      refine lv_sipush (v := 255) hx hb dX0_mix_35 (by decide) ?_
      refine lv_iand hx hb dX0_mix_38 ?_
      refine lv_bipush (v := 8) hx hb dX0_mix_39 (by decide) ?_
      refine lv_ishl hx hb dX0_mix_41 ?_
      refine lv_ior hx hb dX0_mix_42 ?_
      refine lv_aload_n hx hb dX0_mix_43 rfl (lv_at hl 1 rfl) ?_
      refine xg_a7 S hK hP dX0_mix_44 ?_
      refine lv_iconst (v := 4) hx hb dX0_mix_47 (by decide) ?_
      refine lv_iload_n hx hb dX0_mix_48 rfl (lv_at hl 0 rfl) ?_
      refine lv_imul hx hb dX0_mix_49 ?_
      refine lv_iconst (v := 2) hx hb dX0_mix_50 (by decide) ?_
      refine lv_iadd hx hb dX0_mix_51 ?_
      refine xl_bk (j := (4 * i + 2)) S hK hP (kd_ix_e (kd_a (pk_mul 4 i) 2) (by omega) (by omega)) dX0_mix_52 ?_
      refine lv_sipush (v := 255) hx hb dX0_mix_53 (by decide) ?_
      refine lv_iand hx hb dX0_mix_56 ?_
      refine lv_bipush (v := 16) hx hb dX0_mix_57 (by decide) ?_
      refine lv_ishl hx hb dX0_mix_59 ?_
      refine lv_ior hx hb dX0_mix_60 ?_
      refine lv_aload_n hx hb dX0_mix_61 rfl (lv_at hl 1 rfl) ?_
      refine xg_a7 S hK hP dX0_mix_62 ?_
      refine lv_iconst (v := 4) hx hb dX0_mix_65 (by decide) ?_
      refine lv_iload_n hx hb dX0_mix_66 rfl (lv_at hl 0 rfl) ?_
      refine lv_imul hx hb dX0_mix_67 ?_
      refine lv_iconst (v := 3) hx hb dX0_mix_68 (by decide) ?_
      refine lv_iadd hx hb dX0_mix_69 ?_
      refine xl_bk (j := (4 * i + 3)) S hK hP (kd_ix_e (kd_a (pk_mul 4 i) 3) (by omega) (by omega)) dX0_mix_70 ?_
      refine lv_bipush (v := 24) hx hb dX0_mix_71 (by decide) ?_
      refine lv_ishl hx hb dX0_mix_73 ?_
      refine lv_ior hx hb dX0_mix_74 ?_
      refine xs_mm (j := i) (g := kd_fill (kd_w b0) mm (i + 1)) S hK hP hD hS (kd_ix_n (by omega) (by omega)) (kd_fill_s (kd_wx hby i)) dX0_mix_75 (fun H locs hP hD hS => ?_)
      refine lv_iinc (v := nI (i + 1)) (lv' := [(2, .int (nI (i + 1))), (0, .ref o), (1, .int last)]) hx hb dX0_mix_76 hl (k := 0) rfl (nI_1 i) (by decide) rfl (fun ls hl => ?_)
      refine lv_goto (tgt := 2) hx hb dX0_mix_79 (by decide) ?_
      exact ih (i + 1) (by omega) H locs ls hP hD hS hl
set_option maxHeartbeats 4000000 in
theorem kd_Xm2  (S : CallFix p m c cX0_mix 3 s args lw_all RX0) (hK : va_K D vwCl (tyL cB cI) s)
    (kx : ∀ (H : Heap) (locs : List Loc) (ls : Array Slot), va_P D vwCl (xw o a1 a2 a3 a4 a5 a6 a7 cB cI rd ph ky pl kd_iv hh mm (kd_vs hh) bk fl mx dg ct) H → va_D A (xw o a1 a2 a3 a4 a5 a6 a7 cB cI rd ph ky pl kd_iv hh mm (kd_vs hh) bk fl mx dg ct) → va_S A H0 H locs → lv_has ls 3 [(2, .int (nI 8)), (0, .ref o), (1, .int last)] → W p l e R s m args below meth c H locs 0 0 Q (F0 m 123 ls [])) :
    ∀ (n i : Nat), i + n = 8 → ∀ (H : Heap) (locs : List Loc) (ls : Array Slot), va_P D vwCl (xw o a1 a2 a3 a4 a5 a6 a7 cB cI rd ph ky pl kd_iv hh mm (kd_vf hh vv i) bk fl mx dg ct) H → va_D A (xw o a1 a2 a3 a4 a5 a6 a7 cB cI rd ph ky pl kd_iv hh mm (kd_vf hh vv i) bk fl mx dg ct) → va_S A H0 H locs → lv_has ls 3 [(2, .int (nI i)), (0, .ref o), (1, .int last)] → W p l e R s m args below meth c H locs 0 0 Q (F0 m 84 ls []) := by
  have hx := S.1
  have hb := S.2.1
  have hown := S.2.2.2.1
  have hts := S.2.2.2.2
  intro n
  induction n with
  | zero =>
    intro i hi  H locs ls hP hD hS hl
    obtain rfl : i = 8 := by omega
    refine lv_iload_n hx hb dX0_mix_84 rfl (lv_at hl 0 rfl) ?_
    refine lv_bipush (v := 8) hx hb dX0_mix_85 (by decide) ?_
    refine lv_icmp_ge (tgt := 123) hx hb dX0_mix_87 (by decide) (fun hc => ?_) (fun hc => ?_)
    · have hP := xc_vv (g := kd_vs hh) hP (kd_vf_8 hh vv)
      exact kx H locs ls hP (x_D hD) hS hl
    · exact absurd (by decide) hc
  | succ n ih =>
    intro i hi  H locs ls hP hD hS hl
    refine lv_iload_n hx hb dX0_mix_84 rfl (lv_at hl 0 rfl) ?_
    refine lv_bipush (v := 8) hx hb dX0_mix_85 (by decide) ?_
    refine lv_icmp_ge (tgt := 123) hx hb dX0_mix_87 (by decide) (fun hc => ?_) (fun hc => ?_)
    · exact absurd hc (nI_ge (a := i) (b := 8) (by omega) (by omega))
    · refine lv_aload_n hx hb dX0_mix_90 rfl (lv_at hl 1 rfl) ?_
      refine xg_a6 S hK hP dX0_mix_91 ?_
      refine lv_iload_n hx hb dX0_mix_94 rfl (lv_at hl 0 rfl) ?_
      refine lv_aload_n hx hb dX0_mix_95 rfl (lv_at hl 1 rfl) ?_
      refine xg_a4 S hK hP dX0_mix_96 ?_
      refine lv_iload_n hx hb dX0_mix_99 rfl (lv_at hl 0 rfl) ?_
      refine xl_hh (j := i) S hK hP (kd_ix_n (by omega) (by omega)) dX0_mix_100 ?_
      refine xs_vv (j := i) (g := upd (kd_vf hh vv i) i (hh i)) S hK hP hD hS (kd_ix_n (by omega) (by omega)) rfl dX0_mix_101 (fun H locs hP hD hS => ?_)
      refine lv_aload_n hx hb dX0_mix_102 rfl (lv_at hl 1 rfl) ?_
      refine xg_a6 S hK hP dX0_mix_103 ?_
      refine lv_bipush (v := 8) hx hb dX0_mix_106 (by decide) ?_
      refine lv_iload_n hx hb dX0_mix_108 rfl (lv_at hl 0 rfl) ?_
      refine lv_iadd hx hb dX0_mix_109 ?_
      refine lv_aload_n hx hb dX0_mix_110 rfl (lv_at hl 1 rfl) ?_
      refine xg_a3 S hK hP dX0_mix_111 ?_
      refine lv_iload_n hx hb dX0_mix_114 rfl (lv_at hl 0 rfl) ?_
      refine xl_bg (j := i) S hK hP (kd_ix_n (by omega) (by omega)) dX0_mix_115 ?_
      refine xs_vv (j := (8 + i)) (g := kd_vf hh vv (i + 1)) S hK hP hD hS (kd_ix_e (nI_add 8 i) (by omega) (by omega)) (kd_vf_s hh vv (by omega)) dX0_mix_116 (fun H locs hP hD hS => ?_)
      refine lv_iinc (v := nI (i + 1)) (lv' := [(2, .int (nI (i + 1))), (0, .ref o), (1, .int last)]) hx hb dX0_mix_117 hl (k := 0) rfl (nI_1 i) (by decide) rfl (fun ls hl => ?_)
      refine lv_goto (tgt := 84) hx hb dX0_mix_120 (by decide) ?_
      exact ih (i + 1) (by omega) H locs ls hP hD hS hl
set_option maxHeartbeats 4000000 in
theorem kd_Xm3 (hR : 2 + 1 ≤ R.frames ∧ 8 + (6 + 11) + 48 ≤ R.locals) (hA : ∀ q, H0.size ≤ q → A q) (S : CallFix p m c cX0_mix 3 s args lw_all RX0) (hK : va_K D vwCl (tyL cB cI) s)
    (kx : ∀ (H : Heap) (locs : List Loc) (ls : Array Slot), va_P D vwCl (xw o a1 a2 a3 a4 a5 a6 a7 cB cI rd ph ky kd_tbl bg hh mm (kd_rs mm v0 10) bk fl mx dg ct) H → va_D A (xw o a1 a2 a3 a4 a5 a6 a7 cB cI rd ph ky kd_tbl bg hh mm (kd_rs mm v0 10) bk fl mx dg ct) → va_S A H0 H locs → lv_has ls 3 [(2, .int (nI (16 * 10))), (0, .ref o), (1, .int last)] → W p l e R s m args below meth c H locs 0 0 Q (F0 m 302 ls [])) :
    ∀ (n i : Nat), i + n = 10 → ∀ (H : Heap) (locs : List Loc) (ls : Array Slot), va_P D vwCl (xw o a1 a2 a3 a4 a5 a6 a7 cB cI rd ph ky kd_tbl bg hh mm (kd_rs mm v0 i) bk fl mx dg ct) H → va_D A (xw o a1 a2 a3 a4 a5 a6 a7 cB cI rd ph ky kd_tbl bg hh mm (kd_rs mm v0 i) bk fl mx dg ct) → va_S A H0 H locs → lv_has ls 3 [(2, .int (nI (16 * i))), (0, .ref o), (1, .int last)] → W p l e R s m args below meth c H locs 0 0 Q (F0 m 178 ls []) := by
  have hx := S.1
  have hb := S.2.1
  have hown := S.2.2.2.1
  have hts := S.2.2.2.2
  intro n
  induction n with
  | zero =>
    intro i hi  H locs ls hP hD hS hl
    obtain rfl : i = 10 := by omega
    refine lv_iload_n hx hb dX0_mix_178 rfl (lv_at hl 0 rfl) ?_
    refine lv_sipush (v := 160) hx hb dX0_mix_179 (by decide) ?_
    refine lv_icmp_ge (tgt := 302) hx hb dX0_mix_182 (by decide) (fun hc => ?_) (fun hc => ?_)
    · exact kx H locs ls hP hD hS hl
    · exact absurd (by decide) hc
  | succ n ih =>
    intro i hi  H locs ls hP hD hS hl
    refine lv_iload_n hx hb dX0_mix_178 rfl (lv_at hl 0 rfl) ?_
    refine lv_sipush (v := 160) hx hb dX0_mix_179 (by decide) ?_
    refine lv_icmp_ge (tgt := 302) hx hb dX0_mix_182 (by decide) (fun hc => ?_) (fun hc => ?_)
    · exact absurd hc (nI_ge (a := 16 * i) (b := 160) (by omega) (by omega))
    · refine lv_aload_n hx hb dX0_mix_185 rfl (lv_at hl 1 rfl) ?_
      refine lv_iconst (v := 0) hx hb dX0_mix_186 (by decide) ?_
      refine lv_iconst (v := 4) hx hb dX0_mix_187 (by decide) ?_
      refine lv_bipush (v := 8) hx hb dX0_mix_188 (by decide) ?_
      refine lv_bipush (v := 12) hx hb dX0_mix_190 (by decide) ?_
      refine lv_iload_n hx hb dX0_mix_192 rfl (lv_at hl 0 rfl) ?_
      refine kd_cv (rest := []) S (metX0_four l D o a1 a2 a3 a4 a5 a6 a7 cB cI rd ph ky bg hh mm (kd_rs mm v0 i) bk fl mx dg ct H.size 0 4 8 12 (nI (16 * i)) 0 4 8 12 (16 * i) (kd_ix_n (j := 0) (by omega) (by omega)) (kd_ix_n (j := 4) (by omega) (by omega)) (kd_ix_n (j := 8) (by omega) (by omega)) (kd_ix_n (j := 12) (by omega) (by omega)) rfl (by omega)) (cwV 5 hts (lw_V q113 q115 qs3 q9 q116) rfl rfl rfl (by decide +kernel) hR) hK hP hD hS hA (x_rec hK hP) rfl hl.1 rfl (Nat.le_of_ble_eq_true rfl) dX0_mix_193 ⟨Nat.zero_le _, Nat.zero_le _⟩ (fun w H locs hw hP hD hS => ?_)
      subst hw
      refine lv_aload_n hx hb dX0_mix_196 rfl (lv_at hl 1 rfl) ?_
      refine lv_iconst (v := 1) hx hb dX0_mix_197 (by decide) ?_
      refine lv_iconst (v := 5) hx hb dX0_mix_198 (by decide) ?_
      refine lv_bipush (v := 9) hx hb dX0_mix_199 (by decide) ?_
      refine lv_bipush (v := 13) hx hb dX0_mix_201 (by decide) ?_
      refine lv_iload_n hx hb dX0_mix_203 rfl (lv_at hl 0 rfl) ?_
      refine lv_iconst (v := 2) hx hb dX0_mix_204 (by decide) ?_
      refine lv_iadd hx hb dX0_mix_205 ?_
      refine kd_cv (rest := []) S (metX0_four l D o a1 a2 a3 a4 a5 a6 a7 cB cI rd ph ky bg hh mm (kd_G (kd_rs mm v0 i) 0 4 8 12 (kd_px mm (16 * i)) (kd_px mm (16 * i + 1))) bk fl mx dg ct H.size 1 5 9 13 ((nI (16 * i)) + 2) 1 5 9 13 (16 * i + 2) (kd_ix_n (j := 1) (by omega) (by omega)) (kd_ix_n (j := 5) (by omega) (by omega)) (kd_ix_n (j := 9) (by omega) (by omega)) (kd_ix_n (j := 13) (by omega) (by omega)) (nI_add (16 * i) 2) (by omega)) (cwV 5 hts (lw_V q113 q115 qs3 q9 q116) rfl rfl rfl (by decide +kernel) hR) hK hP hD hS hA (x_rec hK hP) rfl hl.1 rfl (Nat.le_of_ble_eq_true rfl) dX0_mix_206 ⟨Nat.zero_le _, Nat.zero_le _⟩ (fun w H locs hw hP hD hS => ?_)
      subst hw
      refine lv_aload_n hx hb dX0_mix_209 rfl (lv_at hl 1 rfl) ?_
      refine lv_iconst (v := 2) hx hb dX0_mix_210 (by decide) ?_
      refine lv_bipush (v := 6) hx hb dX0_mix_211 (by decide) ?_
      refine lv_bipush (v := 10) hx hb dX0_mix_213 (by decide) ?_
      refine lv_bipush (v := 14) hx hb dX0_mix_215 (by decide) ?_
      refine lv_iload_n hx hb dX0_mix_217 rfl (lv_at hl 0 rfl) ?_
      refine lv_iconst (v := 4) hx hb dX0_mix_218 (by decide) ?_
      refine lv_iadd hx hb dX0_mix_219 ?_
      refine kd_cv (rest := []) S (metX0_four l D o a1 a2 a3 a4 a5 a6 a7 cB cI rd ph ky bg hh mm (kd_G (kd_G (kd_rs mm v0 i) 0 4 8 12 (kd_px mm (16 * i)) (kd_px mm (16 * i + 1))) 1 5 9 13 (kd_px mm (16 * i + 2)) (kd_px mm (16 * i + 3))) bk fl mx dg ct H.size 2 6 10 14 ((nI (16 * i)) + 4) 2 6 10 14 (16 * i + 4) (kd_ix_n (j := 2) (by omega) (by omega)) (kd_ix_n (j := 6) (by omega) (by omega)) (kd_ix_n (j := 10) (by omega) (by omega)) (kd_ix_n (j := 14) (by omega) (by omega)) (nI_add (16 * i) 4) (by omega)) (cwV 5 hts (lw_V q113 q115 qs3 q9 q116) rfl rfl rfl (by decide +kernel) hR) hK hP hD hS hA (x_rec hK hP) rfl hl.1 rfl (Nat.le_of_ble_eq_true rfl) dX0_mix_220 ⟨Nat.zero_le _, Nat.zero_le _⟩ (fun w H locs hw hP hD hS => ?_)
      subst hw
      refine lv_aload_n hx hb dX0_mix_223 rfl (lv_at hl 1 rfl) ?_
      refine lv_iconst (v := 3) hx hb dX0_mix_224 (by decide) ?_
      refine lv_bipush (v := 7) hx hb dX0_mix_225 (by decide) ?_
      refine lv_bipush (v := 11) hx hb dX0_mix_227 (by decide) ?_
      refine lv_bipush (v := 15) hx hb dX0_mix_229 (by decide) ?_
      refine lv_iload_n hx hb dX0_mix_231 rfl (lv_at hl 0 rfl) ?_
      refine lv_bipush (v := 6) hx hb dX0_mix_232 (by decide) ?_
      refine lv_iadd hx hb dX0_mix_234 ?_
      refine kd_cv (rest := []) S (metX0_four l D o a1 a2 a3 a4 a5 a6 a7 cB cI rd ph ky bg hh mm (kd_G (kd_G (kd_G (kd_rs mm v0 i) 0 4 8 12 (kd_px mm (16 * i)) (kd_px mm (16 * i + 1))) 1 5 9 13 (kd_px mm (16 * i + 2)) (kd_px mm (16 * i + 3))) 2 6 10 14 (kd_px mm (16 * i + 4)) (kd_px mm (16 * i + 5))) bk fl mx dg ct H.size 3 7 11 15 ((nI (16 * i)) + 6) 3 7 11 15 (16 * i + 6) (kd_ix_n (j := 3) (by omega) (by omega)) (kd_ix_n (j := 7) (by omega) (by omega)) (kd_ix_n (j := 11) (by omega) (by omega)) (kd_ix_n (j := 15) (by omega) (by omega)) (nI_add (16 * i) 6) (by omega)) (cwV 5 hts (lw_V q113 q115 qs3 q9 q116) rfl rfl rfl (by decide +kernel) hR) hK hP hD hS hA (x_rec hK hP) rfl hl.1 rfl (Nat.le_of_ble_eq_true rfl) dX0_mix_235 ⟨Nat.zero_le _, Nat.zero_le _⟩ (fun w H locs hw hP hD hS => ?_)
      subst hw
      refine lv_aload_n hx hb dX0_mix_238 rfl (lv_at hl 1 rfl) ?_
      refine lv_iconst (v := 0) hx hb dX0_mix_239 (by decide) ?_
      refine lv_iconst (v := 5) hx hb dX0_mix_240 (by decide) ?_
      refine lv_bipush (v := 10) hx hb dX0_mix_241 (by decide) ?_
      refine lv_bipush (v := 15) hx hb dX0_mix_243 (by decide) ?_
      refine lv_iload_n hx hb dX0_mix_245 rfl (lv_at hl 0 rfl) ?_
      refine lv_bipush (v := 8) hx hb dX0_mix_246 (by decide) ?_
      refine lv_iadd hx hb dX0_mix_248 ?_
      refine kd_cv (rest := []) S (metX0_four l D o a1 a2 a3 a4 a5 a6 a7 cB cI rd ph ky bg hh mm (kd_G (kd_G (kd_G (kd_G (kd_rs mm v0 i) 0 4 8 12 (kd_px mm (16 * i)) (kd_px mm (16 * i + 1))) 1 5 9 13 (kd_px mm (16 * i + 2)) (kd_px mm (16 * i + 3))) 2 6 10 14 (kd_px mm (16 * i + 4)) (kd_px mm (16 * i + 5))) 3 7 11 15 (kd_px mm (16 * i + 6)) (kd_px mm (16 * i + 7))) bk fl mx dg ct H.size 0 5 10 15 ((nI (16 * i)) + 8) 0 5 10 15 (16 * i + 8) (kd_ix_n (j := 0) (by omega) (by omega)) (kd_ix_n (j := 5) (by omega) (by omega)) (kd_ix_n (j := 10) (by omega) (by omega)) (kd_ix_n (j := 15) (by omega) (by omega)) (nI_add (16 * i) 8) (by omega)) (cwV 5 hts (lw_V q113 q115 qs3 q9 q116) rfl rfl rfl (by decide +kernel) hR) hK hP hD hS hA (x_rec hK hP) rfl hl.1 rfl (Nat.le_of_ble_eq_true rfl) dX0_mix_249 ⟨Nat.zero_le _, Nat.zero_le _⟩ (fun w H locs hw hP hD hS => ?_)
      subst hw
      refine lv_aload_n hx hb dX0_mix_252 rfl (lv_at hl 1 rfl) ?_
      refine lv_iconst (v := 1) hx hb dX0_mix_253 (by decide) ?_
      refine lv_bipush (v := 6) hx hb dX0_mix_254 (by decide) ?_
      refine lv_bipush (v := 11) hx hb dX0_mix_256 (by decide) ?_
      refine lv_bipush (v := 12) hx hb dX0_mix_258 (by decide) ?_
      refine lv_iload_n hx hb dX0_mix_260 rfl (lv_at hl 0 rfl) ?_
      refine lv_bipush (v := 10) hx hb dX0_mix_261 (by decide) ?_
      refine lv_iadd hx hb dX0_mix_263 ?_
      refine kd_cv (rest := []) S (metX0_four l D o a1 a2 a3 a4 a5 a6 a7 cB cI rd ph ky bg hh mm (kd_G (kd_G (kd_G (kd_G (kd_G (kd_rs mm v0 i) 0 4 8 12 (kd_px mm (16 * i)) (kd_px mm (16 * i + 1))) 1 5 9 13 (kd_px mm (16 * i + 2)) (kd_px mm (16 * i + 3))) 2 6 10 14 (kd_px mm (16 * i + 4)) (kd_px mm (16 * i + 5))) 3 7 11 15 (kd_px mm (16 * i + 6)) (kd_px mm (16 * i + 7))) 0 5 10 15 (kd_px mm (16 * i + 8)) (kd_px mm (16 * i + 9))) bk fl mx dg ct H.size 1 6 11 12 ((nI (16 * i)) + 10) 1 6 11 12 (16 * i + 10) (kd_ix_n (j := 1) (by omega) (by omega)) (kd_ix_n (j := 6) (by omega) (by omega)) (kd_ix_n (j := 11) (by omega) (by omega)) (kd_ix_n (j := 12) (by omega) (by omega)) (nI_add (16 * i) 10) (by omega)) (cwV 5 hts (lw_V q113 q115 qs3 q9 q116) rfl rfl rfl (by decide +kernel) hR) hK hP hD hS hA (x_rec hK hP) rfl hl.1 rfl (Nat.le_of_ble_eq_true rfl) dX0_mix_264 ⟨Nat.zero_le _, Nat.zero_le _⟩ (fun w H locs hw hP hD hS => ?_)
      subst hw
      refine lv_aload_n hx hb dX0_mix_267 rfl (lv_at hl 1 rfl) ?_
      refine lv_iconst (v := 2) hx hb dX0_mix_268 (by decide) ?_
      refine lv_bipush (v := 7) hx hb dX0_mix_269 (by decide) ?_
      refine lv_bipush (v := 8) hx hb dX0_mix_271 (by decide) ?_
      refine lv_bipush (v := 13) hx hb dX0_mix_273 (by decide) ?_
      refine lv_iload_n hx hb dX0_mix_275 rfl (lv_at hl 0 rfl) ?_
      refine lv_bipush (v := 12) hx hb dX0_mix_276 (by decide) ?_
      refine lv_iadd hx hb dX0_mix_278 ?_
      refine kd_cv (rest := []) S (metX0_four l D o a1 a2 a3 a4 a5 a6 a7 cB cI rd ph ky bg hh mm (kd_G (kd_G (kd_G (kd_G (kd_G (kd_G (kd_rs mm v0 i) 0 4 8 12 (kd_px mm (16 * i)) (kd_px mm (16 * i + 1))) 1 5 9 13 (kd_px mm (16 * i + 2)) (kd_px mm (16 * i + 3))) 2 6 10 14 (kd_px mm (16 * i + 4)) (kd_px mm (16 * i + 5))) 3 7 11 15 (kd_px mm (16 * i + 6)) (kd_px mm (16 * i + 7))) 0 5 10 15 (kd_px mm (16 * i + 8)) (kd_px mm (16 * i + 9))) 1 6 11 12 (kd_px mm (16 * i + 10)) (kd_px mm (16 * i + 11))) bk fl mx dg ct H.size 2 7 8 13 ((nI (16 * i)) + 12) 2 7 8 13 (16 * i + 12) (kd_ix_n (j := 2) (by omega) (by omega)) (kd_ix_n (j := 7) (by omega) (by omega)) (kd_ix_n (j := 8) (by omega) (by omega)) (kd_ix_n (j := 13) (by omega) (by omega)) (nI_add (16 * i) 12) (by omega)) (cwV 5 hts (lw_V q113 q115 qs3 q9 q116) rfl rfl rfl (by decide +kernel) hR) hK hP hD hS hA (x_rec hK hP) rfl hl.1 rfl (Nat.le_of_ble_eq_true rfl) dX0_mix_279 ⟨Nat.zero_le _, Nat.zero_le _⟩ (fun w H locs hw hP hD hS => ?_)
      subst hw
      refine lv_aload_n hx hb dX0_mix_282 rfl (lv_at hl 1 rfl) ?_
      refine lv_iconst (v := 3) hx hb dX0_mix_283 (by decide) ?_
      refine lv_iconst (v := 4) hx hb dX0_mix_284 (by decide) ?_
      refine lv_bipush (v := 9) hx hb dX0_mix_285 (by decide) ?_
      refine lv_bipush (v := 14) hx hb dX0_mix_287 (by decide) ?_
      refine lv_iload_n hx hb dX0_mix_289 rfl (lv_at hl 0 rfl) ?_
      refine lv_bipush (v := 14) hx hb dX0_mix_290 (by decide) ?_
      refine lv_iadd hx hb dX0_mix_292 ?_
      refine kd_cv (rest := []) S (metX0_four l D o a1 a2 a3 a4 a5 a6 a7 cB cI rd ph ky bg hh mm (kd_G (kd_G (kd_G (kd_G (kd_G (kd_G (kd_G (kd_rs mm v0 i) 0 4 8 12 (kd_px mm (16 * i)) (kd_px mm (16 * i + 1))) 1 5 9 13 (kd_px mm (16 * i + 2)) (kd_px mm (16 * i + 3))) 2 6 10 14 (kd_px mm (16 * i + 4)) (kd_px mm (16 * i + 5))) 3 7 11 15 (kd_px mm (16 * i + 6)) (kd_px mm (16 * i + 7))) 0 5 10 15 (kd_px mm (16 * i + 8)) (kd_px mm (16 * i + 9))) 1 6 11 12 (kd_px mm (16 * i + 10)) (kd_px mm (16 * i + 11))) 2 7 8 13 (kd_px mm (16 * i + 12)) (kd_px mm (16 * i + 13))) bk fl mx dg ct H.size 3 4 9 14 ((nI (16 * i)) + 14) 3 4 9 14 (16 * i + 14) (kd_ix_n (j := 3) (by omega) (by omega)) (kd_ix_n (j := 4) (by omega) (by omega)) (kd_ix_n (j := 9) (by omega) (by omega)) (kd_ix_n (j := 14) (by omega) (by omega)) (nI_add (16 * i) 14) (by omega)) (cwV 5 hts (lw_V q113 q115 qs3 q9 q116) rfl rfl rfl (by decide +kernel) hR) hK hP hD hS hA (x_rec hK hP) rfl hl.1 rfl (Nat.le_of_ble_eq_true rfl) dX0_mix_293 ⟨Nat.zero_le _, Nat.zero_le _⟩ (fun w H locs hw hP hD hS => ?_)
      subst hw
      refine lv_iinc (v := nI (16 * (i + 1))) (lv' := [(2, .int (nI (16 * (i + 1)))), (0, .ref o), (1, .int last)]) hx hb dX0_mix_296 hl (k := 0) rfl (nI_add (16 * i) 16) (by decide) rfl (fun ls hl => ?_)
      refine lv_goto (tgt := 178) hx hb dX0_mix_299 (by decide) ?_
      exact ih (i + 1) (by omega) H locs ls hP hD hS hl
set_option maxHeartbeats 4000000 in
theorem kd_Xm4  (S : CallFix p m c cX0_mix 3 s args lw_all RX0) (hK : va_K D vwCl (tyL cB cI) s)
    (kx : ∀ (H : Heap) (locs : List Loc) (ls : Array Slot), va_P D vwCl (xw o a1 a2 a3 a4 a5 a6 a7 cB cI rd ph ky pl bg (kd_xo hh vv) mm vv bk fl mx dg ct) H → va_D A (xw o a1 a2 a3 a4 a5 a6 a7 cB cI rd ph ky pl bg (kd_xo hh vv) mm vv bk fl mx dg ct) → va_S A H0 H locs → lv_has ls 3 [(2, .int (nI 8)), (0, .ref o), (1, .int last)] → W p l e R s m args below meth c H locs 0 0 Q (F0 m 341 ls [])) :
    ∀ (n i : Nat), i + n = 8 → ∀ (H : Heap) (locs : List Loc) (ls : Array Slot), va_P D vwCl (xw o a1 a2 a3 a4 a5 a6 a7 cB cI rd ph ky pl bg (kd_fill (kd_xo hh vv) hh i) mm vv bk fl mx dg ct) H → va_D A (xw o a1 a2 a3 a4 a5 a6 a7 cB cI rd ph ky pl bg (kd_fill (kd_xo hh vv) hh i) mm vv bk fl mx dg ct) → va_S A H0 H locs → lv_has ls 3 [(2, .int (nI i)), (0, .ref o), (1, .int last)] → W p l e R s m args below meth c H locs 0 0 Q (F0 m 304 ls []) := by
  have hx := S.1
  have hb := S.2.1
  have hown := S.2.2.2.1
  have hts := S.2.2.2.2
  intro n
  induction n with
  | zero =>
    intro i hi  H locs ls hP hD hS hl
    obtain rfl : i = 8 := by omega
    refine lv_iload_n hx hb dX0_mix_304 rfl (lv_at hl 0 rfl) ?_
    refine lv_bipush (v := 8) hx hb dX0_mix_305 (by decide) ?_
    refine lv_icmp_ge (tgt := 341) hx hb dX0_mix_307 (by decide) (fun hc => ?_) (fun hc => ?_)
    · have hP := xc_hh (g := kd_xo hh vv) hP (fun j hj => kd_fill_in hj)
      exact kx H locs ls hP (x_D hD) hS hl
    · exact absurd (by decide) hc
  | succ n ih =>
    intro i hi  H locs ls hP hD hS hl
    refine lv_iload_n hx hb dX0_mix_304 rfl (lv_at hl 0 rfl) ?_
    refine lv_bipush (v := 8) hx hb dX0_mix_305 (by decide) ?_
    refine lv_icmp_ge (tgt := 341) hx hb dX0_mix_307 (by decide) (fun hc => ?_) (fun hc => ?_)
    · exact absurd hc (nI_ge (a := i) (b := 8) (by omega) (by omega))
    · refine lv_aload_n hx hb dX0_mix_310 rfl (lv_at hl 1 rfl) ?_
      refine xg_a4 S hK hP dX0_mix_311 ?_
      refine lv_iload_n hx hb dX0_mix_314 rfl (lv_at hl 0 rfl) ?_
      refine lv_dup2_11 hx hb dX0_mix_315 rfl rfl ?_
      refine xl_hh (j := i) S hK hP (kd_ix_n (by omega) (by omega)) dX0_mix_316 ?_
      refine lv_aload_n hx hb dX0_mix_317 rfl (lv_at hl 1 rfl) ?_
      refine xg_a6 S hK hP dX0_mix_318 ?_
      refine lv_iload_n hx hb dX0_mix_321 rfl (lv_at hl 0 rfl) ?_
      refine xl_vv (j := i) S hK hP (kd_ix_n (by omega) (by omega)) dX0_mix_322 ?_
      refine lv_aload_n hx hb dX0_mix_323 rfl (lv_at hl 1 rfl) ?_
      refine xg_a6 S hK hP dX0_mix_324 ?_
      refine lv_bipush (v := 8) hx hb dX0_mix_327 (by decide) ?_
      refine lv_iload_n hx hb dX0_mix_329 rfl (lv_at hl 0 rfl) ?_
      refine lv_iadd hx hb dX0_mix_330 ?_
      refine xl_vv (j := (8 + i)) S hK hP (kd_ix_e (nI_add 8 i) (by omega) (by omega)) dX0_mix_331 ?_
      refine lv_ixor hx hb dX0_mix_332 ?_
      refine lv_ixor hx hb dX0_mix_333 ?_
      refine xs_hh (j := i) (g := kd_fill (kd_xo hh vv) hh (i + 1)) S hK hP hD hS (kd_ix_n (by omega) (by omega)) (kd_fill_s (by rw [kd_fill_out (Nat.le_refl i)]; rfl)) dX0_mix_334 (fun H locs hP hD hS => ?_)
      refine lv_iinc (v := nI (i + 1)) (lv' := [(2, .int (nI (i + 1))), (0, .ref o), (1, .int last)]) hx hb dX0_mix_335 hl (k := 0) rfl (nI_1 i) (by decide) rfl (fun ls hl => ?_)
      refine lv_goto (tgt := 304) hx hb dX0_mix_338 (by decide) ?_
      exact ih (i + 1) (by omega) H locs ls hP hD hS hl
set_option maxHeartbeats 4000000 in
theorem kd_Xmt {WS : va_W → Prop} (hR : 2 + 1 ≤ R.frames ∧ 8 + (6 + 11) + 48 ≤ R.locals) (hw : ∀ mm1 vv1 : Nat → Int32, WS (xw o a1 a2 a3 a4 a5 a6 a7 cB cI rd ph ky kd_tbl bg (kd_xo hh (kd_rs mm v0 10)) mm1 vv1 bk fl mx dg ct)) (S : CallFix p m c cX0_mix 3 s args lw_all RX0) (hr : meth.sig.returnType = none) (hlk : meth.locks = false) (hA : ∀ q, s.heap.size ≤ q → A q) (hK : va_K D vwCl (tyL cB cI) s) :
    ∀ (H : Heap) (locs : List Loc) (ls : Array Slot), va_P D vwCl (xw o a1 a2 a3 a4 a5 a6 a7 cB cI rd ph ky kd_tbl bg hh mm v0 bk fl mx dg ct) H → va_D A (xw o a1 a2 a3 a4 a5 a6 a7 cB cI rd ph ky kd_tbl bg hh mm v0 bk fl mx dg ct) → va_S A s.heap H locs → lv_has ls 3 [(2, .int (nI 8)), (0, .ref o), (1, .int last)] → W p l e R s m args below meth c H locs 0 0 (MQ below (kd_QV D (tyL cB cI) A WS) args s 0 0 A) (F0 m 176 ls []) := by
  have hx := S.1
  have hb := S.2.1
  have hown := S.2.2.2.1
  have hts := S.2.2.2.2
  intro  H locs ls hP hD hS hl
  refine lv_iconst (v := 0) hx hb dX0_mix_176 (by decide) ?_
  refine lv_istore_n (lv' := [(2, .int 0), (0, .ref o), (1, .int last)]) hx hb dX0_mix_177 rfl hl (by decide) rfl (fun ls hl => ?_)
  refine kd_Xm3 (v0 := v0) hR hA S hK ?_ 10 0 rfl _ _ _ hP hD hS hl
  intro H locs ls hP hD hS hl
  refine lv_iconst (v := 0) hx hb dX0_mix_302 (by decide) ?_
  refine lv_istore_n (lv' := [(2, .int 0), (0, .ref o), (1, .int last)]) hx hb dX0_mix_303 rfl hl (by decide) rfl (fun ls hl => ?_)
  refine kd_Xm4 (hh := hh) S hK ?_ 8 0 rfl _ _ _ (by rw [kd_fill_0]; exact hP) (by rw [kd_fill_0]; exact hD) hS hl
  intro H locs ls hP hD hS hl
  exact kd_vend S hr hlk hK hP hD hS (hw _ _) dX0_mix_341
end XMIX
set_option maxHeartbeats 4000000 in
/-- mix(last) -/
theorem metX0_mix (l : Launch) (D : va_G) (o a1 a2 a3 a4 a5 a6 a7 : Nat) (cB cI : ClassId) (rd ph : Int32) (ky pl bg hh mm vv b0 : Nat → Int32) (fl : Int32) (mx : Int64) (dg : Int32) (ct : Int64) (sz : Nat) (last : Int32) (hpl : pl = kd_tbl) (hbg : bg = kd_iv) (hby : ∀ j, kd_by (b0 j)) : kd_MV l yX0_mix cX0_mix 3 ({ frames := 3, cells := 0, slots := 0, locals := 73 } : Room) [.ref o, .int last] D (tyL cB cI) (xw o a1 a2 a3 a4 a5 a6 a7 cB cI rd ph ky pl bg hh mm vv (kd_e b0) fl mx dg ct) sz (fun w => ∃ mm1 vv1 : Nat → Int32, w = (xw o a1 a2 a3 a4 a5 a6 a7 cB cI rd ph ky pl bg (kd_mx (kd_w b0) hh mx last) mm1 vv1 (kd_e b0) fl mx dg ct)) := by
  subst hpl hbg
  refine kd_mv (by decide) (Nat.le_of_ble_eq_true rfl) ?_
  intro p e s m below meth c ls A S hr hlk hnm hA hP hK hD hS hl
  have S : CallFix p m c cX0_mix 3 s _ lw_all RX0 := S
  have hl : lv_has ls 3 [(0, .ref o), (1, .int last)] := hl
  have hx := S.1
  have hb := S.2.1
  have hown := S.2.2.2.1
  have hts := S.2.2.2.2
  refine lv_iconst (v := 0) hx hb dX0_mix_0 (by decide) ?_
  refine lv_istore_n (lv' := [(2, .int 0), (0, .ref o), (1, .int last)]) hx hb dX0_mix_1 rfl hl (by decide) rfl (fun ls hl => ?_)
  refine kd_Xm1 (mm := mm) hby S hK ?_ 16 0 rfl _ _ _ (by rw [kd_fill_0]; exact hP) (by rw [kd_fill_0]; exact hD) hS hl
  intro H locs ls hP hD hS hl
  refine lv_iconst (v := 0) hx hb dX0_mix_82 (by decide) ?_
  refine lv_istore_n (lv' := [(2, .int 0), (0, .ref o), (1, .int last)]) hx hb dX0_mix_83 rfl hl (by decide) rfl (fun ls hl => ?_)
  refine kd_Xm2 (vv := vv) S hK ?_ 8 0 rfl _ _ _ (by rw [kd_vf_0]; exact hP) (by rw [kd_vf_0]; exact hD) hS hl
  intro H locs ls hP hD hS hl
  refine lv_aload_n hx hb dX0_mix_123 rfl (lv_at hl 1 rfl) ?_
  refine xg_a6 S hK hP dX0_mix_124 ?_
  refine lv_bipush (v := 12) hx hb dX0_mix_127 (by decide) ?_
  refine lv_dup2_11 hx hb dX0_mix_129 rfl rfl ?_
  refine xl_vv (j := 12) S hK hP (kd_ix_n (j := 12) (by omega) (by omega)) dX0_mix_130 ?_
  refine lv_aload_n hx hb dX0_mix_131 rfl (lv_at hl 1 rfl) ?_
  refine xg_mx S hK hP dX0_mix_132 ?_
  refine lv_l2i hx hb dX0_mix_135 rfl ?_
  refine lv_ixor hx hb dX0_mix_136 ?_
  refine xs_vv (j := 12) (g := kd_x12 (kd_vs hh) mx) S hK hP hD hS (kd_ix_n (j := 12) (by omega) (by omega)) rfl dX0_mix_137 (fun H locs hP hD hS => ?_)
  refine lv_aload_n hx hb dX0_mix_138 rfl (lv_at hl 1 rfl) ?_
  refine xg_a6 S hK hP dX0_mix_139 ?_
  refine lv_bipush (v := 13) hx hb dX0_mix_142 (by decide) ?_
  refine lv_dup2_11 hx hb dX0_mix_144 rfl rfl ?_
  refine xl_vv (j := 13) S hK hP (kd_ix_n (j := 13) (by omega) (by omega)) dX0_mix_145 ?_
  refine lv_aload_n hx hb dX0_mix_146 rfl (lv_at hl 1 rfl) ?_
  refine xg_mx S hK hP dX0_mix_147 ?_
  refine lv_bipush (v := 32) hx hb dX0_mix_150 (by decide) ?_
  refine lv_lushr hx hb dX0_mix_152 rfl ?_
  refine lv_l2i hx hb dX0_mix_153 rfl ?_
  refine lv_ixor hx hb dX0_mix_154 ?_
  refine xs_vv (j := 13) (g := kd_x13 (kd_x12 (kd_vs hh) mx) mx) S hK hP hD hS (kd_ix_n (j := 13) (by omega) (by omega)) rfl dX0_mix_155 (fun H locs hP hD hS => ?_)
  refine lv_iload_n hx hb dX0_mix_156 rfl (lv_at hl 2 rfl) ?_
  refine lv_if_eq (tgt := 176) hx hb dX0_mix_157 (by decide) (fun hz => ?_) (fun hz => ?_)
  · rw [← kd_v0_0 hh mx hz] at hP hD
    exact kd_Xmt ⟨Nat.le_of_ble_eq_true rfl, Nat.le_of_ble_eq_true rfl⟩ (fun _ _ => ⟨_, _, rfl⟩) S hr hlk hA hK H locs ls hP hD hS hl
  · refine lv_aload_n hx hb dX0_mix_160 rfl (lv_at hl 1 rfl) ?_
    refine xg_a6 S hK hP dX0_mix_161 ?_
    refine lv_bipush (v := 14) hx hb dX0_mix_164 (by decide) ?_
    refine lv_aload_n hx hb dX0_mix_166 rfl (lv_at hl 1 rfl) ?_
    refine xg_a6 S hK hP dX0_mix_167 ?_
    refine lv_bipush (v := 14) hx hb dX0_mix_170 (by decide) ?_
    refine xl_vv (j := 14) S hK hP (kd_ix_n (j := 14) (by omega) (by omega)) dX0_mix_172 ?_
    refine lv_iconst (v := (-1)) hx hb dX0_mix_173 (by decide) ?_
    refine lv_ixor hx hb dX0_mix_174 ?_
    refine xs_vv (j := 14) (g := kd_v0 hh mx last) S hK hP hD hS (kd_ix_n (j := 14) (by omega) (by omega)) ((kd_v0_1 hh mx hz).symm) dX0_mix_175 (fun H locs hP hD hS => ?_)
    exact kd_Xmt ⟨Nat.le_of_ble_eq_true rfl, Nat.le_of_ble_eq_true rfl⟩ (fun _ _ => ⟨_, _, rfl⟩) S hr hlk hA hK H locs ls hP hD hS hl
end
section
/-! pure rows for the methods of messages -/
set_option maxRecDepth 100000
theorem kd_st1 (b0 : Nat → Int32) (k : Nat) (b : Int32) : upd (kd_e b0) k (b.toInt8.toInt32.toInt8.toInt32) = kd_e (upd b0 k b) := by
  rw [show b.toInt8.toInt32.toInt8.toInt32 = kd_sx b from pk_vb b]
  exact kd_e_upd b0 k b
theorem kd_e_pad1 (bk : Nat → Int32) {f k : Nat} (h : f ≤ k) : upd (kd_e (kd_pad bk f k)) k ((0 : Int32).toInt8.toInt32) = kd_e (kd_pad bk f (k + 1)) := by
  rw [show (0 : Int32).toInt8.toInt32 = 0 by decide]
  exact kd_e_pad bk h
theorem kd_n1 {n : Int32} (h : ¬ n < 1) : ¬ n < 0 := by
  intro q
  apply h
  rw [Int32.lt_iff_toInt_lt] at q ⊢
  have e1 : (1 : Int32).toInt = 1 := by decide
  have e0 : (0 : Int32).toInt = 0 := by decide
  omega
/-- a number between, as a count -/
theorem kd_cnt {n : Int32} {M : Nat} (hM : M < 2 ^ 31) (h0 : ¬ n < 0) (h : n ≤ nI M) : ∃ N : Nat, N ≤ M ∧ n = nI N := by
  obtain ⟨j, hj, rfl⟩ := nI_of h0
  exact ⟨j, (nI_leI hj hM).mp h, rfl⟩
theorem kd_sel_1 (a b c d : Int32) {i : Nat} (h : i < 4) : kd_sel a b c d i = a := if_pos h
theorem kd_sel_2 (a b c d : Int32) {i : Nat} (h1 : 4 ≤ i) (h : i < 8) : kd_sel a b c d i = b := by
  unfold kd_sel
  rw [if_neg (by omega), if_pos h]
theorem kd_sel_3 (a b c d : Int32) {i : Nat} (h1 : 8 ≤ i) (h : i < 12) : kd_sel a b c d i = c := by
  unfold kd_sel
  rw [if_neg (by omega), if_neg (by omega), if_pos h]
theorem kd_sel_4 (a b c d : Int32) {i : Nat} (h1 : 12 ≤ i) : kd_sel a b c d i = d := by
  unfold kd_sel
  rw [if_neg (by omega), if_neg (by omega), if_neg (by omega)]
theorem kd_ct (ct : Int64) (i : Nat) : ct + lN i + 1 = ct + lN (i + 1) := by rw [Int64.add_assoc, lN_1]
theorem kd_ct0 (ct : Int64) : ct + lN 0 = ct := Int64.add_zero ct
theorem kd_nlt {i M : Nat} (hM : M < 2 ^ 31) (hi : i < 2 ^ 31) (h : ¬ nI M ≤ nI i) : i < M := by
  rcases Nat.lt_or_ge i M with q | q
  · exact q
  · exact absurd (nI_le q hi) h
abbrev kd_cu (ph b : Int32) : Prop := ph = 1 ∧ ¬ b < 0 ∧ ¬ 256 ≤ b
abbrev kd_cus (ph n : Int32) : Prop := ph = 1 ∧ ¬ n < 1 ∧ n ≤ 16
abbrev kd_cf (ph b n : Int32) : Prop := ph = 1 ∧ (¬ b < 0 ∧ ¬ 256 ≤ b) ∧ ¬ n < 0 ∧ n ≤ 10000
abbrev kd_ck (ph i b : Int32) : Prop := ¬ i < 0 ∧ ¬ 32 ≤ i ∧ (¬ b < 0 ∧ ¬ 256 ≤ b) ∧ ¬ ph = 1
abbrev kd_cst (rd nn kk : Int32) : Prop := ¬ rd = 0 ∧ ¬ nn < 1 ∧ ¬ 32 < nn ∧ ¬ kk < 0 ∧ kk ≤ 32
end
section
set_option maxRecDepth 100000
section XTAKE
variable {p : Program} {l : Launch} {e : Env} {R : Room} {s : State} {m : MethodId} {args : Array Value} {below : List Frame} {meth : Method} {c : Code} {Q : State → Prop} {D : va_G} {A : Nat → Prop} {H0 : Heap}
variable {o a1 a2 a3 a4 a5 a6 a7 : Nat} {cB cI : ClassId} {rd ph fl dg : Int32} {ky pl bg hh mm vv bk : Nat → Int32} {mx ct : Int64}
variable {b0 : Nat → Int32} {f : Nat} {b : Int32}
set_option maxHeartbeats 4000000 in
theorem kd_Xtt {WS : va_W → Prop} (hf : f < 64) (hw : WS (xw o a1 a2 a3 a4 a5 a6 a7 cB cI rd ph ky pl bg hh mm vv (kd_e (upd b0 f b)) (nI (f + 1)) mx dg (ct + 1))) (S : CallFix p m c cX0_take 2 s args lw_all RX0) (hr : meth.sig.returnType = none) (hlk : meth.locks = false) (hA : ∀ q, s.heap.size ≤ q → A q) (hK : va_K D vwCl (tyL cB cI) s) :
    ∀ (H : Heap) (locs : List Loc) (ls : Array Slot), va_P D vwCl (xw o a1 a2 a3 a4 a5 a6 a7 cB cI rd ph ky pl bg hh mm vv (kd_e b0) (nI f) mx dg ct) H → va_D A (xw o a1 a2 a3 a4 a5 a6 a7 cB cI rd ph ky pl bg hh mm vv (kd_e b0) (nI f) mx dg ct) → va_S A s.heap H locs → lv_has ls 2 [(0, .ref o), (1, .int b)] → W p l e R s m args below meth c H locs 0 0 (MQ below (kd_QV D (tyL cB cI) A WS) args s 0 0 A) (F0 m 31 ls []) := by
  have hx := S.1
  have hb := S.2.1
  have hown := S.2.2.2.1
  have hts := S.2.2.2.2
  intro  H locs ls hP hD hS hl
  refine lv_aload_n hx hb dX0_take_31 rfl (lv_at hl 0 rfl) ?_
  refine xg_a7 S hK hP dX0_take_32 ?_
  refine lv_aload_n hx hb dX0_take_35 rfl (lv_at hl 0 rfl) ?_
  refine xg_fl S hK hP dX0_take_36 ?_
  refine lv_iload_n hx hb dX0_take_39 rfl (lv_at hl 1 rfl) ?_
  refine lv_i2b hx hb dX0_take_40 rfl ?_
  refine xs_bk (j := f) (g := kd_e (upd b0 f b)) S hK hP hD hS (kd_ix_n (by omega) (by omega)) (kd_st1 b0 f b) dX0_take_41 (fun H locs hP hD hS => ?_)
  refine lv_aload_n hx hb dX0_take_42 rfl (lv_at hl 0 rfl) ?_
  refine lv_dup hx hb dX0_take_43 rfl ?_
  refine xg_fl S hK hP dX0_take_44 ?_
  refine lv_iconst (v := 1) hx hb dX0_take_47 (by decide) ?_
  refine lv_iadd hx hb dX0_take_48 ?_
  refine xp_fl (x := (nI f) + 1) S hK hP hD hS dX0_take_49 (fun H locs hP hD hS => ?_)
  rw [nI_1] at hP hD
  refine lv_aload_n hx hb dX0_take_52 rfl (lv_at hl 0 rfl) ?_
  refine lv_dup hx hb dX0_take_53 rfl ?_
  refine xg_ct S hK hP dX0_take_54 ?_
  refine lv_lconst (v := 1) hx hb dX0_take_57 (by decide) ?_
  refine lv_ladd hx hb dX0_take_58 ?_
  refine xp_ct (x := ct + 1) S hK hP hD hS dX0_take_59 (fun H locs hP hD hS => ?_)
  exact kd_vend S hr hlk hK hP hD hS hw dX0_take_62
end XTAKE
set_option maxHeartbeats 4000000 in
/-- take(b) -/
theorem metX0_take (l : Launch) (D : va_G) (o a1 a2 a3 a4 a5 a6 a7 : Nat) (cB cI : ClassId) (rd ph : Int32) (ky pl bg mm vv : Nat → Int32) (K : kd_C) (dg : Int32) (ct : Int64) (sz : Nat) (b : Int32) (hpl : pl = kd_tbl) (hbg : bg = kd_iv) (hok : kd_ok K) : kd_MV l yX0_take cX0_take 2 ({ frames := 4, cells := 0, slots := 0, locals := 95 } : Room) [.ref o, .int b] D (tyL cB cI) (xw o a1 a2 a3 a4 a5 a6 a7 cB cI rd ph ky pl bg K.1 mm vv (kd_e K.2.1) (nI K.2.2.1) K.2.2.2 dg ct) sz (fun w => ∃ mm1 vv1 : Nat → Int32, w = (xw o a1 a2 a3 a4 a5 a6 a7 cB cI rd ph ky pl bg ((kd_tk K b).1) mm1 vv1 (kd_e (kd_tk K b).2.1) (nI (kd_tk K b).2.2.1) ((kd_tk K b).2.2.2) dg (ct + 1))) := by
  subst hpl hbg
  obtain ⟨hh, b0, f, mx⟩ := K
  obtain ⟨hf, hby⟩ := hok
  have hf : f ≤ 64 := hf
  have hby : ∀ j, kd_by (b0 j) := hby
  refine kd_mv (by decide) (Nat.le_of_ble_eq_true rfl) ?_
  intro p e s m below meth c ls A S hr hlk hnm hA hP hK hD hS hl
  have S : CallFix p m c cX0_take 2 s _ lw_all RX0 := S
  have hl : lv_has ls 2 [(0, .ref o), (1, .int b)] := hl
  have hx := S.1
  have hb := S.2.1
  have hown := S.2.2.2.1
  have hts := S.2.2.2.2
  have hP : va_P D vwCl (xw o a1 a2 a3 a4 a5 a6 a7 cB cI rd ph ky kd_tbl kd_iv hh mm vv (kd_e b0) (nI f) mx dg ct) s.heap := hP
  have hD : va_D A (xw o a1 a2 a3 a4 a5 a6 a7 cB cI rd ph ky kd_tbl kd_iv hh mm vv (kd_e b0) (nI f) mx dg ct) := hD
  refine lv_aload_n hx hb dX0_take_0 rfl (lv_at hl 0 rfl) ?_
  refine xg_fl S hK hP dX0_take_1 ?_
  refine lv_bipush (v := 64) hx hb dX0_take_4 (by decide) ?_
  refine lv_icmp_ne (tgt := 31) hx hb dX0_take_6 (by decide) (fun hc => ?_) (fun hc => ?_)
  · have h64 : ¬ f = 64 := fun q => hc ((kd_64 hf).mpr q)
    exact kd_Xtt (by omega) ⟨mm, vv, congrArg (fun K : kd_C => (xw o a1 a2 a3 a4 a5 a6 a7 cB cI rd ph ky kd_tbl kd_iv K.1 (mm) (vv) (kd_e K.2.1) (nI K.2.2.1) K.2.2.2 dg (ct + 1))) (kd_tk_0 h64 b).symm⟩ S hr hlk hA hK _ _ ls hP hD hS hl
  · have h64 : f = 64 := (kd_64 hf).mp hc
    refine lv_aload_n hx hb dX0_take_9 rfl (lv_at hl 0 rfl) ?_
    refine lv_dup hx hb dX0_take_10 rfl ?_
    refine xg_mx S hK hP dX0_take_11 ?_
    refine lv_ldc2 hx hb hown (hts _ q108) dX0_take_14 ?_
    refine lv_ladd hx hb dX0_take_17 ?_
    refine xp_mx (x := mx + 64) S hK hP hD hS dX0_take_18 (fun H locs hP hD hS => ?_)
    refine lv_aload_n hx hb dX0_take_21 rfl (lv_at hl 0 rfl) ?_
    refine lv_iconst (v := 0) hx hb dX0_take_22 (by decide) ?_
    refine kd_cv (rest := []) S (metX0_mix l D o a1 a2 a3 a4 a5 a6 a7 cB cI rd ph ky kd_tbl kd_iv hh mm vv b0 (nI f) (mx + 64) dg ct H.size 0 rfl rfl hby) (cwV 1 hts (lw_V q109 q111 qs2 q9 q112) rfl rfl rfl (by decide +kernel) ⟨Nat.le_of_ble_eq_true rfl, Nat.le_of_ble_eq_true rfl⟩) hK hP hD hS hA (x_rec hK hP) rfl hl.1 rfl (Nat.le_of_ble_eq_true rfl) dX0_take_23 ⟨Nat.zero_le _, Nat.zero_le _⟩ (fun w H locs hw hP hD hS => ?_)
    obtain ⟨mm1, vv1, rfl⟩ := hw
    refine lv_aload_n hx hb dX0_take_26 rfl (lv_at hl 0 rfl) ?_
    refine lv_iconst (v := 0) hx hb dX0_take_27 (by decide) ?_
    refine xp_fl (x := 0) S hK hP hD hS dX0_take_28 (fun H locs hP hD hS => ?_)
    exact kd_Xtt (f := 0) (by omega) ⟨mm1, vv1, congrArg (fun K : kd_C => (xw o a1 a2 a3 a4 a5 a6 a7 cB cI rd ph ky kd_tbl kd_iv K.1 (mm1) (vv1) (kd_e K.2.1) (nI K.2.2.1) K.2.2.2 dg (ct + 1))) (kd_tk_1 h64 b).symm⟩ S hr hlk hA hK _ _ ls hP hD hS hl
set_option maxHeartbeats 4000000 in
/-- update(b) -/
theorem metX0_update (l : Launch) (D : va_G) (o a1 a2 a3 a4 a5 a6 a7 : Nat) (cB cI : ClassId) (rd ph : Int32) (ky pl bg mm vv : Nat → Int32) (K : kd_C) (dg : Int32) (ct : Int64) (sz : Nat) (b : Int32) (hpb : ph = 1 → pl = kd_tbl ∧ bg = kd_iv) (hok : kd_ok K) : kd_MI l yX0_update cX0_update 2 .boolean ({ frames := 5, cells := 0, slots := 0, locals := 116 } : Room) [.ref o, .int b] D (tyL cB cI) (xw o a1 a2 a3 a4 a5 a6 a7 cB cI rd ph ky pl bg K.1 mm vv (kd_e K.2.1) (nI K.2.2.1) K.2.2.2 dg ct) sz (fun r w => (kd_cu ph b ∧ r = 1 ∧ ∃ mm1 vv1 : Nat → Int32, w = (xw o a1 a2 a3 a4 a5 a6 a7 cB cI rd ph ky pl bg ((kd_tk K b).1) mm1 vv1 (kd_e (kd_tk K b).2.1) (nI (kd_tk K b).2.2.1) ((kd_tk K b).2.2.2) dg (ct + 1))) ∨ (¬ kd_cu ph b ∧ r = 0 ∧ ∃ mm1 vv1 : Nat → Int32, w = (xw o a1 a2 a3 a4 a5 a6 a7 cB cI rd ph ky pl bg K.1 mm1 vv1 (kd_e K.2.1) (nI K.2.2.1) K.2.2.2 dg ct))) := by
  refine kd_mi (by decide) (Nat.le_of_ble_eq_true rfl) ?_
  intro p e s m below meth c ls A S hr hlk hA hP hK hD hS hl
  have S : CallFix p m c cX0_update 2 s _ lw_all RX0 := S
  have hl : lv_has ls 2 [(0, .ref o), (1, .int b)] := hl
  have hx := S.1
  have hb := S.2.1
  have hown := S.2.2.2.1
  have hts := S.2.2.2.2
  refine lv_aload_n hx hb dX0_update_0 rfl (lv_at hl 0 rfl) ?_
  refine xg_ph S hK hP dX0_update_1 ?_
  refine lv_iconst (v := 1) hx hb dX0_update_4 (by decide) ?_
  refine lv_icmp_ne (tgt := 15) hx hb dX0_update_5 (by decide) (fun h1 => ?_) (fun h1 => ?_)
  · refine lv_iconst (v := 0) hx hb dX0_update_15 (by decide) ?_
    exact kd_iend S hr rfl hlk hK hP hD hS (Or.inr ⟨fun q => h1 q.1, rfl, mm, vv, rfl⟩) dX0_update_16
  · refine lv_iload_n hx hb dX0_update_8 rfl (lv_at hl 1 rfl) ?_
    refine kd_cs (rest := []) S (metX0_isByte l b) (va_cwS 1 hts (lw_S q92 q93 q9 q94) rfl rfl rfl (by decide +kernel) ⟨Nat.le_of_ble_eq_true rfl, Nat.le_of_ble_eq_true rfl⟩) rfl hl.1 rfl (Nat.le_of_ble_eq_true rfl) dX0_update_9 ⟨Nat.zero_le _, Nat.zero_le _⟩ ?_
    refine lv_if_ne (tgt := 17) hx hb dX0_update_12 (by decide) (fun h2 => ?_) (fun h2 => ?_)
    · have h3 := kd_ib_1 h2
      refine lv_aload_n hx hb dX0_update_17 rfl (lv_at hl 0 rfl) ?_
      refine lv_iload_n hx hb dX0_update_18 rfl (lv_at hl 1 rfl) ?_
      refine kd_cv (rest := []) S (metX0_take l D o a1 a2 a3 a4 a5 a6 a7 cB cI rd ph ky pl bg mm vv K dg ct _ b (hpb h1).1 (hpb h1).2 hok) (cwV 1 hts (lw_V q104 q106 qs1 q9 q107) rfl rfl rfl (by decide +kernel) ⟨Nat.le_of_ble_eq_true rfl, Nat.le_of_ble_eq_true rfl⟩) hK hP hD hS hA (x_rec hK hP) rfl hl.1 rfl (Nat.le_of_ble_eq_true rfl) dX0_update_19 ⟨Nat.zero_le _, Nat.zero_le _⟩ (fun w H locs hw hP hD hS => ?_)
      obtain ⟨mm1, vv1, rfl⟩ := hw
      refine lv_iconst (v := 1) hx hb dX0_update_22 (by decide) ?_
      exact kd_iend S hr rfl hlk hK hP hD hS (Or.inl ⟨⟨h1, h3⟩, rfl, mm1, vv1, rfl⟩) dX0_update_23
    · refine lv_iconst (v := 0) hx hb dX0_update_15 (by decide) ?_
      exact kd_iend S hr rfl hlk hK hP hD hS (Or.inr ⟨fun q => kd_ib_0 h2 q.2, rfl, mm, vv, rfl⟩) dX0_update_16
section XUPS
variable {p : Program} {l : Launch} {e : Env} {R : Room} {s : State} {m : MethodId} {args : Array Value} {below : List Frame} {meth : Method} {c : Code} {Q : State → Prop} {D : va_G} {A : Nat → Prop} {H0 : Heap}
variable {o a1 a2 a3 a4 a5 a6 a7 : Nat} {cB cI : ClassId} {rd ph fl dg : Int32} {ky pl bg hh mm vv bk : Nat → Int32} {mx ct : Int64}
variable {K : kd_C} {ia ib ic id x : Int32} {N : Nat}
set_option maxHeartbeats 4000000 in
theorem kd_Xus67 (hR : 4 + 1 ≤ R.frames ∧ 8 + (2 + 11) + 95 ≤ R.locals) (hA : ∀ q, H0.size ≤ q → A q) (hpl : pl = kd_tbl) (hbg : bg = kd_iv) (hok : kd_ok K) (i : Nat) (S : CallFix p m c cX0_updates 8 s args lw_all RX0) (hK : va_K D vwCl (tyL cB cI) s)
    (kx : ∀ (mm1 vv1 : Nat → Int32) (H : Heap) (locs : List Loc) (ls : Array Slot), va_P D vwCl (xw o a1 a2 a3 a4 a5 a6 a7 cB cI rd ph ky pl bg ((kd_tk K ((x >>> ((24 - 8 * (nI i - nI i / 4 * 4)) &&& 31)) &&& 255)).1) mm1 vv1 (kd_e (kd_tk K ((x >>> ((24 - 8 * (nI i - nI i / 4 * 4)) &&& 31)) &&& 255)).2.1) (nI (kd_tk K ((x >>> ((24 - 8 * (nI i - nI i / 4 * 4)) &&& 31)) &&& 255)).2.2.1) ((kd_tk K ((x >>> ((24 - 8 * (nI i - nI i / 4 * 4)) &&& 31)) &&& 255)).2.2.2) dg (ct + 1)) H → va_D A (xw o a1 a2 a3 a4 a5 a6 a7 cB cI rd ph ky pl bg ((kd_tk K ((x >>> ((24 - 8 * (nI i - nI i / 4 * 4)) &&& 31)) &&& 255)).1) mm1 vv1 (kd_e (kd_tk K ((x >>> ((24 - 8 * (nI i - nI i / 4 * 4)) &&& 31)) &&& 255)).2.1) (nI (kd_tk K ((x >>> ((24 - 8 * (nI i - nI i / 4 * 4)) &&& 31)) &&& 255)).2.2.1) ((kd_tk K ((x >>> ((24 - 8 * (nI i - nI i / 4 * 4)) &&& 31)) &&& 255)).2.2.2) dg (ct + 1)) → va_S A H0 H locs → lv_has ls 8 [(6, .int (nI (i + 1))), (0, .ref o), (1, .int ia), (2, .int ib), (3, .int ic), (4, .int id), (5, .int (nI N))] → W p l e R s m args below meth c H locs 0 0 Q (F0 m 26 ls [])) :
    ∀ (H : Heap) (locs : List Loc) (ls : Array Slot), va_P D vwCl (xw o a1 a2 a3 a4 a5 a6 a7 cB cI rd ph ky pl bg K.1 mm vv (kd_e K.2.1) (nI K.2.2.1) K.2.2.2 dg ct) H → va_D A (xw o a1 a2 a3 a4 a5 a6 a7 cB cI rd ph ky pl bg K.1 mm vv (kd_e K.2.1) (nI K.2.2.1) K.2.2.2 dg ct) → va_S A H0 H locs → lv_has ls 8 [(6, .int (nI i)), (0, .ref o), (1, .int ia), (2, .int ib), (3, .int ic), (4, .int id), (5, .int (nI N))] → W p l e R s m args below meth c H locs 0 0 Q (F0 m 67 ls [.int x]) := by
  have hx := S.1
  have hb := S.2.1
  have hown := S.2.2.2.1
  have hts := S.2.2.2.2
  intro H locs ls hP hD hS hl
  refine lv_istore (lv' := [(7, .int x), (6, .int (nI i)), (0, .ref o), (1, .int ia), (2, .int ib), (3, .int ic), (4, .int id), (5, .int (nI N))]) hx hb dX0_updates_67 hl (by decide) rfl (fun ls hl => ?_)
  refine lv_aload_n hx hb dX0_updates_69 rfl (lv_at hl 2 rfl) ?_
  refine lv_iload hx hb dX0_updates_70 (lv_at hl 0 rfl) ?_
  refine lv_bipush (v := 24) hx hb dX0_updates_72 (by decide) ?_
  refine lv_bipush (v := 8) hx hb dX0_updates_74 (by decide) ?_
  refine lv_iload hx hb dX0_updates_76 (lv_at hl 1 rfl) ?_
  refine lv_iconst (v := 4) hx hb dX0_updates_78 (by decide) ?_
  refine lv_irem hx hb dX0_updates_79 (by decide) ?_
  refine lv_imul hx hb dX0_updates_80 ?_
  refine lv_isub hx hb dX0_updates_81 ?_
  refine lv_ishr hx hb dX0_updates_82 ?_
  refine lv_sipush (v := 255) hx hb dX0_updates_83 (by decide) ?_
  refine lv_iand hx hb dX0_updates_86 ?_
  refine kd_cv (rest := []) S (metX0_take l D o a1 a2 a3 a4 a5 a6 a7 cB cI rd ph ky pl bg mm vv K dg ct H.size ((x >>> ((24 - 8 * (nI i - nI i / 4 * 4)) &&& 31)) &&& 255) hpl hbg hok) (cwV 1 hts (lw_V q104 q106 qs1 q9 q107) rfl rfl rfl (by decide +kernel) hR) hK hP hD hS hA (x_rec hK hP) rfl hl.1 rfl (Nat.le_of_ble_eq_true rfl) dX0_updates_87 ⟨Nat.zero_le _, Nat.zero_le _⟩ (fun w H locs hw hP hD hS => ?_)
  obtain ⟨mm1, vv1, rfl⟩ := hw
  refine lv_iinc (v := nI (i + 1)) (lv' := [(6, .int (nI (i + 1))), (7, .int x), (0, .ref o), (1, .int ia), (2, .int ib), (3, .int ic), (4, .int id), (5, .int (nI N))]) hx hb dX0_updates_90 hl (k := 1) rfl (nI_1 i) (by decide) rfl (fun ls hl => ?_)
  refine lv_goto (tgt := 26) hx hb dX0_updates_93 (by decide) ?_
  exact kx mm1 vv1 H locs ls hP hD hS (lv_sub hl [0, 2, 3, 4, 5, 6, 7] rfl)
set_option maxHeartbeats 4000000 in
theorem kd_Xus (hR : 4 + 1 ≤ R.frames ∧ 8 + (2 + 11) + 95 ≤ R.locals) (hA : ∀ q, H0.size ≤ q → A q) (hpl : pl = kd_tbl) (hbg : bg = kd_iv) (hok : kd_ok K) (hN : N ≤ 16) (S : CallFix p m c cX0_updates 8 s args lw_all RX0) (hK : va_K D vwCl (tyL cB cI) s)
    (kx : ∀ (mm vv : Nat → Int32), ∀ (H : Heap) (locs : List Loc) (ls : Array Slot), va_P D vwCl (xw o a1 a2 a3 a4 a5 a6 a7 cB cI rd ph ky pl bg ((kd_tN K (kd_ub ia ib ic id) N).1) mm vv (kd_e (kd_tN K (kd_ub ia ib ic id) N).2.1) (nI (kd_tN K (kd_ub ia ib ic id) N).2.2.1) ((kd_tN K (kd_ub ia ib ic id) N).2.2.2) dg (ct + lN N)) H → va_D A (xw o a1 a2 a3 a4 a5 a6 a7 cB cI rd ph ky pl bg ((kd_tN K (kd_ub ia ib ic id) N).1) mm vv (kd_e (kd_tN K (kd_ub ia ib ic id) N).2.1) (nI (kd_tN K (kd_ub ia ib ic id) N).2.2.1) ((kd_tN K (kd_ub ia ib ic id) N).2.2.2) dg (ct + lN N)) → va_S A H0 H locs → lv_has ls 8 [(6, .int (nI N)), (0, .ref o), (1, .int ia), (2, .int ib), (3, .int ic), (4, .int id), (5, .int (nI N))] → W p l e R s m args below meth c H locs 0 0 Q (F0 m 96 ls [])) :
    ∀ (n i : Nat), i + n = N → ∀ (mm vv : Nat → Int32), ∀ (H : Heap) (locs : List Loc) (ls : Array Slot), va_P D vwCl (xw o a1 a2 a3 a4 a5 a6 a7 cB cI rd ph ky pl bg ((kd_tN K (kd_ub ia ib ic id) i).1) mm vv (kd_e (kd_tN K (kd_ub ia ib ic id) i).2.1) (nI (kd_tN K (kd_ub ia ib ic id) i).2.2.1) ((kd_tN K (kd_ub ia ib ic id) i).2.2.2) dg (ct + lN i)) H → va_D A (xw o a1 a2 a3 a4 a5 a6 a7 cB cI rd ph ky pl bg ((kd_tN K (kd_ub ia ib ic id) i).1) mm vv (kd_e (kd_tN K (kd_ub ia ib ic id) i).2.1) (nI (kd_tN K (kd_ub ia ib ic id) i).2.2.1) ((kd_tN K (kd_ub ia ib ic id) i).2.2.2) dg (ct + lN i)) → va_S A H0 H locs → lv_has ls 8 [(6, .int (nI i)), (0, .ref o), (1, .int ia), (2, .int ib), (3, .int ic), (4, .int id), (5, .int (nI N))] → W p l e R s m args below meth c H locs 0 0 Q (F0 m 26 ls []) := by
  have hx := S.1
  have hb := S.2.1
  have hown := S.2.2.2.1
  have hts := S.2.2.2.2
  intro n
  induction n with
  | zero =>
    intro i hi mm vv H locs ls hP hD hS hl
    obtain rfl : i = N := by omega
    refine lv_iload hx hb dX0_updates_26 (lv_at hl 0 rfl) ?_
    refine lv_iload hx hb dX0_updates_28 (lv_at hl 6 rfl) ?_
    refine lv_icmp_ge (tgt := 96) hx hb dX0_updates_30 (by decide) (fun hc => ?_) (fun hc => ?_)
    · exact kx mm vv H locs ls hP hD hS hl
    · exact absurd (nI_le (Nat.le_refl i) (by omega)) hc
  | succ n ih =>
    intro i hi mm vv H locs ls hP hD hS hl
    refine lv_iload hx hb dX0_updates_26 (lv_at hl 0 rfl) ?_
    refine lv_iload hx hb dX0_updates_28 (lv_at hl 6 rfl) ?_
    refine lv_icmp_ge (tgt := 96) hx hb dX0_updates_30 (by decide) (fun hc => ?_) (fun hc => ?_)
    · exact absurd hc (nI_ge (a := i) (b := N) (by omega) (by omega))
    · refine lv_iload hx hb dX0_updates_33 (lv_at hl 0 rfl) ?_
      refine lv_iconst (v := 4) hx hb dX0_updates_35 (by decide) ?_
      refine lv_icmp_ge (tgt := 43) hx hb dX0_updates_36 (by decide) (fun k1 => ?_) (fun k1 => ?_)
      · refine lv_iload hx hb dX0_updates_43 (lv_at hl 0 rfl) ?_
        refine lv_bipush (v := 8) hx hb dX0_updates_45 (by decide) ?_
        refine lv_icmp_ge (tgt := 54) hx hb dX0_updates_47 (by decide) (fun k2 => ?_) (fun k2 => ?_)
        · refine lv_iload hx hb dX0_updates_54 (lv_at hl 0 rfl) ?_
          refine lv_bipush (v := 12) hx hb dX0_updates_56 (by decide) ?_
          refine lv_icmp_ge (tgt := 65) hx hb dX0_updates_58 (by decide) (fun k3 => ?_) (fun k3 => ?_)
          · refine lv_iload hx hb dX0_updates_65 (lv_at hl 5 rfl) ?_
            refine W.eq (g2 := F0 m 67 ls [.int (kd_sel ia ib ic id i)]) (by rw [kd_sel_4 ia ib ic id ((nI_leI (a := 12) (by omega) (by omega)).mp k3)]) ?_
            exact kd_Xus67 hR hA hpl hbg (kd_tN_ok hok (kd_ub_by ia ib ic id) i) i S hK (fun mm1 vv1 H locs ls hP hD hS hl => ih (i + 1) (by omega) mm1 vv1 H locs ls (by rw [← kd_ct]; exact hP) (by rw [← kd_ct]; exact hD) hS hl) H locs ls hP hD hS hl
          · refine lv_iload_n hx hb dX0_updates_61 rfl (lv_at hl 4 rfl) ?_
            refine lv_goto (tgt := 67) hx hb dX0_updates_62 (by decide) ?_
            refine W.eq (g2 := F0 m 67 ls [.int (kd_sel ia ib ic id i)]) (by rw [kd_sel_3 ia ib ic id ((nI_leI (a := 8) (by omega) (by omega)).mp k2) (kd_nlt (M := 12) (by omega) (by omega) k3)]) ?_
            exact kd_Xus67 hR hA hpl hbg (kd_tN_ok hok (kd_ub_by ia ib ic id) i) i S hK (fun mm1 vv1 H locs ls hP hD hS hl => ih (i + 1) (by omega) mm1 vv1 H locs ls (by rw [← kd_ct]; exact hP) (by rw [← kd_ct]; exact hD) hS hl) H locs ls hP hD hS hl
        · refine lv_iload_n hx hb dX0_updates_50 rfl (lv_at hl 3 rfl) ?_
          refine lv_goto (tgt := 67) hx hb dX0_updates_51 (by decide) ?_
          refine W.eq (g2 := F0 m 67 ls [.int (kd_sel ia ib ic id i)]) (by rw [kd_sel_2 ia ib ic id ((nI_leI (a := 4) (by omega) (by omega)).mp k1) (kd_nlt (M := 8) (by omega) (by omega) k2)]) ?_
          exact kd_Xus67 hR hA hpl hbg (kd_tN_ok hok (kd_ub_by ia ib ic id) i) i S hK (fun mm1 vv1 H locs ls hP hD hS hl => ih (i + 1) (by omega) mm1 vv1 H locs ls (by rw [← kd_ct]; exact hP) (by rw [← kd_ct]; exact hD) hS hl) H locs ls hP hD hS hl
      · refine lv_iload_n hx hb dX0_updates_39 rfl (lv_at hl 2 rfl) ?_
        refine lv_goto (tgt := 67) hx hb dX0_updates_40 (by decide) ?_
        refine W.eq (g2 := F0 m 67 ls [.int (kd_sel ia ib ic id i)]) (by rw [kd_sel_1 ia ib ic id (kd_nlt (M := 4) (by omega) (by omega) k1)]) ?_
        exact kd_Xus67 hR hA hpl hbg (kd_tN_ok hok (kd_ub_by ia ib ic id) i) i S hK (fun mm1 vv1 H locs ls hP hD hS hl => ih (i + 1) (by omega) mm1 vv1 H locs ls (by rw [← kd_ct]; exact hP) (by rw [← kd_ct]; exact hD) hS hl) H locs ls hP hD hS hl
end XUPS
set_option maxHeartbeats 4000000 in
/-- updates(a, b, c, d, n) -/
theorem metX0_updates (l : Launch) (D : va_G) (o a1 a2 a3 a4 a5 a6 a7 : Nat) (cB cI : ClassId) (rd ph : Int32) (ky pl bg mm vv : Nat → Int32) (K : kd_C) (dg : Int32) (ct : Int64) (sz : Nat) (ia ib ic id n : Int32) (hpb : ph = 1 → pl = kd_tbl ∧ bg = kd_iv) (hok : kd_ok K) : kd_MI l yX0_updates cX0_updates 8 .boolean ({ frames := 5, cells := 0, slots := 0, locals := 116 } : Room) [.ref o, .int ia, .int ib, .int ic, .int id, .int n] D (tyL cB cI) (xw o a1 a2 a3 a4 a5 a6 a7 cB cI rd ph ky pl bg K.1 mm vv (kd_e K.2.1) (nI K.2.2.1) K.2.2.2 dg ct) sz (fun r w => (kd_cus ph n ∧ r = 1 ∧ ∃ mm1 vv1 : Nat → Int32, w = (xw o a1 a2 a3 a4 a5 a6 a7 cB cI rd ph ky pl bg ((kd_tN K (kd_ub ia ib ic id) n.toNatClampNeg).1) mm1 vv1 (kd_e (kd_tN K (kd_ub ia ib ic id) n.toNatClampNeg).2.1) (nI (kd_tN K (kd_ub ia ib ic id) n.toNatClampNeg).2.2.1) ((kd_tN K (kd_ub ia ib ic id) n.toNatClampNeg).2.2.2) dg (ct + lN n.toNatClampNeg))) ∨ (¬ kd_cus ph n ∧ r = 0 ∧ ∃ mm1 vv1 : Nat → Int32, w = (xw o a1 a2 a3 a4 a5 a6 a7 cB cI rd ph ky pl bg K.1 mm1 vv1 (kd_e K.2.1) (nI K.2.2.1) K.2.2.2 dg ct))) := by
  refine kd_mi (by decide) (Nat.le_of_ble_eq_true rfl) ?_
  intro p e s m below meth c ls A S hr hlk hA hP hK hD hS hl
  have S : CallFix p m c cX0_updates 8 s _ lw_all RX0 := S
  have hl : lv_has ls 8 [(0, .ref o), (1, .int ia), (2, .int ib), (3, .int ic), (4, .int id), (5, .int n)] := hl
  have hx := S.1
  have hb := S.2.1
  have hown := S.2.2.2.1
  have hts := S.2.2.2.2
  refine lv_aload_n hx hb dX0_updates_0 rfl (lv_at hl 0 rfl) ?_
  refine xg_ph S hK hP dX0_updates_1 ?_
  refine lv_iconst (v := 1) hx hb dX0_updates_4 (by decide) ?_
  refine lv_icmp_ne (tgt := 21) hx hb dX0_updates_5 (by decide) (fun h1 => ?_) (fun h1 => ?_)
  · refine lv_iconst (v := 0) hx hb dX0_updates_21 (by decide) ?_
    exact kd_iend S hr rfl hlk hK hP hD hS (Or.inr ⟨fun q => h1 q.1, rfl, mm, vv, rfl⟩) dX0_updates_22
  · refine lv_iload hx hb dX0_updates_8 (lv_at hl 5 rfl) ?_
    refine lv_iconst (v := 1) hx hb dX0_updates_10 (by decide) ?_
    refine lv_icmp_lt (tgt := 21) hx hb dX0_updates_11 (by decide) (fun h2 => ?_) (fun h2 => ?_)
    · refine lv_iconst (v := 0) hx hb dX0_updates_21 (by decide) ?_
      exact kd_iend S hr rfl hlk hK hP hD hS (Or.inr ⟨fun q => q.2.1 h2, rfl, mm, vv, rfl⟩) dX0_updates_22
    · refine lv_iload hx hb dX0_updates_14 (lv_at hl 5 rfl) ?_
      refine lv_bipush (v := 16) hx hb dX0_updates_16 (by decide) ?_
      refine lv_icmp_le (tgt := 23) hx hb dX0_updates_18 (by decide) (fun h3 => ?_) (fun h3 => ?_)
      · refine lv_iconst (v := 0) hx hb dX0_updates_23 (by decide) ?_
        refine lv_istore (lv' := [(6, .int 0), (0, .ref o), (1, .int ia), (2, .int ib), (3, .int ic), (4, .int id), (5, .int n)]) hx hb dX0_updates_24 hl (by decide) rfl (fun ls hl => ?_)
        obtain ⟨N, hN, rfl⟩ := kd_cnt (M := 16) (by omega) (kd_n1 h2) h3
        refine kd_Xus ⟨Nat.le_of_ble_eq_true rfl, Nat.le_of_ble_eq_true rfl⟩ hA (hpb h1).1 (hpb h1).2 hok hN S hK ?_ N 0 (by omega) mm vv _ _ _ (by rw [kd_ct0]; exact hP) (by rw [kd_ct0]; exact hD) hS hl
        intro mm1 vv1 H locs ls hP hD hS hl
        refine lv_iconst (v := 1) hx hb dX0_updates_96 (by decide) ?_
        exact kd_iend S hr rfl hlk hK hP hD hS (Or.inl ⟨⟨h1, h2, h3⟩, rfl, mm1, vv1, by rw [nI_clamp (n := N) (by omega)]⟩) dX0_updates_97
      · refine lv_iconst (v := 0) hx hb dX0_updates_21 (by decide) ?_
        exact kd_iend S hr rfl hlk hK hP hD hS (Or.inr ⟨fun q => h3 q.2.2, rfl, mm, vv, rfl⟩) dX0_updates_22
section XFILL
variable {p : Program} {l : Launch} {e : Env} {R : Room} {s : State} {m : MethodId} {args : Array Value} {below : List Frame} {meth : Method} {c : Code} {Q : State → Prop} {D : va_G} {A : Nat → Prop} {H0 : Heap}
variable {o a1 a2 a3 a4 a5 a6 a7 : Nat} {cB cI : ClassId} {rd ph fl dg : Int32} {ky pl bg hh mm vv bk : Nat → Int32} {mx ct : Int64}
variable {K : kd_C} {b : Int32} {N : Nat}
set_option maxHeartbeats 4000000 in
theorem kd_Xfl (hR : 4 + 1 ≤ R.frames ∧ 8 + (2 + 11) + 95 ≤ R.locals) (hA : ∀ q, H0.size ≤ q → A q) (hpl : pl = kd_tbl) (hbg : bg = kd_iv) (hok : kd_ok K) (hby : kd_by b) (hN : N ≤ 10000) (S : CallFix p m c cX0_fill 4 s args lw_all RX0) (hK : va_K D vwCl (tyL cB cI) s)
    (kx : ∀ (mm vv : Nat → Int32), ∀ (H : Heap) (locs : List Loc) (ls : Array Slot), va_P D vwCl (xw o a1 a2 a3 a4 a5 a6 a7 cB cI rd ph ky pl bg ((kd_tN K (fun _ => b) N).1) mm vv (kd_e (kd_tN K (fun _ => b) N).2.1) (nI (kd_tN K (fun _ => b) N).2.2.1) ((kd_tN K (fun _ => b) N).2.2.2) dg (ct + lN N)) H → va_D A (xw o a1 a2 a3 a4 a5 a6 a7 cB cI rd ph ky pl bg ((kd_tN K (fun _ => b) N).1) mm vv (kd_e (kd_tN K (fun _ => b) N).2.1) (nI (kd_tN K (fun _ => b) N).2.2.1) ((kd_tN K (fun _ => b) N).2.2.2) dg (ct + lN N)) → va_S A H0 H locs → lv_has ls 4 [(3, .int (nI N)), (0, .ref o), (1, .int b), (2, .int (nI N))] → W p l e R s m args below meth c H locs 0 0 Q (F0 m 46 ls [])) :
    ∀ (n i : Nat), i + n = N → ∀ (mm vv : Nat → Int32), ∀ (H : Heap) (locs : List Loc) (ls : Array Slot), va_P D vwCl (xw o a1 a2 a3 a4 a5 a6 a7 cB cI rd ph ky pl bg ((kd_tN K (fun _ => b) i).1) mm vv (kd_e (kd_tN K (fun _ => b) i).2.1) (nI (kd_tN K (fun _ => b) i).2.2.1) ((kd_tN K (fun _ => b) i).2.2.2) dg (ct + lN i)) H → va_D A (xw o a1 a2 a3 a4 a5 a6 a7 cB cI rd ph ky pl bg ((kd_tN K (fun _ => b) i).1) mm vv (kd_e (kd_tN K (fun _ => b) i).2.1) (nI (kd_tN K (fun _ => b) i).2.2.1) ((kd_tN K (fun _ => b) i).2.2.2) dg (ct + lN i)) → va_S A H0 H locs → lv_has ls 4 [(3, .int (nI i)), (0, .ref o), (1, .int b), (2, .int (nI N))] → W p l e R s m args below meth c H locs 0 0 Q (F0 m 30 ls []) := by
  have hx := S.1
  have hb := S.2.1
  have hown := S.2.2.2.1
  have hts := S.2.2.2.2
  intro n
  induction n with
  | zero =>
    intro i hi mm vv H locs ls hP hD hS hl
    obtain rfl : i = N := by omega
    refine lv_iload_n hx hb dX0_fill_30 rfl (lv_at hl 0 rfl) ?_
    refine lv_iload_n hx hb dX0_fill_31 rfl (lv_at hl 3 rfl) ?_
    refine lv_icmp_ge (tgt := 46) hx hb dX0_fill_32 (by decide) (fun hc => ?_) (fun hc => ?_)
    · exact kx mm vv H locs ls hP hD hS hl
    · exact absurd (nI_le (Nat.le_refl i) (by omega)) hc
  | succ n ih =>
    intro i hi mm vv H locs ls hP hD hS hl
    refine lv_iload_n hx hb dX0_fill_30 rfl (lv_at hl 0 rfl) ?_
    refine lv_iload_n hx hb dX0_fill_31 rfl (lv_at hl 3 rfl) ?_
    refine lv_icmp_ge (tgt := 46) hx hb dX0_fill_32 (by decide) (fun hc => ?_) (fun hc => ?_)
    · exact absurd hc (nI_ge (a := i) (b := N) (by omega) (by omega))
    · refine lv_aload_n hx hb dX0_fill_35 rfl (lv_at hl 1 rfl) ?_
      refine lv_iload_n hx hb dX0_fill_36 rfl (lv_at hl 2 rfl) ?_
      refine kd_cv (rest := []) S (metX0_take l D o a1 a2 a3 a4 a5 a6 a7 cB cI rd ph ky pl bg mm vv (kd_tN K (fun _ => b) i) dg (ct + lN i) H.size b hpl hbg (kd_tN_ok hok (fun _ => hby) i)) (cwV 1 hts (lw_V q104 q106 qs1 q9 q107) rfl rfl rfl (by decide +kernel) hR) hK hP hD hS hA (x_rec hK hP) rfl hl.1 rfl (Nat.le_of_ble_eq_true rfl) dX0_fill_37 ⟨Nat.zero_le _, Nat.zero_le _⟩ (fun w H locs hw hP hD hS => ?_)
      obtain ⟨mm1, vv1, rfl⟩ := hw
      refine lv_iinc (v := nI (i + 1)) (lv' := [(3, .int (nI (i + 1))), (0, .ref o), (1, .int b), (2, .int (nI N))]) hx hb dX0_fill_40 hl (k := 0) rfl (nI_1 i) (by decide) rfl (fun ls hl => ?_)
      refine lv_goto (tgt := 30) hx hb dX0_fill_43 (by decide) ?_
      exact ih (i + 1) (by omega) mm1 vv1 H locs ls (by rw [← kd_ct]; exact hP) (by rw [← kd_ct]; exact hD) hS hl
end XFILL
set_option maxHeartbeats 4000000 in
/-- fill(b, n) -/
theorem metX0_fill (l : Launch) (D : va_G) (o a1 a2 a3 a4 a5 a6 a7 : Nat) (cB cI : ClassId) (rd ph : Int32) (ky pl bg mm vv : Nat → Int32) (K : kd_C) (dg : Int32) (ct : Int64) (sz : Nat) (b n : Int32) (hpb : ph = 1 → pl = kd_tbl ∧ bg = kd_iv) (hok : kd_ok K) : kd_MI l yX0_fill cX0_fill 4 .boolean ({ frames := 5, cells := 0, slots := 0, locals := 116 } : Room) [.ref o, .int b, .int n] D (tyL cB cI) (xw o a1 a2 a3 a4 a5 a6 a7 cB cI rd ph ky pl bg K.1 mm vv (kd_e K.2.1) (nI K.2.2.1) K.2.2.2 dg ct) sz (fun r w => (kd_cf ph b n ∧ r = 1 ∧ ∃ mm1 vv1 : Nat → Int32, w = (xw o a1 a2 a3 a4 a5 a6 a7 cB cI rd ph ky pl bg ((kd_tN K (fun _ => b) n.toNatClampNeg).1) mm1 vv1 (kd_e (kd_tN K (fun _ => b) n.toNatClampNeg).2.1) (nI (kd_tN K (fun _ => b) n.toNatClampNeg).2.2.1) ((kd_tN K (fun _ => b) n.toNatClampNeg).2.2.2) dg (ct + lN n.toNatClampNeg))) ∨ (¬ kd_cf ph b n ∧ r = 0 ∧ ∃ mm1 vv1 : Nat → Int32, w = (xw o a1 a2 a3 a4 a5 a6 a7 cB cI rd ph ky pl bg K.1 mm1 vv1 (kd_e K.2.1) (nI K.2.2.1) K.2.2.2 dg ct))) := by
  refine kd_mi (by decide) (Nat.le_of_ble_eq_true rfl) ?_
  intro p e s m below meth c ls A S hr hlk hA hP hK hD hS hl
  have S : CallFix p m c cX0_fill 4 s _ lw_all RX0 := S
  have hl : lv_has ls 4 [(0, .ref o), (1, .int b), (2, .int n)] := hl
  have hx := S.1
  have hb := S.2.1
  have hown := S.2.2.2.1
  have hts := S.2.2.2.2
  refine lv_aload_n hx hb dX0_fill_0 rfl (lv_at hl 0 rfl) ?_
  refine xg_ph S hK hP dX0_fill_1 ?_
  refine lv_iconst (v := 1) hx hb dX0_fill_4 (by decide) ?_
  refine lv_icmp_ne (tgt := 26) hx hb dX0_fill_5 (by decide) (fun h1 => ?_) (fun h1 => ?_)
  · refine lv_iconst (v := 0) hx hb dX0_fill_26 (by decide) ?_
    exact kd_iend S hr rfl hlk hK hP hD hS (Or.inr ⟨fun q => h1 q.1, rfl, mm, vv, rfl⟩) dX0_fill_27
  · refine lv_iload_n hx hb dX0_fill_8 rfl (lv_at hl 1 rfl) ?_
    refine kd_cs (rest := []) S (metX0_isByte l b) (va_cwS 1 hts (lw_S q92 q93 q9 q94) rfl rfl rfl (by decide +kernel) ⟨Nat.le_of_ble_eq_true rfl, Nat.le_of_ble_eq_true rfl⟩) rfl hl.1 rfl (Nat.le_of_ble_eq_true rfl) dX0_fill_9 ⟨Nat.zero_le _, Nat.zero_le _⟩ ?_
    refine lv_if_eq (tgt := 26) hx hb dX0_fill_12 (by decide) (fun h2 => ?_) (fun h2 => ?_)
    · refine lv_iconst (v := 0) hx hb dX0_fill_26 (by decide) ?_
      exact kd_iend S hr rfl hlk hK hP hD hS (Or.inr ⟨fun q => kd_ib_0 h2 q.2.1, rfl, mm, vv, rfl⟩) dX0_fill_27
    · have h5 := kd_ib_1 h2
      refine lv_iload_n hx hb dX0_fill_15 rfl (lv_at hl 2 rfl) ?_
      refine lv_if_lt (tgt := 26) hx hb dX0_fill_16 (by decide) (fun h3 => ?_) (fun h3 => ?_)
      · refine lv_iconst (v := 0) hx hb dX0_fill_26 (by decide) ?_
        exact kd_iend S hr rfl hlk hK hP hD hS (Or.inr ⟨fun q => q.2.2.1 h3, rfl, mm, vv, rfl⟩) dX0_fill_27
      · refine lv_iload_n hx hb dX0_fill_19 rfl (lv_at hl 2 rfl) ?_
        refine lv_sipush (v := 10000) hx hb dX0_fill_20 (by decide) ?_
        refine lv_icmp_le (tgt := 28) hx hb dX0_fill_23 (by decide) (fun h4 => ?_) (fun h4 => ?_)
        · refine lv_iconst (v := 0) hx hb dX0_fill_28 (by decide) ?_
          refine lv_istore_n (lv' := [(3, .int 0), (0, .ref o), (1, .int b), (2, .int n)]) hx hb dX0_fill_29 rfl hl (by decide) rfl (fun ls hl => ?_)
          obtain ⟨N, hN, rfl⟩ := kd_cnt (M := 10000) (by omega) h3 h4
          refine kd_Xfl ⟨Nat.le_of_ble_eq_true rfl, Nat.le_of_ble_eq_true rfl⟩ hA (hpb h1).1 (hpb h1).2 hok (kd_by_of h5.1 h5.2) hN S hK ?_ N 0 (by omega) mm vv _ _ _ (by rw [kd_ct0]; exact hP) (by rw [kd_ct0]; exact hD) hS hl
          intro mm1 vv1 H locs ls hP hD hS hl
          refine lv_iconst (v := 1) hx hb dX0_fill_46 (by decide) ?_
          exact kd_iend S hr rfl hlk hK hP hD hS (Or.inl ⟨⟨h1, h5, h3, h4⟩, rfl, mm1, vv1, by rw [nI_clamp (n := N) (by omega)]⟩) dX0_fill_47
        · refine lv_iconst (v := 0) hx hb dX0_fill_26 (by decide) ?_
          exact kd_iend S hr rfl hlk hK hP hD hS (Or.inr ⟨fun q => h4 q.2.2.2, rfl, mm, vv, rfl⟩) dX0_fill_27
section XFIN
variable {p : Program} {l : Launch} {e : Env} {R : Room} {s : State} {m : MethodId} {args : Array Value} {below : List Frame} {meth : Method} {c : Code} {Q : State → Prop} {D : va_G} {A : Nat → Prop} {H0 : Heap}
variable {o a1 a2 a3 a4 a5 a6 a7 : Nat} {cB cI : ClassId} {rd ph fl dg : Int32} {ky pl bg hh mm vv bk : Nat → Int32} {mx ct : Int64}
variable {b0 : Nat → Int32} {f : Nat}
set_option maxHeartbeats 4000000 in
theorem kd_Xfi (hf : f ≤ 64) (S : CallFix p m c cX0_finish 2 s args lw_all RX0) (hK : va_K D vwCl (tyL cB cI) s)
    (kx : ∀ (H : Heap) (locs : List Loc) (ls : Array Slot), va_P D vwCl (xw o a1 a2 a3 a4 a5 a6 a7 cB cI rd ph ky pl bg hh mm vv (kd_e (kd_pad b0 f 64)) fl mx dg ct) H → va_D A (xw o a1 a2 a3 a4 a5 a6 a7 cB cI rd ph ky pl bg hh mm vv (kd_e (kd_pad b0 f 64)) fl mx dg ct) → va_S A H0 H locs → lv_has ls 2 [(1, .int (nI 64)), (0, .ref o)] → W p l e R s m args below meth c H locs 0 0 Q (F0 m 48 ls [])) :
    ∀ (n i : Nat), i + n = 64 - f → ∀ (H : Heap) (locs : List Loc) (ls : Array Slot), va_P D vwCl (xw o a1 a2 a3 a4 a5 a6 a7 cB cI rd ph ky pl bg hh mm vv (kd_e (kd_pad b0 f (f + i))) fl mx dg ct) H → va_D A (xw o a1 a2 a3 a4 a5 a6 a7 cB cI rd ph ky pl bg hh mm vv (kd_e (kd_pad b0 f (f + i))) fl mx dg ct) → va_S A H0 H locs → lv_has ls 2 [(1, .int (nI (f + i))), (0, .ref o)] → W p l e R s m args below meth c H locs 0 0 Q (F0 m 29 ls []) := by
  have hx := S.1
  have hb := S.2.1
  have hown := S.2.2.2.1
  have hts := S.2.2.2.2
  intro n
  induction n with
  | zero =>
    intro i hi  H locs ls hP hD hS hl
    obtain rfl : i = 64 - f := by omega
    refine lv_iload_n hx hb dX0_finish_29 rfl (lv_at hl 0 rfl) ?_
    refine lv_bipush (v := 64) hx hb dX0_finish_30 (by decide) ?_
    refine lv_icmp_ge (tgt := 48) hx hb dX0_finish_32 (by decide) (fun hc => ?_) (fun hc => ?_)
    · have e : f + (64 - f) = 64 := by omega
      rw [e] at hP hD hl
      exact kx H locs ls hP hD hS hl
    · have e : f + (64 - f) = 64 := by omega
      rw [e] at hc
      exact absurd (by decide) hc
  | succ n ih =>
    intro i hi  H locs ls hP hD hS hl
    refine lv_iload_n hx hb dX0_finish_29 rfl (lv_at hl 0 rfl) ?_
    refine lv_bipush (v := 64) hx hb dX0_finish_30 (by decide) ?_
    refine lv_icmp_ge (tgt := 48) hx hb dX0_finish_32 (by decide) (fun hc => ?_) (fun hc => ?_)
    · exact absurd hc (nI_ge (a := f + i) (b := 64) (by omega) (by omega))
    · refine lv_aload_n hx hb dX0_finish_35 rfl (lv_at hl 1 rfl) ?_
      refine xg_a7 S hK hP dX0_finish_36 ?_
      refine lv_iload_n hx hb dX0_finish_39 rfl (lv_at hl 0 rfl) ?_
      refine lv_iconst (v := 0) hx hb dX0_finish_40 (by decide) ?_
      refine xs_bk (j := (f + i)) (g := kd_e (kd_pad b0 f (f + (i + 1)))) S hK hP hD hS (kd_ix_n (by omega) (by omega)) (kd_e_pad1 b0 (Nat.le_add_right f i)) dX0_finish_41 (fun H locs hP hD hS => ?_)
      refine lv_iinc (v := nI (f + (i + 1))) (lv' := [(1, .int (nI (f + (i + 1)))), (0, .ref o)]) hx hb dX0_finish_42 hl (k := 0) rfl (nI_1 (f + i)) (by decide) rfl (fun ls hl => ?_)
      refine lv_goto (tgt := 29) hx hb dX0_finish_45 (by decide) ?_
      exact ih (i + 1) (by omega) H locs ls hP hD hS hl
end XFIN
set_option maxHeartbeats 4000000 in
/-- finish() -/
theorem metX0_finish (l : Launch) (D : va_G) (o a1 a2 a3 a4 a5 a6 a7 : Nat) (cB cI : ClassId) (rd ph : Int32) (ky pl bg mm vv : Nat → Int32) (K : kd_C) (dg : Int32) (ct : Int64) (sz : Nat) (hpb : ph = 1 → pl = kd_tbl ∧ bg = kd_iv) (hok : kd_ok K) : kd_MI l yX0_finish cX0_finish 2 .boolean ({ frames := 4, cells := 0, slots := 0, locals := 95 } : Room) [.ref o] D (tyL cB cI) (xw o a1 a2 a3 a4 a5 a6 a7 cB cI rd ph ky pl bg K.1 mm vv (kd_e K.2.1) (nI K.2.2.1) K.2.2.2 dg ct) sz (fun r w => (ph = 1 ∧ r = 1 ∧ ∃ mm1 vv1 : Nat → Int32, w = (xw o a1 a2 a3 a4 a5 a6 a7 cB cI rd 2 ky pl bg ((kd_fin K).1) mm1 vv1 (kd_e (kd_fin K).2.1) (nI (kd_fin K).2.2.1) ((kd_fin K).2.2.2) dg ct)) ∨ (¬ ph = 1 ∧ r = 0 ∧ ∃ mm1 vv1 : Nat → Int32, w = (xw o a1 a2 a3 a4 a5 a6 a7 cB cI rd ph ky pl bg K.1 mm1 vv1 (kd_e K.2.1) (nI K.2.2.1) K.2.2.2 dg ct))) := by
  obtain ⟨hh, b0, f, mx⟩ := K
  obtain ⟨hf, hby⟩ := hok
  have hf : f ≤ 64 := hf
  have hby : ∀ j, kd_by (b0 j) := hby
  refine kd_mi (by decide) (Nat.le_of_ble_eq_true rfl) ?_
  intro p e s m below meth c ls A S hr hlk hA hP hK hD hS hl
  have S : CallFix p m c cX0_finish 2 s _ lw_all RX0 := S
  have hl : lv_has ls 2 [(0, .ref o)] := hl
  have hx := S.1
  have hb := S.2.1
  have hown := S.2.2.2.1
  have hts := S.2.2.2.2
  have hP : va_P D vwCl (xw o a1 a2 a3 a4 a5 a6 a7 cB cI rd ph ky pl bg hh mm vv (kd_e b0) (nI f) mx dg ct) s.heap := hP
  have hD : va_D A (xw o a1 a2 a3 a4 a5 a6 a7 cB cI rd ph ky pl bg hh mm vv (kd_e b0) (nI f) mx dg ct) := hD
  refine lv_aload_n hx hb dX0_finish_0 rfl (lv_at hl 0 rfl) ?_
  refine xg_ph S hK hP dX0_finish_1 ?_
  refine lv_iconst (v := 1) hx hb dX0_finish_4 (by decide) ?_
  refine lv_icmp_eq (tgt := 10) hx hb dX0_finish_5 (by decide) (fun h1 => ?_) (fun h1 => ?_)
  · obtain ⟨hpl, hbg⟩ := hpb h1
    refine lv_aload_n hx hb dX0_finish_10 rfl (lv_at hl 0 rfl) ?_
    refine lv_dup hx hb dX0_finish_11 rfl ?_
    refine xg_mx S hK hP dX0_finish_12 ?_
    refine lv_aload_n hx hb dX0_finish_15 rfl (lv_at hl 0 rfl) ?_
    refine xg_fl S hK hP dX0_finish_16 ?_
    refine lv_i2l hx hb dX0_finish_19 rfl ?_
    refine lv_ladd hx hb dX0_finish_20 ?_
    refine xp_mx (x := mx + ((nI f).toInt64)) S hK hP hD hS dX0_finish_21 (fun H locs hP hD hS => ?_)
    refine lv_aload_n hx hb dX0_finish_24 rfl (lv_at hl 0 rfl) ?_
    refine xg_fl S hK hP dX0_finish_25 ?_
    refine lv_istore_n (lv' := [(1, .int (nI f)), (0, .ref o)]) hx hb dX0_finish_28 rfl hl (by decide) rfl (fun ls hl => ?_)
    refine kd_Xfi (b0 := b0) hf S hK ?_ (64 - f) 0 (by omega) _ _ _ (by rw [Nat.add_zero, kd_pad_0]; exact hP) (by rw [Nat.add_zero, kd_pad_0]; exact hD) hS hl
    intro H locs ls hP hD hS hl
    refine lv_aload_n hx hb dX0_finish_48 rfl (lv_at hl 1 rfl) ?_
    refine lv_iconst (v := 1) hx hb dX0_finish_49 (by decide) ?_
    refine kd_cv (rest := []) S (metX0_mix l D o a1 a2 a3 a4 a5 a6 a7 cB cI rd ph ky pl bg hh mm vv (kd_pad b0 f 64) (nI f) (mx + (nI f).toInt64) dg ct H.size 1 hpl hbg (kd_pad_by hby f 64)) (cwV 1 hts (lw_V q109 q111 qs2 q9 q112) rfl rfl rfl (by decide +kernel) ⟨Nat.le_of_ble_eq_true rfl, Nat.le_of_ble_eq_true rfl⟩) hK hP hD hS hA (x_rec hK hP) rfl hl.1 rfl (Nat.le_of_ble_eq_true rfl) dX0_finish_50 ⟨Nat.zero_le _, Nat.zero_le _⟩ (fun w H locs hw hP hD hS => ?_)
    obtain ⟨mm1, vv1, rfl⟩ := hw
    refine lv_aload_n hx hb dX0_finish_53 rfl (lv_at hl 1 rfl) ?_
    refine lv_iconst (v := 2) hx hb dX0_finish_54 (by decide) ?_
    refine xp_ph (x := 2) S hK hP hD hS dX0_finish_55 (fun H locs hP hD hS => ?_)
    refine lv_iconst (v := 1) hx hb dX0_finish_58 (by decide) ?_
    exact kd_iend S hr rfl hlk hK hP hD hS (Or.inl ⟨h1, rfl, mm1, vv1, rfl⟩) dX0_finish_59
  · refine lv_iconst (v := 0) hx hb dX0_finish_8 (by decide) ?_
    exact kd_iend S hr rfl hlk hK hP hD hS (Or.inr ⟨h1, rfl, mm, vv, rfl⟩) dX0_finish_9
end
section
/-! pure rows for keys, starts and answers -/
set_option maxRecDepth 100000
theorem kd_ixr {i : Int32} {n : Nat} (hn : n ≤ 1000) (h0 : ¬ i < 0) (h1 : ¬ nI n ≤ i) : kd_ix i i.toNatClampNeg n := by
  obtain ⟨j, hj, rfl⟩ := nI_of h0
  have hlt := kd_nlt (by omega) hj h1
  exact ⟨vp_in_nI hlt (by omega), rfl⟩
theorem kd_ixl {i : Int32} {n : Nat} (hn : n < 1000) (h0 : ¬ i < 0) (h1 : i ≤ nI n) : kd_ix i i.toNatClampNeg (n + 1) := by
  obtain ⟨j, hj, rfl⟩ := nI_of h0
  have hle := (nI_leI hj (show n < 2 ^ 31 by omega)).mp h1
  exact ⟨vp_in_nI (show j < n + 1 by omega) (by omega), rfl⟩
theorem kd_ix4 {i dg : Int32} (h0 : ¬ i < 0) (h1 : i < dg) (h2 : dg ≤ 32) : kd_ix (i / 4) (i / 4).toNatClampNeg 8 := by
  obtain ⟨j, hj, rfl⟩ := nI_of h0
  have hlt : j < 32 := by
    rw [Int32.lt_iff_toInt_lt] at h1
    rw [Int32.le_iff_toInt_le] at h2
    rw [nI_toInt hj] at h1
    have e : (32 : Int32).toInt = 32 := by decide
    omega
  have e : nI j / 4 = nI (j / 4) := pk_div (d := 4) hj (by omega) (by omega)
  rw [e]
  exact ⟨vp_in_nI (show j / 4 < 8 by omega) (by omega), rfl⟩
theorem kd_not_le {a b : Int32} (h : ¬ a ≤ b) : b < a := by
  rw [Int32.le_iff_toInt_le] at h
  rw [Int32.lt_iff_toInt_lt]
  omega
theorem kd_le_not {a b : Int32} (h : a ≤ b) : ¬ b < a := by
  rw [Int32.le_iff_toInt_le] at h
  rw [Int32.lt_iff_toInt_lt]
  omega
theorem kd_lt_not {a b : Int32} (h : a < b) : ¬ b ≤ a := by
  rw [Int32.lt_iff_toInt_lt] at h
  rw [Int32.le_iff_toInt_le]
  omega
theorem kd_not_lt {a b : Int32} (h : ¬ a < b) : b ≤ a := by
  rw [Int32.lt_iff_toInt_lt] at h
  rw [Int32.le_iff_toInt_le]
  omega
theorem kd_kb_st {F b0 : Nat → Int32} {i : Nat} {x y : Int32} (hx : x.toInt8.toInt32 = kd_sx y) (e : y = F i) : upd (kd_e (kd_fill F b0 i)) i (x.toInt8.toInt32) = kd_e (kd_fill F b0 (i + 1)) := by rw [hx, kd_e_upd, kd_fill_s e]
theorem kd_kb_1 {ky : Nat → Int32} {kk : Int32} {i : Nat} (h : ¬ kk ≤ nI i) : ky i = kd_kb ky kk i := (if_pos (kd_not_le h)).symm
theorem kd_kb_0 {ky : Nat → Int32} {kk : Int32} {i : Nat} (h : kk ≤ nI i) : (0 : Int32) = kd_kb ky kk i := (if_neg (kd_le_not h)).symm
theorem kd_st_1 {h b0 : Nat → Int32} {f : Nat} {n : Int64} (ky : Nat → Int32) (nn : Int32) {kk : Int32} (hk : ¬ kk ≤ 0) : kd_st (h, b0, f, n) ky nn kk = (upd kd_iv 0 (kd_hd nn kk), kd_fill (kd_kb ky kk) b0 64, 64, 0) := if_pos (kd_not_le hk)
theorem kd_st_0 {h b0 : Nat → Int32} {f : Nat} {n : Int64} (ky : Nat → Int32) (nn : Int32) {kk : Int32} (hk : kk ≤ 0) : kd_st (h, b0, f, n) ky nn kk = (upd kd_iv 0 (kd_hd nn kk), b0, 0, 0) := if_neg (kd_le_not hk)
/-- a digit of a row -/
def kd_dig (d : Int64) (k : Nat) : Int32 := ((((d.toUInt64 >>> ((60 - 4 * nI k).toInt64.toUInt64 &&& Int64.toUInt64 63)).toInt64) &&& 15).toInt32).toInt8.toInt32
theorem kd_dig_2 (d : Int64) (k : Nat) : (kd_dig d k).toInt8.toInt32 = kd_dig d k := pk_vb _
theorem kd_r0 : ∀ k, k < 16 → kd_dig 81985529216486895 k = kd_tbl (16 * 0 + k) := by decide +kernel
theorem kd_r1 : ∀ k, k < 16 → kd_dig (-1564825128569489581) k = kd_tbl (16 * 1 + k) := by decide +kernel
theorem kd_r2 : ∀ k, k < 16 → kd_dig (-5134012325699358316) k = kd_tbl (16 * 2 + k) := by decide +kernel
theorem kd_r3 : ∀ k, k < 16 → kd_dig 8733003861693448440 k = kd_tbl (16 * 3 + k) := by decide +kernel
theorem kd_r4 : ∀ k, k < 16 → kd_dig (-8045921871449003971) k = kd_tbl (16 * 4 + k) := by decide +kernel
theorem kd_r5 : ∀ k, k < 16 → kd_dig 3200383143768358425 k = kd_tbl (16 * 5 + k) := by decide +kernel
theorem kd_r6 : ∀ k, k < 16 → kd_dig (-4242411421752388981) k = kd_tbl (16 * 6 + k) := by decide +kernel
theorem kd_r7 : ∀ k, k < 16 → kd_dig (-2630452680422291926) k = kd_tbl (16 * 7 + k) := by decide +kernel
theorem kd_r8 : ∀ k, k < 16 → kd_dig 8064173457993569445 k = kd_tbl (16 * 8 + k) := by decide +kernel
theorem kd_r9 : ∀ k, k < 16 → kd_dig (-6736129305851577136) k = kd_tbl (16 * 9 + k) := by decide +kernel
end
section
set_option maxRecDepth 100000
set_option maxHeartbeats 4000000 in
/-- setKeyByte(i, b) -/
theorem metX0_setKeyByte (l : Launch) (D : va_G) (o a1 a2 a3 a4 a5 a6 a7 : Nat) (cB cI : ClassId) (rd ph : Int32) (k0 pl bg hh mm vv bk : Nat → Int32) (fl : Int32) (mx : Int64) (dg : Int32) (ct : Int64) (sz : Nat) (i b : Int32) : kd_MI l yX0_setKeyByte cX0_setKeyByte 3 .boolean ({ frames := 1, cells := 0, slots := 0, locals := 20 } : Room) [.ref o, .int i, .int b] D (tyL cB cI) (xw o a1 a2 a3 a4 a5 a6 a7 cB cI rd ph (kd_e k0) pl bg hh mm vv bk fl mx dg ct) sz (fun r w => (kd_ck ph i b ∧ r = 1 ∧ ∃ mm1 vv1 : Nat → Int32, w = (xw o a1 a2 a3 a4 a5 a6 a7 cB cI rd ph (kd_e (upd k0 i.toNatClampNeg b)) pl bg hh mm1 vv1 bk fl mx dg ct)) ∨ (¬ kd_ck ph i b ∧ r = 0 ∧ ∃ mm1 vv1 : Nat → Int32, w = (xw o a1 a2 a3 a4 a5 a6 a7 cB cI rd ph (kd_e k0) pl bg hh mm1 vv1 bk fl mx dg ct))) := by
  refine kd_mi (by decide) (Nat.le_of_ble_eq_true rfl) ?_
  intro p e s m below meth c ls A S hr hlk hA hP hK hD hS hl
  have S : CallFix p m c cX0_setKeyByte 3 s _ lw_all RX0 := S
  have hl : lv_has ls 3 [(0, .ref o), (1, .int i), (2, .int b)] := hl
  have hx := S.1
  have hb := S.2.1
  have hown := S.2.2.2.1
  have hts := S.2.2.2.2
  refine lv_iload_n hx hb dX0_setKeyByte_0 rfl (lv_at hl 1 rfl) ?_
  refine lv_if_lt (tgt := 25) hx hb dX0_setKeyByte_1 (by decide) (fun h1 => ?_) (fun h1 => ?_)
  · refine lv_iconst (v := 0) hx hb dX0_setKeyByte_25 (by decide) ?_
    exact kd_iend S hr rfl hlk hK hP hD hS (Or.inr ⟨fun q => q.1 h1, rfl, mm, vv, rfl⟩) dX0_setKeyByte_26
  · refine lv_iload_n hx hb dX0_setKeyByte_4 rfl (lv_at hl 1 rfl) ?_
    refine lv_bipush (v := 32) hx hb dX0_setKeyByte_5 (by decide) ?_
    refine lv_icmp_ge (tgt := 25) hx hb dX0_setKeyByte_7 (by decide) (fun h2 => ?_) (fun h2 => ?_)
    · refine lv_iconst (v := 0) hx hb dX0_setKeyByte_25 (by decide) ?_
      exact kd_iend S hr rfl hlk hK hP hD hS (Or.inr ⟨fun q => q.2.1 h2, rfl, mm, vv, rfl⟩) dX0_setKeyByte_26
    · refine lv_iload_n hx hb dX0_setKeyByte_10 rfl (lv_at hl 2 rfl) ?_
      refine kd_cs (rest := []) S (metX0_isByte l b) (va_cwS 1 hts (lw_S q92 q93 q9 q94) rfl rfl rfl (by decide +kernel) ⟨Nat.le_of_ble_eq_true rfl, Nat.le_of_ble_eq_true rfl⟩) rfl hl.1 rfl (Nat.le_of_ble_eq_true rfl) dX0_setKeyByte_11 ⟨Nat.zero_le _, Nat.zero_le _⟩ ?_
      refine lv_if_eq (tgt := 25) hx hb dX0_setKeyByte_14 (by decide) (fun h3 => ?_) (fun h3 => ?_)
      · refine lv_iconst (v := 0) hx hb dX0_setKeyByte_25 (by decide) ?_
        exact kd_iend S hr rfl hlk hK hP hD hS (Or.inr ⟨fun q => kd_ib_0 h3 q.2.2.1, rfl, mm, vv, rfl⟩) dX0_setKeyByte_26
      · refine lv_aload_n hx hb dX0_setKeyByte_17 rfl (lv_at hl 0 rfl) ?_
        refine xg_ph S hK hP dX0_setKeyByte_18 ?_
        refine lv_iconst (v := 1) hx hb dX0_setKeyByte_21 (by decide) ?_
        refine lv_icmp_ne (tgt := 27) hx hb dX0_setKeyByte_22 (by decide) (fun h4 => ?_) (fun h4 => ?_)
        · refine lv_aload_n hx hb dX0_setKeyByte_27 rfl (lv_at hl 0 rfl) ?_
          refine xg_a1 S hK hP dX0_setKeyByte_28 ?_
          refine lv_iload_n hx hb dX0_setKeyByte_31 rfl (lv_at hl 1 rfl) ?_
          refine lv_iload_n hx hb dX0_setKeyByte_32 rfl (lv_at hl 2 rfl) ?_
          refine lv_i2b hx hb dX0_setKeyByte_33 rfl ?_
          refine xs_ky (j := i.toNatClampNeg) (g := kd_e (upd k0 i.toNatClampNeg b)) S hK hP hD hS (kd_ixr (n := 32) (by omega) h1 h2) (kd_st1 k0 i.toNatClampNeg b) dX0_setKeyByte_34 (fun H locs hP hD hS => ?_)
          refine lv_iconst (v := 1) hx hb dX0_setKeyByte_35 (by decide) ?_
          exact kd_iend S hr rfl hlk hK hP hD hS (Or.inl ⟨⟨h1, h2, kd_ib_1 h3, h4⟩, rfl, mm, vv, rfl⟩) dX0_setKeyByte_36
        · refine lv_iconst (v := 0) hx hb dX0_setKeyByte_25 (by decide) ?_
          exact kd_iend S hr rfl hlk hK hP hD hS (Or.inr ⟨fun q => q.2.2.2 h4, rfl, mm, vv, rfl⟩) dX0_setKeyByte_26
section XST
variable {p : Program} {l : Launch} {e : Env} {R : Room} {s : State} {m : MethodId} {args : Array Value} {below : List Frame} {meth : Method} {c : Code} {Q : State → Prop} {D : va_G} {A : Nat → Prop} {H0 : Heap}
variable {o a1 a2 a3 a4 a5 a6 a7 : Nat} {cB cI : ClassId} {rd ph fl dg : Int32} {ky pl bg hh mm vv bk : Nat → Int32} {mx ct : Int64}
variable {b0 k0 : Nat → Int32} {nn kk : Int32} {N : Nat}
set_option maxHeartbeats 4000000 in
theorem kd_Xst1  (S : CallFix p m c cX0_start 4 s args lw_all RX0) (hK : va_K D vwCl (tyL cB cI) s)
    (kx : ∀ (H : Heap) (locs : List Loc) (ls : Array Slot), va_P D vwCl (xw o a1 a2 a3 a4 a5 a6 a7 cB cI rd ph ky pl kd_iv kd_iv mm vv bk fl mx dg ct) H → va_D A (xw o a1 a2 a3 a4 a5 a6 a7 cB cI rd ph ky pl kd_iv kd_iv mm vv bk fl mx dg ct) → va_S A H0 H locs → lv_has ls 4 [(3, .int (nI 8)), (0, .ref o), (1, .int nn), (2, .int kk)] → W p l e R s m args below meth c H locs 0 0 Q (F0 m 56 ls [])) :
    ∀ (n i : Nat), i + n = 8 → ∀ (H : Heap) (locs : List Loc) (ls : Array Slot), va_P D vwCl (xw o a1 a2 a3 a4 a5 a6 a7 cB cI rd ph ky pl kd_iv (kd_fill kd_iv hh i) mm vv bk fl mx dg ct) H → va_D A (xw o a1 a2 a3 a4 a5 a6 a7 cB cI rd ph ky pl kd_iv (kd_fill kd_iv hh i) mm vv bk fl mx dg ct) → va_S A H0 H locs → lv_has ls 4 [(3, .int (nI i)), (0, .ref o), (1, .int nn), (2, .int kk)] → W p l e R s m args below meth c H locs 0 0 Q (F0 m 32 ls []) := by
  have hx := S.1
  have hb := S.2.1
  have hown := S.2.2.2.1
  have hts := S.2.2.2.2
  intro n
  induction n with
  | zero =>
    intro i hi  H locs ls hP hD hS hl
    obtain rfl : i = 8 := by omega
    refine lv_iload_n hx hb dX0_start_32 rfl (lv_at hl 0 rfl) ?_
    refine lv_bipush (v := 8) hx hb dX0_start_33 (by decide) ?_
    refine lv_icmp_ge (tgt := 56) hx hb dX0_start_35 (by decide) (fun hc => ?_) (fun hc => ?_)
    · have hP := xc_hh (g := kd_iv) hP (fun j hj => kd_fill_in hj)
      exact kx H locs ls hP (x_D hD) hS hl
    · exact absurd (by decide) hc
  | succ n ih =>
    intro i hi  H locs ls hP hD hS hl
    refine lv_iload_n hx hb dX0_start_32 rfl (lv_at hl 0 rfl) ?_
    refine lv_bipush (v := 8) hx hb dX0_start_33 (by decide) ?_
    refine lv_icmp_ge (tgt := 56) hx hb dX0_start_35 (by decide) (fun hc => ?_) (fun hc => ?_)
    · exact absurd hc (nI_ge (a := i) (b := 8) (by omega) (by omega))
    · refine lv_aload_n hx hb dX0_start_38 rfl (lv_at hl 1 rfl) ?_
      refine xg_a4 S hK hP dX0_start_39 ?_
      refine lv_iload_n hx hb dX0_start_42 rfl (lv_at hl 0 rfl) ?_
      refine lv_aload_n hx hb dX0_start_43 rfl (lv_at hl 1 rfl) ?_
      refine xg_a3 S hK hP dX0_start_44 ?_
      refine lv_iload_n hx hb dX0_start_47 rfl (lv_at hl 0 rfl) ?_
      refine xl_bg (j := i) S hK hP (kd_ix_n (by omega) (by omega)) dX0_start_48 ?_
      refine xs_hh (j := i) (g := kd_fill kd_iv hh (i + 1)) S hK hP hD hS (kd_ix_n (by omega) (by omega)) (kd_fill_s rfl) dX0_start_49 (fun H locs hP hD hS => ?_)
      refine lv_iinc (v := nI (i + 1)) (lv' := [(3, .int (nI (i + 1))), (0, .ref o), (1, .int nn), (2, .int kk)]) hx hb dX0_start_50 hl (k := 0) rfl (nI_1 i) (by decide) rfl (fun ls hl => ?_)
      refine lv_goto (tgt := 32) hx hb dX0_start_53 (by decide) ?_
      exact ih (i + 1) (by omega) H locs ls hP hD hS hl
set_option maxHeartbeats 4000000 in
theorem kd_Xst2 (hN : N ≤ 32) (S : CallFix p m c cX0_start 4 s args lw_all RX0) (hK : va_K D vwCl (tyL cB cI) s)
    (kx : ∀ (H : Heap) (locs : List Loc) (ls : Array Slot), va_P D vwCl (xw o a1 a2 a3 a4 a5 a6 a7 cB cI rd ph (kd_e k0) pl bg hh mm vv (kd_e (kd_fill (kd_kb k0 (nI N)) b0 64)) fl mx dg ct) H → va_D A (xw o a1 a2 a3 a4 a5 a6 a7 cB cI rd ph (kd_e k0) pl bg hh mm vv (kd_e (kd_fill (kd_kb k0 (nI N)) b0 64)) fl mx dg ct) → va_S A H0 H locs → lv_has ls 4 [(3, .int (nI 64)), (0, .ref o), (1, .int nn), (2, .int (nI N))] → W p l e R s m args below meth c H locs 0 0 Q (F0 m 133 ls [])) :
    ∀ (n i : Nat), i + n = 64 → ∀ (H : Heap) (locs : List Loc) (ls : Array Slot), va_P D vwCl (xw o a1 a2 a3 a4 a5 a6 a7 cB cI rd ph (kd_e k0) pl bg hh mm vv (kd_e (kd_fill (kd_kb k0 (nI N)) b0 i)) fl mx dg ct) H → va_D A (xw o a1 a2 a3 a4 a5 a6 a7 cB cI rd ph (kd_e k0) pl bg hh mm vv (kd_e (kd_fill (kd_kb k0 (nI N)) b0 i)) fl mx dg ct) → va_S A H0 H locs → lv_has ls 4 [(3, .int (nI i)), (0, .ref o), (1, .int nn), (2, .int (nI N))] → W p l e R s m args below meth c H locs 0 0 Q (F0 m 100 ls []) := by
  have hx := S.1
  have hb := S.2.1
  have hown := S.2.2.2.1
  have hts := S.2.2.2.2
  intro n
  induction n with
  | zero =>
    intro i hi  H locs ls hP hD hS hl
    obtain rfl : i = 64 := by omega
    refine lv_iload_n hx hb dX0_start_100 rfl (lv_at hl 0 rfl) ?_
    refine lv_bipush (v := 64) hx hb dX0_start_101 (by decide) ?_
    refine lv_icmp_ge (tgt := 133) hx hb dX0_start_103 (by decide) (fun hc => ?_) (fun hc => ?_)
    · exact kx H locs ls hP (x_D hD) hS hl
    · exact absurd (by decide) hc
  | succ n ih =>
    intro i hi  H locs ls hP hD hS hl
    refine lv_iload_n hx hb dX0_start_100 rfl (lv_at hl 0 rfl) ?_
    refine lv_bipush (v := 64) hx hb dX0_start_101 (by decide) ?_
    refine lv_icmp_ge (tgt := 133) hx hb dX0_start_103 (by decide) (fun hc => ?_) (fun hc => ?_)
    · exact absurd hc (nI_ge (a := i) (b := 64) (by omega) (by omega))
    · refine lv_aload_n hx hb dX0_start_106 rfl (lv_at hl 1 rfl) ?_
      refine xg_a7 S hK hP dX0_start_107 ?_
      refine lv_iload_n hx hb dX0_start_110 rfl (lv_at hl 0 rfl) ?_
      refine lv_iload_n hx hb dX0_start_111 rfl (lv_at hl 0 rfl) ?_
      refine lv_iload_n hx hb dX0_start_112 rfl (lv_at hl 3 rfl) ?_
      refine lv_icmp_ge (tgt := 125) hx hb dX0_start_113 (by decide) (fun h1 => ?_) (fun h1 => ?_)
      · refine lv_iconst (v := 0) hx hb dX0_start_125 (by decide) ?_
        refine xs_bk (j := i) (g := kd_e (kd_fill (kd_kb k0 (nI N)) b0 (i + 1))) S hK hP hD hS (kd_ix_n (by omega) (by omega)) (kd_kb_st (y := 0) rfl (kd_kb_0 h1)) dX0_start_126 (fun H locs hP hD hS => ?_)
        refine lv_iinc (v := nI (i + 1)) (lv' := [(3, .int (nI (i + 1))), (0, .ref o), (1, .int nn), (2, .int (nI N))]) hx hb dX0_start_127 hl (k := 0) rfl (nI_1 i) (by decide) rfl (fun ls hl => ?_)
        refine lv_goto (tgt := 100) hx hb dX0_start_130 (by decide) ?_
        exact ih (i + 1) (by omega) H locs ls hP hD hS hl
      · have hlt : i < N := kd_nlt (by omega) (by omega) h1
        refine lv_aload_n hx hb dX0_start_116 rfl (lv_at hl 1 rfl) ?_
        refine xg_a1 S hK hP dX0_start_117 ?_
        refine lv_iload_n hx hb dX0_start_120 rfl (lv_at hl 0 rfl) ?_
        refine xl_ky (j := i) S hK hP (kd_ix_n (by omega) (by omega)) dX0_start_121 ?_
        refine lv_goto (tgt := 126) hx hb dX0_start_122 (by decide) ?_
        refine xs_bk (j := i) (g := kd_e (kd_fill (kd_kb k0 (nI N)) b0 (i + 1))) S hK hP hD hS (kd_ix_n (by omega) (by omega)) (kd_kb_st (y := k0 i) (kd_sx_sx (k0 i)) (kd_kb_1 h1)) dX0_start_126 (fun H locs hP hD hS => ?_)
        refine lv_iinc (v := nI (i + 1)) (lv' := [(3, .int (nI (i + 1))), (0, .ref o), (1, .int nn), (2, .int (nI N))]) hx hb dX0_start_127 hl (k := 0) rfl (nI_1 i) (by decide) rfl (fun ls hl => ?_)
        refine lv_goto (tgt := 100) hx hb dX0_start_130 (by decide) ?_
        exact ih (i + 1) (by omega) H locs ls hP hD hS hl
end XST
set_option maxHeartbeats 4000000 in
/-- start(nn, kk) -/
theorem metX0_start (l : Launch) (D : va_G) (o a1 a2 a3 a4 a5 a6 a7 : Nat) (cB cI : ClassId) (rd ph : Int32) (k0 pl bg mm vv : Nat → Int32) (K : kd_C) (dg : Int32) (ct : Int64) (sz : Nat) (nn kk : Int32) (hrb : ¬ rd = 0 → bg = kd_iv) : kd_MI l yX0_start cX0_start 4 .boolean ({ frames := 0, cells := 0, slots := 0, locals := 0 } : Room) [.ref o, .int nn, .int kk] D (tyL cB cI) (xw o a1 a2 a3 a4 a5 a6 a7 cB cI rd ph (kd_e k0) pl bg K.1 mm vv (kd_e K.2.1) (nI K.2.2.1) K.2.2.2 dg ct) sz (fun r w => (kd_cst rd nn kk ∧ r = 1 ∧ ∃ mm1 vv1 : Nat → Int32, w = (xw o a1 a2 a3 a4 a5 a6 a7 cB cI rd 1 (kd_e k0) pl bg ((kd_st K k0 nn kk).1) mm1 vv1 (kd_e (kd_st K k0 nn kk).2.1) (nI (kd_st K k0 nn kk).2.2.1) ((kd_st K k0 nn kk).2.2.2) nn 0)) ∨ (¬ kd_cst rd nn kk ∧ r = 0 ∧ ∃ mm1 vv1 : Nat → Int32, w = (xw o a1 a2 a3 a4 a5 a6 a7 cB cI rd ph (kd_e k0) pl bg K.1 mm1 vv1 (kd_e K.2.1) (nI K.2.2.1) K.2.2.2 dg ct))) := by
  obtain ⟨hh, b0, f, mx⟩ := K
  refine kd_mi (by decide) (Nat.le_of_ble_eq_true rfl) ?_
  intro p e s m below meth c ls A S hr hlk hA hP hK hD hS hl
  have S : CallFix p m c cX0_start 4 s _ lw_all RX0 := S
  have hl : lv_has ls 4 [(0, .ref o), (1, .int nn), (2, .int kk)] := hl
  have hx := S.1
  have hb := S.2.1
  have hown := S.2.2.2.1
  have hts := S.2.2.2.2
  have hP : va_P D vwCl (xw o a1 a2 a3 a4 a5 a6 a7 cB cI rd ph (kd_e k0) pl bg hh mm vv (kd_e b0) (nI f) mx dg ct) s.heap := hP
  have hD : va_D A (xw o a1 a2 a3 a4 a5 a6 a7 cB cI rd ph (kd_e k0) pl bg hh mm vv (kd_e b0) (nI f) mx dg ct) := hD
  refine lv_aload_n hx hb dX0_start_0 rfl (lv_at hl 0 rfl) ?_
  refine xg_rd S hK hP dX0_start_1 ?_
  refine lv_if_eq (tgt := 28) hx hb dX0_start_4 (by decide) (fun h1 => ?_) (fun h1 => ?_)
  · refine lv_iconst (v := 0) hx hb dX0_start_28 (by decide) ?_
    exact kd_iend S hr rfl hlk hK hP hD hS (Or.inr ⟨fun q => q.1 h1, rfl, mm, vv, rfl⟩) dX0_start_29
  · refine lv_iload_n hx hb dX0_start_7 rfl (lv_at hl 1 rfl) ?_
    refine lv_iconst (v := 1) hx hb dX0_start_8 (by decide) ?_
    refine lv_icmp_lt (tgt := 28) hx hb dX0_start_9 (by decide) (fun h2 => ?_) (fun h2 => ?_)
    · refine lv_iconst (v := 0) hx hb dX0_start_28 (by decide) ?_
      exact kd_iend S hr rfl hlk hK hP hD hS (Or.inr ⟨fun q => q.2.1 h2, rfl, mm, vv, rfl⟩) dX0_start_29
    · refine lv_iload_n hx hb dX0_start_12 rfl (lv_at hl 1 rfl) ?_
      refine lv_bipush (v := 32) hx hb dX0_start_13 (by decide) ?_
      refine lv_icmp_gt (tgt := 28) hx hb dX0_start_15 (by decide) (fun h3 => ?_) (fun h3 => ?_)
      · refine lv_iconst (v := 0) hx hb dX0_start_28 (by decide) ?_
        exact kd_iend S hr rfl hlk hK hP hD hS (Or.inr ⟨fun q => q.2.2.1 h3, rfl, mm, vv, rfl⟩) dX0_start_29
      · refine lv_iload_n hx hb dX0_start_18 rfl (lv_at hl 2 rfl) ?_
        refine lv_if_lt (tgt := 28) hx hb dX0_start_19 (by decide) (fun h4 => ?_) (fun h4 => ?_)
        · refine lv_iconst (v := 0) hx hb dX0_start_28 (by decide) ?_
          exact kd_iend S hr rfl hlk hK hP hD hS (Or.inr ⟨fun q => q.2.2.2.1 h4, rfl, mm, vv, rfl⟩) dX0_start_29
        · refine lv_iload_n hx hb dX0_start_22 rfl (lv_at hl 2 rfl) ?_
          refine lv_bipush (v := 32) hx hb dX0_start_23 (by decide) ?_
          refine lv_icmp_le (tgt := 30) hx hb dX0_start_25 (by decide) (fun h5 => ?_) (fun h5 => ?_)
          · have hbg := hrb h1
            subst hbg
            refine lv_iconst (v := 0) hx hb dX0_start_30 (by decide) ?_
            refine lv_istore_n (lv' := [(3, .int 0), (0, .ref o), (1, .int nn), (2, .int kk)]) hx hb dX0_start_31 rfl hl (by decide) rfl (fun ls hl => ?_)
            refine kd_Xst1 (hh := hh) S hK ?_ 8 0 rfl _ _ _ (by rw [kd_fill_0]; exact hP) (by rw [kd_fill_0]; exact hD) hS hl
            intro H locs ls hP hD hS hl
            refine lv_aload_n hx hb dX0_start_56 rfl (lv_at hl 1 rfl) ?_
            refine xg_a4 S hK hP dX0_start_57 ?_
            refine lv_iconst (v := 0) hx hb dX0_start_60 (by decide) ?_
            refine lv_dup2_11 hx hb dX0_start_61 rfl rfl ?_
            refine xl_hh (j := 0) S hK hP (kd_ix_n (j := 0) (by omega) (by omega)) dX0_start_62 ?_
            refine lv_ldc hx hb hown (hts _ q99) dX0_start_63 ?_
            refine lv_iload_n hx hb dX0_start_65 rfl (lv_at hl 3 rfl) ?_
            refine lv_bipush (v := 8) hx hb dX0_start_66 (by decide) ?_
            refine lv_ishl hx hb dX0_start_68 ?_
            refine lv_ixor hx hb dX0_start_69 ?_
            refine lv_iload_n hx hb dX0_start_70 rfl (lv_at hl 2 rfl) ?_
            refine lv_ixor hx hb dX0_start_71 ?_
            refine lv_ixor hx hb dX0_start_72 ?_
            refine xs_hh (j := 0) (g := upd kd_iv 0 (kd_hd nn kk)) S hK hP hD hS (kd_ix_n (j := 0) (by omega) (by omega)) rfl dX0_start_73 (fun H locs hP hD hS => ?_)
            refine lv_aload_n hx hb dX0_start_74 rfl (lv_at hl 1 rfl) ?_
            refine lv_iload_n hx hb dX0_start_75 rfl (lv_at hl 2 rfl) ?_
            refine xp_dg (x := nn) S hK hP hD hS dX0_start_76 (fun H locs hP hD hS => ?_)
            refine lv_aload_n hx hb dX0_start_79 rfl (lv_at hl 1 rfl) ?_
            refine lv_iconst (v := 0) hx hb dX0_start_80 (by decide) ?_
            refine xp_fl (x := 0) S hK hP hD hS dX0_start_81 (fun H locs hP hD hS => ?_)
            refine lv_aload_n hx hb dX0_start_84 rfl (lv_at hl 1 rfl) ?_
            refine lv_lconst (v := 0) hx hb dX0_start_85 (by decide) ?_
            refine xp_mx (x := 0) S hK hP hD hS dX0_start_86 (fun H locs hP hD hS => ?_)
            refine lv_aload_n hx hb dX0_start_89 rfl (lv_at hl 1 rfl) ?_
            refine lv_lconst (v := 0) hx hb dX0_start_90 (by decide) ?_
            refine xp_ct (x := 0) S hK hP hD hS dX0_start_91 (fun H locs hP hD hS => ?_)
            refine lv_iload_n hx hb dX0_start_94 rfl (lv_at hl 3 rfl) ?_
            refine lv_if_le (tgt := 139) hx hb dX0_start_95 (by decide) (fun h6 => ?_) (fun h6 => ?_)
            · refine lv_aload_n hx hb dX0_start_139 rfl (lv_at hl 1 rfl) ?_
              refine lv_iconst (v := 1) hx hb dX0_start_140 (by decide) ?_
              refine xp_ph (x := 1) S hK hP hD hS dX0_start_141 (fun H locs hP hD hS => ?_)
              refine lv_iconst (v := 1) hx hb dX0_start_144 (by decide) ?_
              exact kd_iend S hr rfl hlk hK hP hD hS (Or.inl ⟨⟨h1, h2, h3, h4, h5⟩, rfl, mm, vv, congrArg (fun K : kd_C => (xw o a1 a2 a3 a4 a5 a6 a7 cB cI rd 1 (kd_e k0) pl kd_iv K.1 mm vv (kd_e K.2.1) (nI K.2.2.1) K.2.2.2 nn 0)) (kd_st_0 k0 nn h6).symm⟩) dX0_start_145
            · refine lv_iconst (v := 0) hx hb dX0_start_98 (by decide) ?_
              refine lv_istore_n (lv' := [(3, .int 0), (0, .ref o), (1, .int nn), (2, .int kk)]) hx hb dX0_start_99 rfl hl (by decide) rfl (fun ls hl => ?_)
              obtain ⟨N, hN, rfl⟩ := kd_cnt (M := 32) (by omega) h4 h5
              refine kd_Xst2 (b0 := b0) hN S hK ?_ 64 0 rfl _ _ _ (by rw [kd_fill_0]; exact hP) (by rw [kd_fill_0]; exact hD) hS hl
              intro H locs ls hP hD hS hl
              refine lv_aload_n hx hb dX0_start_133 rfl (lv_at hl 1 rfl) ?_
              refine lv_bipush (v := 64) hx hb dX0_start_134 (by decide) ?_
              refine xp_fl (x := 64) S hK hP hD hS dX0_start_136 (fun H locs hP hD hS => ?_)
              refine lv_aload_n hx hb dX0_start_139 rfl (lv_at hl 1 rfl) ?_
              refine lv_iconst (v := 1) hx hb dX0_start_140 (by decide) ?_
              refine xp_ph (x := 1) S hK hP hD hS dX0_start_141 (fun H locs hP hD hS => ?_)
              refine lv_iconst (v := 1) hx hb dX0_start_144 (by decide) ?_
              exact kd_iend S hr rfl hlk hK hP hD hS (Or.inl ⟨⟨h1, h2, h3, h4, h5⟩, rfl, mm, vv, congrArg (fun K : kd_C => (xw o a1 a2 a3 a4 a5 a6 a7 cB cI rd 1 (kd_e k0) pl kd_iv K.1 mm vv (kd_e K.2.1) (nI K.2.2.1) K.2.2.2 nn 0)) (kd_st_1 k0 nn h6).symm⟩) dX0_start_145
          · refine lv_iconst (v := 0) hx hb dX0_start_28 (by decide) ?_
            exact kd_iend S hr rfl hlk hK hP hD hS (Or.inr ⟨fun q => h5 q.2.2.2.2, rfl, mm, vv, rfl⟩) dX0_start_29
section XROW
variable {p : Program} {l : Launch} {e : Env} {R : Room} {s : State} {m : MethodId} {args : Array Value} {below : List Frame} {meth : Method} {c : Code} {Q : State → Prop} {D : va_G} {A : Nat → Prop} {H0 : Heap}
variable {o a1 a2 a3 a4 a5 a6 a7 : Nat} {cB cI : ClassId} {rd ph fl dg : Int32} {ky pl bg hh mm vv bk : Nat → Int32} {mx ct : Int64}
variable {r : Nat} {dd : Int64}
set_option maxHeartbeats 4000000 in
theorem kd_Xrow (hr10 : r < 10) (hdig : ∀ k, k < 16 → kd_dig dd k = kd_tbl (16 * r + k)) (S : CallFix p m c cX0_row 5 s args lw_all RX0) (hK : va_K D vwCl (tyL cB cI) s)
    (kx : ∀ (H : Heap) (locs : List Loc) (ls : Array Slot), va_P D vwCl (xw o a1 a2 a3 a4 a5 a6 a7 cB cI rd ph ky (kd_fill kd_tbl pl (16 * r + 16)) bg hh mm vv bk fl mx dg ct) H → va_D A (xw o a1 a2 a3 a4 a5 a6 a7 cB cI rd ph ky (kd_fill kd_tbl pl (16 * r + 16)) bg hh mm vv bk fl mx dg ct) → va_S A H0 H locs → lv_has ls 5 [(4, .int (nI 16)), (0, .ref o), (1, .int (nI r)), (2, .long dd)] → W p l e R s m args below meth c H locs 0 0 Q (F0 m 43 ls [])) :
    ∀ (n i : Nat), i + n = 16 → ∀ (H : Heap) (locs : List Loc) (ls : Array Slot), va_P D vwCl (xw o a1 a2 a3 a4 a5 a6 a7 cB cI rd ph ky (kd_fill kd_tbl pl (16 * r + i)) bg hh mm vv bk fl mx dg ct) H → va_D A (xw o a1 a2 a3 a4 a5 a6 a7 cB cI rd ph ky (kd_fill kd_tbl pl (16 * r + i)) bg hh mm vv bk fl mx dg ct) → va_S A H0 H locs → lv_has ls 5 [(4, .int (nI i)), (0, .ref o), (1, .int (nI r)), (2, .long dd)] → W p l e R s m args below meth c H locs 0 0 Q (F0 m 3 ls []) := by
  have hx := S.1
  have hb := S.2.1
  have hown := S.2.2.2.1
  have hts := S.2.2.2.2
  intro n
  induction n with
  | zero =>
    intro i hi  H locs ls hP hD hS hl
    obtain rfl : i = 16 := by omega
    refine lv_iload hx hb dX0_row_3 (lv_at hl 0 rfl) ?_
    refine lv_bipush (v := 16) hx hb dX0_row_5 (by decide) ?_
    refine lv_icmp_ge (tgt := 43) hx hb dX0_row_7 (by decide) (fun hc => ?_) (fun hc => ?_)
    · exact kx H locs ls hP (x_D hD) hS hl
    · exact absurd (by decide) hc
  | succ n ih =>
    intro i hi  H locs ls hP hD hS hl
    refine lv_iload hx hb dX0_row_3 (lv_at hl 0 rfl) ?_
    refine lv_bipush (v := 16) hx hb dX0_row_5 (by decide) ?_
    refine lv_icmp_ge (tgt := 43) hx hb dX0_row_7 (by decide) (fun hc => ?_) (fun hc => ?_)
    · exact absurd hc (nI_ge (a := i) (b := 16) (by omega) (by omega))
    · refine lv_aload_n hx hb dX0_row_10 rfl (lv_at hl 1 rfl) ?_
      refine xg_a2 S hK hP dX0_row_11 ?_
      refine lv_bipush (v := 16) hx hb dX0_row_14 (by decide) ?_
      refine lv_iload_n hx hb dX0_row_16 rfl (lv_at hl 2 rfl) ?_
      refine lv_imul hx hb dX0_row_17 ?_
      refine lv_iload hx hb dX0_row_18 (lv_at hl 0 rfl) ?_
      refine lv_iadd hx hb dX0_row_20 ?_
      refine lv_lload_n hx hb dX0_row_21 rfl (lv_at hl 3 rfl) ?_
      refine lv_bipush (v := 60) hx hb dX0_row_22 (by decide) ?_
      refine lv_iconst (v := 4) hx hb dX0_row_24 (by decide) ?_
      refine lv_iload hx hb dX0_row_25 (lv_at hl 0 rfl) ?_
      refine lv_imul hx hb dX0_row_27 ?_
      refine lv_isub hx hb dX0_row_28 ?_
      refine lv_lushr hx hb dX0_row_29 rfl ?_
      refine lv_ldc2 hx hb hown (hts _ q70) dX0_row_30 ?_
      refine lv_land hx hb dX0_row_33 ?_
      refine lv_l2i hx hb dX0_row_34 rfl ?_
      refine lv_i2b hx hb dX0_row_35 rfl ?_
      refine xs_pl (j := (16 * r + i)) (g := kd_fill kd_tbl pl (16 * r + (i + 1))) S hK hP hD hS (kd_ix_e (kd_a (pk_mul 16 r) i) (by omega) (by omega)) (kd_fill_s ((kd_dig_2 dd i).trans (hdig i (by omega)))) dX0_row_36 (fun H locs hP hD hS => ?_)
      refine lv_iinc (v := nI (i + 1)) (lv' := [(4, .int (nI (i + 1))), (0, .ref o), (1, .int (nI r)), (2, .long dd)]) hx hb dX0_row_37 hl (k := 0) rfl (nI_1 i) (by decide) rfl (fun ls hl => ?_)
      refine lv_goto (tgt := 3) hx hb dX0_row_40 (by decide) ?_
      exact ih (i + 1) (by omega) H locs ls hP hD hS hl
end XROW
set_option maxHeartbeats 4000000 in
/-- row(r, digits) -/
theorem metX0_row (l : Launch) (D : va_G) (o a1 a2 a3 a4 a5 a6 a7 : Nat) (cB cI : ClassId) (rd ph : Int32) (ky pl bg hh mm vv bk : Nat → Int32) (fl : Int32) (mx : Int64) (dg : Int32) (ct : Int64) (sz : Nat) (r : Nat) (dd : Int64) (hr10 : r < 10) (hdig : ∀ k, k < 16 → kd_dig dd k = kd_tbl (16 * r + k)) : kd_MV l yX0_row cX0_row 5 ({ frames := 0, cells := 0, slots := 0, locals := 0 } : Room) [.ref o, .int (nI r), .long dd] D (tyL cB cI) (xw o a1 a2 a3 a4 a5 a6 a7 cB cI rd ph ky (kd_fill kd_tbl pl (16 * r)) bg hh mm vv bk fl mx dg ct) sz (fun w => w = (xw o a1 a2 a3 a4 a5 a6 a7 cB cI rd ph ky (kd_fill kd_tbl pl (16 * (r + 1))) bg hh mm vv bk fl mx dg ct)) := by
  refine kd_mv (by decide) (Nat.le_of_ble_eq_true rfl) ?_
  intro p e s m below meth c ls A S hr hlk hnm hA hP hK hD hS hl
  have S : CallFix p m c cX0_row 5 s _ lw_all RX0 := S
  have hl : lv_has ls 5 [(0, .ref o), (1, .int (nI r)), (2, .long dd)] := hl
  have hx := S.1
  have hb := S.2.1
  have hown := S.2.2.2.1
  have hts := S.2.2.2.2
  refine lv_iconst (v := 0) hx hb dX0_row_0 (by decide) ?_
  refine lv_istore (lv' := [(4, .int 0), (0, .ref o), (1, .int (nI r)), (2, .long dd)]) hx hb dX0_row_1 hl (by decide) rfl (fun ls hl => ?_)
  refine kd_Xrow (pl := pl) hr10 hdig S hK ?_ 16 0 rfl _ _ _ hP hD hS hl
  intro H locs ls hP hD hS hl
  exact kd_vend S hr hlk hK hP hD hS rfl dX0_row_43
section XINI
variable {p : Program} {l : Launch} {e : Env} {R : Room} {s : State} {m : MethodId} {args : Array Value} {below : List Frame} {meth : Method} {c : Code} {Q : State → Prop} {D : va_G} {A : Nat → Prop} {H0 : Heap}
variable {o a1 a2 a3 a4 a5 a6 a7 : Nat} {cB cI : ClassId} {rd ph fl dg : Int32} {ky pl bg hh mm vv bk : Nat → Int32} {mx ct : Int64}
set_option maxHeartbeats 4000000 in
theorem kd_Xin  (S : CallFix p m c cX0_init_2 2 s args lw_all RX0) (hK : va_K D vwCl (tyL cB cI) s)
    (kx : ∀ (H : Heap) (locs : List Loc) (ls : Array Slot), va_P D vwCl (xw o a1 a2 a3 a4 a5 a6 a7 cB cI rd ph (kd_e (fun _ => 0)) pl bg hh mm vv bk fl mx dg ct) H → va_D A (xw o a1 a2 a3 a4 a5 a6 a7 cB cI rd ph (kd_e (fun _ => 0)) pl bg hh mm vv bk fl mx dg ct) → va_S A H0 H locs → lv_has ls 2 [(1, .int (nI 32)), (0, .ref o)] → W p l e R s m args below meth c H locs 0 0 Q (F0 m 171 ls [])) :
    ∀ (n i : Nat), i + n = 32 → ∀ (H : Heap) (locs : List Loc) (ls : Array Slot), va_P D vwCl (xw o a1 a2 a3 a4 a5 a6 a7 cB cI rd ph (kd_fill (fun _ => 0) ky i) pl bg hh mm vv bk fl mx dg ct) H → va_D A (xw o a1 a2 a3 a4 a5 a6 a7 cB cI rd ph (kd_fill (fun _ => 0) ky i) pl bg hh mm vv bk fl mx dg ct) → va_S A H0 H locs → lv_has ls 2 [(1, .int (nI i)), (0, .ref o)] → W p l e R s m args below meth c H locs 0 0 Q (F0 m 152 ls []) := by
  have hx := S.1
  have hb := S.2.1
  have hown := S.2.2.2.1
  have hts := S.2.2.2.2
  intro n
  induction n with
  | zero =>
    intro i hi  H locs ls hP hD hS hl
    obtain rfl : i = 32 := by omega
    refine lv_iload_n hx hb dX0_init_2_152 rfl (lv_at hl 0 rfl) ?_
    refine lv_bipush (v := 32) hx hb dX0_init_2_153 (by decide) ?_
    refine lv_icmp_ge (tgt := 171) hx hb dX0_init_2_155 (by decide) (fun hc => ?_) (fun hc => ?_)
    · have hP := xc_ky (g := kd_e (fun _ => 0)) hP (fun j hj => (kd_fill_in hj).trans kd_sx_0.symm)
      exact kx H locs ls hP (x_D hD) hS hl
    · exact absurd (by decide) hc
  | succ n ih =>
    intro i hi  H locs ls hP hD hS hl
    refine lv_iload_n hx hb dX0_init_2_152 rfl (lv_at hl 0 rfl) ?_
    refine lv_bipush (v := 32) hx hb dX0_init_2_153 (by decide) ?_
    refine lv_icmp_ge (tgt := 171) hx hb dX0_init_2_155 (by decide) (fun hc => ?_) (fun hc => ?_)
    · exact absurd hc (nI_ge (a := i) (b := 32) (by omega) (by omega))
    · refine lv_aload_n hx hb dX0_init_2_158 rfl (lv_at hl 1 rfl) ?_
      refine xg_a1 S hK hP dX0_init_2_159 ?_
      refine lv_iload_n hx hb dX0_init_2_162 rfl (lv_at hl 0 rfl) ?_
      refine lv_iconst (v := 0) hx hb dX0_init_2_163 (by decide) ?_
      refine xs_ky (j := i) (g := kd_fill (fun _ => 0) ky (i + 1)) S hK hP hD hS (kd_ix_n (by omega) (by omega)) (kd_fill_s (by decide)) dX0_init_2_164 (fun H locs hP hD hS => ?_)
      refine lv_iinc (v := nI (i + 1)) (lv' := [(1, .int (nI (i + 1))), (0, .ref o)]) hx hb dX0_init_2_165 hl (k := 0) rfl (nI_1 i) (by decide) rfl (fun ls hl => ?_)
      refine lv_goto (tgt := 152) hx hb dX0_init_2_168 (by decide) ?_
      exact ih (i + 1) (by omega) H locs ls hP hD hS hl
end XINI
set_option maxHeartbeats 4000000 in
/-- init() -/
theorem metX0_init_2 (l : Launch) (D : va_G) (o a1 a2 a3 a4 a5 a6 a7 : Nat) (cB cI : ClassId) (rd ph : Int32) (ky pl bg hh mm vv bk : Nat → Int32) (fl : Int32) (mx : Int64) (dg : Int32) (ct : Int64) (sz : Nat) : kd_MV l yX0_init_2 cX0_init_2 2 ({ frames := 1, cells := 0, slots := 0, locals := 24 } : Room) [.ref o] D (tyL cB cI) (xw o a1 a2 a3 a4 a5 a6 a7 cB cI rd ph ky pl bg hh mm vv bk fl mx dg ct) sz (fun w => w = (xw o a1 a2 a3 a4 a5 a6 a7 cB cI 1 0 (kd_e (fun _ => 0)) kd_tbl kd_iv hh mm vv bk fl mx dg ct)) := by
  refine kd_mv (by decide) (Nat.le_of_ble_eq_true rfl) ?_
  intro p e s m below meth c ls A S hr hlk hnm hA hP hK hD hS hl
  have S : CallFix p m c cX0_init_2 2 s _ lw_all RX0 := S
  have hl : lv_has ls 2 [(0, .ref o)] := hl
  have hx := S.1
  have hb := S.2.1
  have hown := S.2.2.2.1
  have hts := S.2.2.2.2
  have hP : va_P D vwCl (xw o a1 a2 a3 a4 a5 a6 a7 cB cI rd ph ky (kd_fill kd_tbl pl (16 * 0)) bg hh mm vv bk fl mx dg ct) s.heap := by rw [kd_fill_0]; exact hP
  have hD : va_D A (xw o a1 a2 a3 a4 a5 a6 a7 cB cI rd ph ky (kd_fill kd_tbl pl (16 * 0)) bg hh mm vv bk fl mx dg ct) := by rw [kd_fill_0]; exact hD
  refine lv_aload_n hx hb dX0_init_2_0 rfl (lv_at hl 0 rfl) ?_
  refine lv_iconst (v := 0) hx hb dX0_init_2_1 (by decide) ?_
  refine lv_ldc2 hx hb hown (hts _ q65) dX0_init_2_2 ?_
  refine kd_cv (rest := []) S (metX0_row l D o a1 a2 a3 a4 a5 a6 a7 cB cI rd ph ky pl bg hh mm vv bk fl mx dg ct _ 0 81985529216486895 (by omega) kd_r0) (cwV 2 hts (lw_V q66 q68 qs0 q9 q69) rfl rfl rfl (by decide +kernel) ⟨Nat.le_of_ble_eq_true rfl, Nat.le_of_ble_eq_true rfl⟩) hK hP hD hS hA (x_rec hK hP) rfl hl.1 rfl (Nat.le_of_ble_eq_true rfl) dX0_init_2_5 ⟨Nat.zero_le _, Nat.zero_le _⟩ (fun w H locs hw hP hD hS => ?_)
  subst hw
  have hP : va_P D vwCl (xw o a1 a2 a3 a4 a5 a6 a7 cB cI rd ph ky (kd_fill kd_tbl pl (16 * 1)) bg hh mm vv bk fl mx dg ct) H := hP
  have hD : va_D A (xw o a1 a2 a3 a4 a5 a6 a7 cB cI rd ph ky (kd_fill kd_tbl pl (16 * 1)) bg hh mm vv bk fl mx dg ct) := hD
  refine lv_aload_n hx hb dX0_init_2_8 rfl (lv_at hl 0 rfl) ?_
  refine lv_iconst (v := 1) hx hb dX0_init_2_9 (by decide) ?_
  refine lv_ldc2 hx hb hown (hts _ q71) dX0_init_2_10 ?_
  refine kd_cv (rest := []) S (metX0_row l D o a1 a2 a3 a4 a5 a6 a7 cB cI rd ph ky pl bg hh mm vv bk fl mx dg ct H.size 1 (-1564825128569489581) (by omega) kd_r1) (cwV 2 hts (lw_V q66 q68 qs0 q9 q69) rfl rfl rfl (by decide +kernel) ⟨Nat.le_of_ble_eq_true rfl, Nat.le_of_ble_eq_true rfl⟩) hK hP hD hS hA (x_rec hK hP) rfl hl.1 rfl (Nat.le_of_ble_eq_true rfl) dX0_init_2_13 ⟨Nat.zero_le _, Nat.zero_le _⟩ (fun w H locs hw hP hD hS => ?_)
  subst hw
  have hP : va_P D vwCl (xw o a1 a2 a3 a4 a5 a6 a7 cB cI rd ph ky (kd_fill kd_tbl pl (16 * 2)) bg hh mm vv bk fl mx dg ct) H := hP
  have hD : va_D A (xw o a1 a2 a3 a4 a5 a6 a7 cB cI rd ph ky (kd_fill kd_tbl pl (16 * 2)) bg hh mm vv bk fl mx dg ct) := hD
  refine lv_aload_n hx hb dX0_init_2_16 rfl (lv_at hl 0 rfl) ?_
  refine lv_iconst (v := 2) hx hb dX0_init_2_17 (by decide) ?_
  refine lv_ldc2 hx hb hown (hts _ q72) dX0_init_2_18 ?_
  refine kd_cv (rest := []) S (metX0_row l D o a1 a2 a3 a4 a5 a6 a7 cB cI rd ph ky pl bg hh mm vv bk fl mx dg ct H.size 2 (-5134012325699358316) (by omega) kd_r2) (cwV 2 hts (lw_V q66 q68 qs0 q9 q69) rfl rfl rfl (by decide +kernel) ⟨Nat.le_of_ble_eq_true rfl, Nat.le_of_ble_eq_true rfl⟩) hK hP hD hS hA (x_rec hK hP) rfl hl.1 rfl (Nat.le_of_ble_eq_true rfl) dX0_init_2_21 ⟨Nat.zero_le _, Nat.zero_le _⟩ (fun w H locs hw hP hD hS => ?_)
  subst hw
  have hP : va_P D vwCl (xw o a1 a2 a3 a4 a5 a6 a7 cB cI rd ph ky (kd_fill kd_tbl pl (16 * 3)) bg hh mm vv bk fl mx dg ct) H := hP
  have hD : va_D A (xw o a1 a2 a3 a4 a5 a6 a7 cB cI rd ph ky (kd_fill kd_tbl pl (16 * 3)) bg hh mm vv bk fl mx dg ct) := hD
  refine lv_aload_n hx hb dX0_init_2_24 rfl (lv_at hl 0 rfl) ?_
  refine lv_iconst (v := 3) hx hb dX0_init_2_25 (by decide) ?_
  refine lv_ldc2 hx hb hown (hts _ q73) dX0_init_2_26 ?_
  refine kd_cv (rest := []) S (metX0_row l D o a1 a2 a3 a4 a5 a6 a7 cB cI rd ph ky pl bg hh mm vv bk fl mx dg ct H.size 3 8733003861693448440 (by omega) kd_r3) (cwV 2 hts (lw_V q66 q68 qs0 q9 q69) rfl rfl rfl (by decide +kernel) ⟨Nat.le_of_ble_eq_true rfl, Nat.le_of_ble_eq_true rfl⟩) hK hP hD hS hA (x_rec hK hP) rfl hl.1 rfl (Nat.le_of_ble_eq_true rfl) dX0_init_2_29 ⟨Nat.zero_le _, Nat.zero_le _⟩ (fun w H locs hw hP hD hS => ?_)
  subst hw
  have hP : va_P D vwCl (xw o a1 a2 a3 a4 a5 a6 a7 cB cI rd ph ky (kd_fill kd_tbl pl (16 * 4)) bg hh mm vv bk fl mx dg ct) H := hP
  have hD : va_D A (xw o a1 a2 a3 a4 a5 a6 a7 cB cI rd ph ky (kd_fill kd_tbl pl (16 * 4)) bg hh mm vv bk fl mx dg ct) := hD
  refine lv_aload_n hx hb dX0_init_2_32 rfl (lv_at hl 0 rfl) ?_
  refine lv_iconst (v := 4) hx hb dX0_init_2_33 (by decide) ?_
  refine lv_ldc2 hx hb hown (hts _ q74) dX0_init_2_34 ?_
  refine kd_cv (rest := []) S (metX0_row l D o a1 a2 a3 a4 a5 a6 a7 cB cI rd ph ky pl bg hh mm vv bk fl mx dg ct H.size 4 (-8045921871449003971) (by omega) kd_r4) (cwV 2 hts (lw_V q66 q68 qs0 q9 q69) rfl rfl rfl (by decide +kernel) ⟨Nat.le_of_ble_eq_true rfl, Nat.le_of_ble_eq_true rfl⟩) hK hP hD hS hA (x_rec hK hP) rfl hl.1 rfl (Nat.le_of_ble_eq_true rfl) dX0_init_2_37 ⟨Nat.zero_le _, Nat.zero_le _⟩ (fun w H locs hw hP hD hS => ?_)
  subst hw
  have hP : va_P D vwCl (xw o a1 a2 a3 a4 a5 a6 a7 cB cI rd ph ky (kd_fill kd_tbl pl (16 * 5)) bg hh mm vv bk fl mx dg ct) H := hP
  have hD : va_D A (xw o a1 a2 a3 a4 a5 a6 a7 cB cI rd ph ky (kd_fill kd_tbl pl (16 * 5)) bg hh mm vv bk fl mx dg ct) := hD
  refine lv_aload_n hx hb dX0_init_2_40 rfl (lv_at hl 0 rfl) ?_
  refine lv_iconst (v := 5) hx hb dX0_init_2_41 (by decide) ?_
  refine lv_ldc2 hx hb hown (hts _ q75) dX0_init_2_42 ?_
  refine kd_cv (rest := []) S (metX0_row l D o a1 a2 a3 a4 a5 a6 a7 cB cI rd ph ky pl bg hh mm vv bk fl mx dg ct H.size 5 3200383143768358425 (by omega) kd_r5) (cwV 2 hts (lw_V q66 q68 qs0 q9 q69) rfl rfl rfl (by decide +kernel) ⟨Nat.le_of_ble_eq_true rfl, Nat.le_of_ble_eq_true rfl⟩) hK hP hD hS hA (x_rec hK hP) rfl hl.1 rfl (Nat.le_of_ble_eq_true rfl) dX0_init_2_45 ⟨Nat.zero_le _, Nat.zero_le _⟩ (fun w H locs hw hP hD hS => ?_)
  subst hw
  have hP : va_P D vwCl (xw o a1 a2 a3 a4 a5 a6 a7 cB cI rd ph ky (kd_fill kd_tbl pl (16 * 6)) bg hh mm vv bk fl mx dg ct) H := hP
  have hD : va_D A (xw o a1 a2 a3 a4 a5 a6 a7 cB cI rd ph ky (kd_fill kd_tbl pl (16 * 6)) bg hh mm vv bk fl mx dg ct) := hD
  refine lv_aload_n hx hb dX0_init_2_48 rfl (lv_at hl 0 rfl) ?_
  refine lv_bipush (v := 6) hx hb dX0_init_2_49 (by decide) ?_
  refine lv_ldc2 hx hb hown (hts _ q76) dX0_init_2_51 ?_
  refine kd_cv (rest := []) S (metX0_row l D o a1 a2 a3 a4 a5 a6 a7 cB cI rd ph ky pl bg hh mm vv bk fl mx dg ct H.size 6 (-4242411421752388981) (by omega) kd_r6) (cwV 2 hts (lw_V q66 q68 qs0 q9 q69) rfl rfl rfl (by decide +kernel) ⟨Nat.le_of_ble_eq_true rfl, Nat.le_of_ble_eq_true rfl⟩) hK hP hD hS hA (x_rec hK hP) rfl hl.1 rfl (Nat.le_of_ble_eq_true rfl) dX0_init_2_54 ⟨Nat.zero_le _, Nat.zero_le _⟩ (fun w H locs hw hP hD hS => ?_)
  subst hw
  have hP : va_P D vwCl (xw o a1 a2 a3 a4 a5 a6 a7 cB cI rd ph ky (kd_fill kd_tbl pl (16 * 7)) bg hh mm vv bk fl mx dg ct) H := hP
  have hD : va_D A (xw o a1 a2 a3 a4 a5 a6 a7 cB cI rd ph ky (kd_fill kd_tbl pl (16 * 7)) bg hh mm vv bk fl mx dg ct) := hD
  refine lv_aload_n hx hb dX0_init_2_57 rfl (lv_at hl 0 rfl) ?_
  refine lv_bipush (v := 7) hx hb dX0_init_2_58 (by decide) ?_
  refine lv_ldc2 hx hb hown (hts _ q77) dX0_init_2_60 ?_
  refine kd_cv (rest := []) S (metX0_row l D o a1 a2 a3 a4 a5 a6 a7 cB cI rd ph ky pl bg hh mm vv bk fl mx dg ct H.size 7 (-2630452680422291926) (by omega) kd_r7) (cwV 2 hts (lw_V q66 q68 qs0 q9 q69) rfl rfl rfl (by decide +kernel) ⟨Nat.le_of_ble_eq_true rfl, Nat.le_of_ble_eq_true rfl⟩) hK hP hD hS hA (x_rec hK hP) rfl hl.1 rfl (Nat.le_of_ble_eq_true rfl) dX0_init_2_63 ⟨Nat.zero_le _, Nat.zero_le _⟩ (fun w H locs hw hP hD hS => ?_)
  subst hw
  have hP : va_P D vwCl (xw o a1 a2 a3 a4 a5 a6 a7 cB cI rd ph ky (kd_fill kd_tbl pl (16 * 8)) bg hh mm vv bk fl mx dg ct) H := hP
  have hD : va_D A (xw o a1 a2 a3 a4 a5 a6 a7 cB cI rd ph ky (kd_fill kd_tbl pl (16 * 8)) bg hh mm vv bk fl mx dg ct) := hD
  refine lv_aload_n hx hb dX0_init_2_66 rfl (lv_at hl 0 rfl) ?_
  refine lv_bipush (v := 8) hx hb dX0_init_2_67 (by decide) ?_
  refine lv_ldc2 hx hb hown (hts _ q78) dX0_init_2_69 ?_
  refine kd_cv (rest := []) S (metX0_row l D o a1 a2 a3 a4 a5 a6 a7 cB cI rd ph ky pl bg hh mm vv bk fl mx dg ct H.size 8 8064173457993569445 (by omega) kd_r8) (cwV 2 hts (lw_V q66 q68 qs0 q9 q69) rfl rfl rfl (by decide +kernel) ⟨Nat.le_of_ble_eq_true rfl, Nat.le_of_ble_eq_true rfl⟩) hK hP hD hS hA (x_rec hK hP) rfl hl.1 rfl (Nat.le_of_ble_eq_true rfl) dX0_init_2_72 ⟨Nat.zero_le _, Nat.zero_le _⟩ (fun w H locs hw hP hD hS => ?_)
  subst hw
  have hP : va_P D vwCl (xw o a1 a2 a3 a4 a5 a6 a7 cB cI rd ph ky (kd_fill kd_tbl pl (16 * 9)) bg hh mm vv bk fl mx dg ct) H := hP
  have hD : va_D A (xw o a1 a2 a3 a4 a5 a6 a7 cB cI rd ph ky (kd_fill kd_tbl pl (16 * 9)) bg hh mm vv bk fl mx dg ct) := hD
  refine lv_aload_n hx hb dX0_init_2_75 rfl (lv_at hl 0 rfl) ?_
  refine lv_bipush (v := 9) hx hb dX0_init_2_76 (by decide) ?_
  refine lv_ldc2 hx hb hown (hts _ q79) dX0_init_2_78 ?_
  refine kd_cv (rest := []) S (metX0_row l D o a1 a2 a3 a4 a5 a6 a7 cB cI rd ph ky pl bg hh mm vv bk fl mx dg ct H.size 9 (-6736129305851577136) (by omega) kd_r9) (cwV 2 hts (lw_V q66 q68 qs0 q9 q69) rfl rfl rfl (by decide +kernel) ⟨Nat.le_of_ble_eq_true rfl, Nat.le_of_ble_eq_true rfl⟩) hK hP hD hS hA (x_rec hK hP) rfl hl.1 rfl (Nat.le_of_ble_eq_true rfl) dX0_init_2_81 ⟨Nat.zero_le _, Nat.zero_le _⟩ (fun w H locs hw hP hD hS => ?_)
  subst hw
  have hP : va_P D vwCl (xw o a1 a2 a3 a4 a5 a6 a7 cB cI rd ph ky (kd_fill kd_tbl pl (16 * 10)) bg hh mm vv bk fl mx dg ct) H := hP
  have hD : va_D A (xw o a1 a2 a3 a4 a5 a6 a7 cB cI rd ph ky (kd_fill kd_tbl pl (16 * 10)) bg hh mm vv bk fl mx dg ct) := hD
  have hP := xc_pl (g := kd_tbl) hP (fun j hj => kd_fill_in hj)
  have hP : va_P D vwCl (xw o a1 a2 a3 a4 a5 a6 a7 cB cI rd ph ky kd_tbl (kd_fill kd_iv bg 0) hh mm vv bk fl mx dg ct) H := by rw [kd_fill_0]; exact hP
  have hD : va_D A (xw o a1 a2 a3 a4 a5 a6 a7 cB cI rd ph ky kd_tbl (kd_fill kd_iv bg 0) hh mm vv bk fl mx dg ct) := x_D hD
  refine lv_aload_n hx hb dX0_init_2_84 rfl (lv_at hl 0 rfl) ?_
  refine xg_a3 S hK hP dX0_init_2_85 ?_
  refine lv_iconst (v := 0) hx hb dX0_init_2_88 (by decide) ?_
  refine lv_ldc hx hb hown (hts _ q80) dX0_init_2_89 ?_
  refine xs_bg (j := 0) (g := kd_fill kd_iv bg 1) S hK hP hD hS (kd_ix_n (j := 0) (by omega) (by omega)) (kd_fill_s rfl) dX0_init_2_91 (fun H locs hP hD hS => ?_)
  refine lv_aload_n hx hb dX0_init_2_92 rfl (lv_at hl 0 rfl) ?_
  refine xg_a3 S hK hP dX0_init_2_93 ?_
  refine lv_iconst (v := 1) hx hb dX0_init_2_96 (by decide) ?_
  refine lv_ldc hx hb hown (hts _ q81) dX0_init_2_97 ?_
  refine xs_bg (j := 1) (g := kd_fill kd_iv bg 2) S hK hP hD hS (kd_ix_n (j := 1) (by omega) (by omega)) (kd_fill_s rfl) dX0_init_2_99 (fun H locs hP hD hS => ?_)
  refine lv_aload_n hx hb dX0_init_2_100 rfl (lv_at hl 0 rfl) ?_
  refine xg_a3 S hK hP dX0_init_2_101 ?_
  refine lv_iconst (v := 2) hx hb dX0_init_2_104 (by decide) ?_
  refine lv_ldc hx hb hown (hts _ q82) dX0_init_2_105 ?_
  refine xs_bg (j := 2) (g := kd_fill kd_iv bg 3) S hK hP hD hS (kd_ix_n (j := 2) (by omega) (by omega)) (kd_fill_s rfl) dX0_init_2_107 (fun H locs hP hD hS => ?_)
  refine lv_aload_n hx hb dX0_init_2_108 rfl (lv_at hl 0 rfl) ?_
  refine xg_a3 S hK hP dX0_init_2_109 ?_
  refine lv_iconst (v := 3) hx hb dX0_init_2_112 (by decide) ?_
  refine lv_ldc hx hb hown (hts _ q83) dX0_init_2_113 ?_
  refine xs_bg (j := 3) (g := kd_fill kd_iv bg 4) S hK hP hD hS (kd_ix_n (j := 3) (by omega) (by omega)) (kd_fill_s rfl) dX0_init_2_115 (fun H locs hP hD hS => ?_)
  refine lv_aload_n hx hb dX0_init_2_116 rfl (lv_at hl 0 rfl) ?_
  refine xg_a3 S hK hP dX0_init_2_117 ?_
  refine lv_iconst (v := 4) hx hb dX0_init_2_120 (by decide) ?_
  refine lv_ldc hx hb hown (hts _ q84) dX0_init_2_121 ?_
  refine xs_bg (j := 4) (g := kd_fill kd_iv bg 5) S hK hP hD hS (kd_ix_n (j := 4) (by omega) (by omega)) (kd_fill_s rfl) dX0_init_2_123 (fun H locs hP hD hS => ?_)
  refine lv_aload_n hx hb dX0_init_2_124 rfl (lv_at hl 0 rfl) ?_
  refine xg_a3 S hK hP dX0_init_2_125 ?_
  refine lv_iconst (v := 5) hx hb dX0_init_2_128 (by decide) ?_
  refine lv_ldc hx hb hown (hts _ q85) dX0_init_2_129 ?_
  refine xs_bg (j := 5) (g := kd_fill kd_iv bg 6) S hK hP hD hS (kd_ix_n (j := 5) (by omega) (by omega)) (kd_fill_s rfl) dX0_init_2_131 (fun H locs hP hD hS => ?_)
  refine lv_aload_n hx hb dX0_init_2_132 rfl (lv_at hl 0 rfl) ?_
  refine xg_a3 S hK hP dX0_init_2_133 ?_
  refine lv_bipush (v := 6) hx hb dX0_init_2_136 (by decide) ?_
  refine lv_ldc hx hb hown (hts _ q86) dX0_init_2_138 ?_
  refine xs_bg (j := 6) (g := kd_fill kd_iv bg 7) S hK hP hD hS (kd_ix_n (j := 6) (by omega) (by omega)) (kd_fill_s rfl) dX0_init_2_140 (fun H locs hP hD hS => ?_)
  refine lv_aload_n hx hb dX0_init_2_141 rfl (lv_at hl 0 rfl) ?_
  refine xg_a3 S hK hP dX0_init_2_142 ?_
  refine lv_bipush (v := 7) hx hb dX0_init_2_145 (by decide) ?_
  refine lv_ldc hx hb hown (hts _ q87) dX0_init_2_147 ?_
  refine xs_bg (j := 7) (g := kd_fill kd_iv bg 8) S hK hP hD hS (kd_ix_n (j := 7) (by omega) (by omega)) (kd_fill_s rfl) dX0_init_2_149 (fun H locs hP hD hS => ?_)
  have hP := xc_bg (g := kd_iv) hP (fun j hj => kd_fill_in hj)
  have hD : va_D A (xw o a1 a2 a3 a4 a5 a6 a7 cB cI rd ph ky kd_tbl kd_iv hh mm vv bk fl mx dg ct) := x_D hD
  refine lv_iconst (v := 0) hx hb dX0_init_2_150 (by decide) ?_
  refine lv_istore_n (lv' := [(1, .int 0), (0, .ref o)]) hx hb dX0_init_2_151 rfl hl (by decide) rfl (fun ls hl => ?_)
  refine kd_Xin (ky := ky) S hK ?_ 32 0 rfl _ _ _ (by rw [kd_fill_0]; exact hP) (by rw [kd_fill_0]; exact hD) hS hl
  intro H locs ls hP hD hS hl
  refine lv_aload_n hx hb dX0_init_2_171 rfl (lv_at hl 1 rfl) ?_
  refine lv_iconst (v := 1) hx hb dX0_init_2_172 (by decide) ?_
  refine xp_rd (x := 1) S hK hP hD hS rfl rfl dX0_init_2_173 (fun H locs hP hD hS => ?_)
  refine lv_aload_n hx hb dX0_init_2_176 rfl (lv_at hl 1 rfl) ?_
  refine lv_iconst (v := 0) hx hb dX0_init_2_177 (by decide) ?_
  refine xp_ph (x := 0) S hK hP hD hS dX0_init_2_178 (fun H locs hP hD hS => ?_)
  exact kd_vend S hr hlk hK hP hD hS rfl dX0_init_2_181
set_option maxHeartbeats 4000000 in
/-- out(i) -/
theorem metX0_out (l : Launch) (D : va_G) (o a1 a2 a3 a4 a5 a6 a7 : Nat) (cB cI : ClassId) (rd ph : Int32) (ky pl bg hh mm vv bk : Nat → Int32) (fl : Int32) (mx : Int64) (dg : Int32) (ct : Int64) (i : Int32) (h32 : ph = 2 → dg ≤ 32) : kd_MR l yX0_out cX0_out 2 .int ({ frames := 0, cells := 0, slots := 0, locals := 0 } : Room) [.ref o, .int i] D (tyL cB cI) (xw o a1 a2 a3 a4 a5 a6 a7 cB cI rd ph ky pl bg hh mm vv bk fl mx dg ct) (kd_out ph dg hh i) := by
  refine kd_mr (by decide) (Nat.le_of_ble_eq_true rfl) ?_
  intro p e s m below meth c ls S hr hlk hP hK hl
  have S : CallFix p m c cX0_out 2 s _ lw_all RX0 := S
  have hl : lv_has ls 2 [(0, .ref o), (1, .int i)] := hl
  have hx := S.1
  have hb := S.2.1
  have hown := S.2.2.2.1
  have hts := S.2.2.2.2
  refine lv_aload_n hx hb dX0_out_0 rfl (lv_at hl 0 rfl) ?_
  refine xg_ph S hK hP dX0_out_1 ?_
  refine lv_iconst (v := 2) hx hb dX0_out_4 (by decide) ?_
  refine lv_icmp_ne (tgt := 20) hx hb dX0_out_5 (by decide) (fun h1 => ?_) (fun h1 => ?_)
  · refine lv_iconst (v := (-1)) hx hb dX0_out_20 (by decide) ?_
    refine lv_goto (tgt := 43) hx hb dX0_out_21 (by decide) ?_
    exact kd_rend S hr rfl hlk (if_neg (fun q => h1 q.1)).symm dX0_out_43
  · refine lv_iload_n hx hb dX0_out_8 rfl (lv_at hl 1 rfl) ?_
    refine lv_if_lt (tgt := 20) hx hb dX0_out_9 (by decide) (fun h2 => ?_) (fun h2 => ?_)
    · refine lv_iconst (v := (-1)) hx hb dX0_out_20 (by decide) ?_
      refine lv_goto (tgt := 43) hx hb dX0_out_21 (by decide) ?_
      exact kd_rend S hr rfl hlk (if_neg (fun q => q.2.1 h2)).symm dX0_out_43
    · refine lv_iload_n hx hb dX0_out_12 rfl (lv_at hl 1 rfl) ?_
      refine lv_aload_n hx hb dX0_out_13 rfl (lv_at hl 0 rfl) ?_
      refine xg_dg S hK hP dX0_out_14 ?_
      refine lv_icmp_lt (tgt := 24) hx hb dX0_out_17 (by decide) (fun h3 => ?_) (fun h3 => ?_)
      · refine lv_aload_n hx hb dX0_out_24 rfl (lv_at hl 0 rfl) ?_
        refine xg_a4 S hK hP dX0_out_25 ?_
        refine lv_iload_n hx hb dX0_out_28 rfl (lv_at hl 1 rfl) ?_
        refine lv_iconst (v := 4) hx hb dX0_out_29 (by decide) ?_
        refine lv_idiv hx hb dX0_out_30 (by decide) ?_
        refine xl_hh (j := (i / 4).toNatClampNeg) S hK hP (kd_ix4 h2 h3 (h32 h1)) dX0_out_31 ?_
        refine lv_bipush (v := 8) hx hb dX0_out_32 (by decide) ?_
        refine lv_iload_n hx hb dX0_out_34 rfl (lv_at hl 1 rfl) ?_
        refine lv_iconst (v := 4) hx hb dX0_out_35 (by decide) ?_
        refine lv_irem hx hb dX0_out_36 (by decide) ?_
        refine lv_imul hx hb dX0_out_37 ?_
        refine lv_iushr hx hb dX0_out_38 rfl ?_
        refine lv_sipush (v := 255) hx hb dX0_out_39 (by decide) ?_
        refine lv_iand hx hb dX0_out_42 ?_
        exact kd_rend S hr rfl hlk (if_pos ⟨h1, h2, h3⟩).symm dX0_out_43
      · refine lv_iconst (v := (-1)) hx hb dX0_out_20 (by decide) ?_
        refine lv_goto (tgt := 43) hx hb dX0_out_21 (by decide) ?_
        exact kd_rend S hr rfl hlk (if_neg (fun q => h3 q.2.2)).symm dX0_out_43
set_option maxHeartbeats 4000000 in
/-- length() -/
theorem metX0_length (l : Launch) (D : va_G) (o a1 a2 a3 a4 a5 a6 a7 : Nat) (cB cI : ClassId) (rd ph : Int32) (ky pl bg hh mm vv bk : Nat → Int32) (fl : Int32) (mx : Int64) (dg : Int32) (ct : Int64) : kd_MR l yX0_length cX0_length 1 .int ({ frames := 0, cells := 0, slots := 0, locals := 0 } : Room) [.ref o] D (tyL cB cI) (xw o a1 a2 a3 a4 a5 a6 a7 cB cI rd ph ky pl bg hh mm vv bk fl mx dg ct) (kd_len ph ct) := by
  refine kd_mr (by decide) (Nat.le_of_ble_eq_true rfl) ?_
  intro p e s m below meth c ls S hr hlk hP hK hl
  have S : CallFix p m c cX0_length 1 s _ lw_all RX0 := S
  have hl : lv_has ls 1 [(0, .ref o)] := hl
  have hx := S.1
  have hb := S.2.1
  have hown := S.2.2.2.1
  have hts := S.2.2.2.2
  refine lv_aload_n hx hb dX0_length_0 rfl (lv_at hl 0 rfl) ?_
  refine xg_ph S hK hP dX0_length_1 ?_
  refine lv_if_ne (tgt := 11) hx hb dX0_length_4 (by decide) (fun h1 => ?_) (fun h1 => ?_)
  · refine lv_aload_n hx hb dX0_length_11 rfl (lv_at hl 0 rfl) ?_
    refine xg_ct S hK hP dX0_length_12 ?_
    refine lv_l2i hx hb dX0_length_15 rfl ?_
    exact kd_rend S hr rfl hlk (if_neg h1).symm dX0_length_16
  · refine lv_iconst (v := (-1)) hx hb dX0_length_7 (by decide) ?_
    refine lv_goto (tgt := 16) hx hb dX0_length_8 (by decide) ?_
    exact kd_rend S hr rfl hlk (if_pos h1).symm dX0_length_16
set_option maxHeartbeats 4000000 in
/-- word(i) -/
theorem metX0_word (l : Launch) (D : va_G) (o a1 a2 a3 a4 a5 a6 a7 : Nat) (cB cI : ClassId) (rd ph : Int32) (ky pl bg hh mm vv bk : Nat → Int32) (fl : Int32) (mx : Int64) (dg : Int32) (ct : Int64) (i : Int32) : kd_MR l yX0_word cX0_word 2 .int ({ frames := 0, cells := 0, slots := 0, locals := 0 } : Room) [.ref o, .int i] D (tyL cB cI) (xw o a1 a2 a3 a4 a5 a6 a7 cB cI rd ph ky pl bg hh mm vv bk fl mx dg ct) (kd_wd ph hh i) := by
  refine kd_mr (by decide) (Nat.le_of_ble_eq_true rfl) ?_
  intro p e s m below meth c ls S hr hlk hP hK hl
  have S : CallFix p m c cX0_word 2 s _ lw_all RX0 := S
  have hl : lv_has ls 2 [(0, .ref o), (1, .int i)] := hl
  have hx := S.1
  have hb := S.2.1
  have hown := S.2.2.2.1
  have hts := S.2.2.2.2
  refine lv_aload_n hx hb dX0_word_0 rfl (lv_at hl 0 rfl) ?_
  refine xg_ph S hK hP dX0_word_1 ?_
  refine lv_if_eq (tgt := 17) hx hb dX0_word_4 (by decide) (fun h1 => ?_) (fun h1 => ?_)
  · refine lv_iconst (v := 0) hx hb dX0_word_17 (by decide) ?_
    refine lv_goto (tgt := 27) hx hb dX0_word_18 (by decide) ?_
    exact kd_rend S hr rfl hlk (if_neg (fun q => q.1 h1)).symm dX0_word_27
  · refine lv_iload_n hx hb dX0_word_7 rfl (lv_at hl 1 rfl) ?_
    refine lv_if_lt (tgt := 17) hx hb dX0_word_8 (by decide) (fun h2 => ?_) (fun h2 => ?_)
    · refine lv_iconst (v := 0) hx hb dX0_word_17 (by decide) ?_
      refine lv_goto (tgt := 27) hx hb dX0_word_18 (by decide) ?_
      exact kd_rend S hr rfl hlk (if_neg (fun q => q.2.1 h2)).symm dX0_word_27
    · refine lv_iload_n hx hb dX0_word_11 rfl (lv_at hl 1 rfl) ?_
      refine lv_bipush (v := 7) hx hb dX0_word_12 (by decide) ?_
      refine lv_icmp_le (tgt := 21) hx hb dX0_word_14 (by decide) (fun h3 => ?_) (fun h3 => ?_)
      · refine lv_aload_n hx hb dX0_word_21 rfl (lv_at hl 0 rfl) ?_
        refine xg_a4 S hK hP dX0_word_22 ?_
        refine lv_iload_n hx hb dX0_word_25 rfl (lv_at hl 1 rfl) ?_
        refine xl_hh (j := i.toNatClampNeg) S hK hP (kd_ixl (n := 7) (by omega) h2 h3) dX0_word_26 ?_
        exact kd_rend S hr rfl hlk (if_pos ⟨h1, h2, h3⟩).symm dX0_word_27
      · refine lv_iconst (v := 0) hx hb dX0_word_17 (by decide) ?_
        refine lv_goto (tgt := 27) hx hb dX0_word_18 (by decide) ?_
        exact kd_rend S hr rfl hlk (if_neg (fun q => h3 q.2.2)).symm dX0_word_27
end
section
/-! pure rows for the model -/
set_option maxRecDepth 100000
theorem kd_h1a (v : Nat → Int32) (a b : Nat) (x : Int32) : upd v a (v a + v b + x) = kd_h1 v a b x := by
  unfold kd_h1
  rw [Int32.add_assoc]
theorem kd_vs_lo (h : Nat → Int32) {i : Nat} (hi : i < 8) : h i = kd_vs h i := (if_pos hi).symm
theorem kd_vs_hi (h : Nat → Int32) {i : Nat} (hi : 8 ≤ i) : kd_iv (i - 8) = kd_vs h i := (if_neg (by omega)).symm
theorem kd_xoa (h v : Nat → Int32) (i : Nat) : kd_fill (kd_xo h v) h i i ^^^ v i ^^^ v (i + 8) = kd_xo h v i := by
  rw [kd_fill_out (Nat.le_refl i), Int32.xor_assoc, Nat.add_comm i 8]
  rfl
theorem kd_op_0 {ph : Int32} (h : kd_op ph = 0) : ¬ ph = 1 := by
  intro q
  unfold kd_op at h
  rw [if_pos q] at h
  exact absurd h (by decide)
theorem kd_op_1 {ph : Int32} (h : ¬ kd_op ph = 0) : ph = 1 := by
  by_cases q : ph = 1
  · exact q
  · unfold kd_op at h
    rw [if_neg q] at h
    exact absurd rfl h
theorem kd_do_0 {ph : Int32} (h : kd_do ph = 0) : ¬ ph = 2 := by
  intro q
  unfold kd_do at h
  rw [if_pos q] at h
  exact absurd h (by decide)
theorem kd_do_1 {ph : Int32} (h : ¬ kd_do ph = 0) : ph = 2 := by
  by_cases q : ph = 2
  · exact q
  · unfold kd_do at h
    rw [if_neg q] at h
    exact absurd rfl h
theorem kd_op0 : kd_op 0 = 0 := by decide
theorem kd_op1 : kd_op 1 = 1 := by decide
theorem kd_op2 : kd_op 2 = 0 := by decide
theorem kd_do0 : kd_do 0 = 0 := by decide
theorem kd_do1 : kd_do 1 = 0 := by decide
theorem kd_do2 : kd_do 2 = 1 := by decide
theorem kd_t32 (ct : Int64) : ct.toInt32 + 1 = (ct + 1).toInt32 := by
  rw [Int64.toInt32_add]
  rfl
theorem kd_t32n (ct : Int64) (i : Nat) : (ct + lN i).toInt32 + 1 = (ct + lN (i + 1)).toInt32 := by rw [kd_t32, kd_ct]
theorem kd_shl8 {N : Nat} (h : N ≤ 32) : nI N <<< ((8 : Int32) &&& 31) = nI N * 256 := by
  rw [show nI N * 256 = nI (N * 256) from pk_mul N 256]
  exact pk_shlN _ 8 (by decide) (by omega)
theorem kd_hdm (nn : Int32) {N : Nat} (h : N ≤ 32) : kd_iv 0 ^^^ 16842752 ^^^ nI N * 256 ^^^ nn = kd_hd nn (nI N) := by
  unfold kd_hd
  rw [kd_shl8 h]
  simp only [Int32.xor_assoc]
theorem kd_8_7 {i : Int32} (h : ¬ 8 ≤ i) : i ≤ 7 := by
  have h := kd_not_le h
  rw [Int32.lt_iff_toInt_lt] at h
  rw [Int32.le_iff_toInt_le]
  have e8 : (8 : Int32).toInt = 8 := by decide
  have e7 : (7 : Int32).toInt = 7 := by decide
  omega
theorem kd_7_8 {i : Int32} (h : 8 ≤ i) : ¬ i ≤ 7 := by
  rw [Int32.le_iff_toInt_le] at h ⊢
  have e8 : (8 : Int32).toInt = 8 := by decide
  have e7 : (7 : Int32).toInt = 7 := by decide
  omega
theorem kd_tks {h b0 F : Nat → Int32} {i : Nat} {n : Int64} {b : Int32} (hi : i < 64) (e : b = F i) : kd_tk (h, kd_fill F b0 i, i, n) b = (h, kd_fill F b0 (i + 1), i + 1, n) := by
  rw [kd_tk_0 (by omega), kd_fill_s e]
theorem kd_le_lt {a b : Int32} (h : ¬ a ≤ b) : ¬ a < b := by
  have := kd_not_le h
  rw [Int32.lt_iff_toInt_lt] at this ⊢
  omega
end
section
set_option maxRecDepth 100000
set_option maxHeartbeats 4000000 in
/-- first(k) -/
theorem metX1_first (l : Launch) (x : Int32) (k : Nat) (hk : k < 8) (ek : x = nI k) : kd_MS l yX1_first cX1_first 1 .int ({ frames := 0, cells := 0, slots := 0, locals := 0 } : Room) [.int x] (kd_iv k) := by
  subst ek
  refine kd_ms (by decide) (Nat.le_of_ble_eq_true rfl) ?_
  intro p e s m below meth c ls S hr hlk hl
  have S : CallFix p m c cX1_first 1 s _ lw_all RX1 := S
  have hl : lv_has ls 1 [(0, .int (nI k))] := hl
  have hx := S.1
  have hb := S.2.1
  have hown := S.2.2.2.1
  have hts := S.2.2.2.2
  refine lv_iload_n hx hb dX1_first_0 rfl (lv_at hl 0 rfl) ?_
  rcases (show k = 0 ∨ k = 1 ∨ k = 2 ∨ k = 3 ∨ k = 4 ∨ k = 5 ∨ k = 6 ∨ k = 7 by omega) with rfl | rfl | rfl | rfl | rfl | rfl | rfl | rfl
  · refine lv_tableIn (off := 43) (tgt := 44) hx hb dX1_first_1 (by decide) (by decide) rfl (by decide) ?_
    refine lv_ldc hx hb hown (hts _ q209) dX1_first_44 ?_
    exact kd_rend S hr rfl hlk rfl dX1_first_46
  · refine lv_tableIn (off := 46) (tgt := 47) hx hb dX1_first_1 (by decide) (by decide) rfl (by decide) ?_
    refine lv_ldc hx hb hown (hts _ q210) dX1_first_47 ?_
    exact kd_rend S hr rfl hlk rfl dX1_first_49
  · refine lv_tableIn (off := 49) (tgt := 50) hx hb dX1_first_1 (by decide) (by decide) rfl (by decide) ?_
    refine lv_ldc hx hb hown (hts _ q211) dX1_first_50 ?_
    exact kd_rend S hr rfl hlk rfl dX1_first_52
  · refine lv_tableIn (off := 52) (tgt := 53) hx hb dX1_first_1 (by decide) (by decide) rfl (by decide) ?_
    refine lv_ldc hx hb hown (hts _ q212) dX1_first_53 ?_
    exact kd_rend S hr rfl hlk rfl dX1_first_55
  · refine lv_tableIn (off := 55) (tgt := 56) hx hb dX1_first_1 (by decide) (by decide) rfl (by decide) ?_
    refine lv_ldc hx hb hown (hts _ q213) dX1_first_56 ?_
    exact kd_rend S hr rfl hlk rfl dX1_first_58
  · refine lv_tableIn (off := 58) (tgt := 59) hx hb dX1_first_1 (by decide) (by decide) rfl (by decide) ?_
    refine lv_ldc hx hb hown (hts _ q214) dX1_first_59 ?_
    exact kd_rend S hr rfl hlk rfl dX1_first_61
  · refine lv_tableIn (off := 61) (tgt := 62) hx hb dX1_first_1 (by decide) (by decide) rfl (by decide) ?_
    refine lv_ldc hx hb hown (hts _ q215) dX1_first_62 ?_
    exact kd_rend S hr rfl hlk rfl dX1_first_64
  · refine lv_tableOut (tgt := 65) hx hb dX1_first_1 (Or.inr (by decide)) (by decide) ?_
    refine lv_ldc hx hb hown (hts _ q216) dX1_first_65 ?_
    exact kd_rend S hr rfl hlk rfl dX1_first_67
set_option maxHeartbeats 4000000 in
/-- g(a, b, c, d, x, y) -/
theorem metX1_g (l : Launch) (D : va_G) (o b1 b2 b3 b4 b5 b6 : Nat) (cB cI : ClassId) (rd io dn : Int32) (ky hh vv mm bk : Nat → Int32) (fl : Int32) (mx : Int64) (cm sz : Int32) (rw : Nat → Int32) (hz : Nat) (xa xb xc xd x y : Int32) (ja jb jc jd : Nat) (ha : kd_ix xa ja 16) (hb9 : kd_ix xb jb 16) (hc : kd_ix xc jc 16) (hd : kd_ix xd jd 16) : kd_MV l yX1_g cX1_g 7 ({ frames := 1, cells := 0, slots := 0, locals := 21 } : Room) [.ref o, .int xa, .int xb, .int xc, .int xd, .int x, .int y] D (tyL cB cI) (mw o b1 b2 b3 b4 b5 b6 cI rd io dn ky hh vv mm bk fl mx cm sz rw) hz (fun w => w = (mw o b1 b2 b3 b4 b5 b6 cI rd io dn ky hh (kd_G vv ja jb jc jd x y) mm bk fl mx cm sz rw)) := by
  refine kd_mv (by decide) (Nat.le_of_ble_eq_true rfl) ?_
  intro p e s m below meth c ls A S hr hlk hnm hA hP hK hD hS hl
  have S : CallFix p m c cX1_g 7 s _ lw_all RX1 := S
  have hl : lv_has ls 7 [(0, .ref o), (1, .int xa), (2, .int xb), (3, .int xc), (4, .int xd), (5, .int x), (6, .int y)] := hl
  have hx := S.1
  have hb := S.2.1
  have hown := S.2.2.2.1
  have hts := S.2.2.2.2
  refine lv_aload_n hx hb dX1_g_0 rfl (lv_at hl 0 rfl) ?_
  refine mg_b3 S hK hP dX1_g_1 ?_
  refine lv_iload_n hx hb dX1_g_4 rfl (lv_at hl 1 rfl) ?_
  refine lv_aload_n hx hb dX1_g_5 rfl (lv_at hl 0 rfl) ?_
  refine mg_b3 S hK hP dX1_g_6 ?_
  refine lv_iload_n hx hb dX1_g_9 rfl (lv_at hl 1 rfl) ?_
  refine ml_vv (j := ja) S hK hP ha dX1_g_10 ?_
  refine lv_aload_n hx hb dX1_g_11 rfl (lv_at hl 0 rfl) ?_
  refine mg_b3 S hK hP dX1_g_12 ?_
  refine lv_iload_n hx hb dX1_g_15 rfl (lv_at hl 2 rfl) ?_
  refine ml_vv (j := jb) S hK hP hb9 dX1_g_16 ?_
  refine lv_iadd hx hb dX1_g_17 ?_
  refine lv_iload hx hb dX1_g_18 (lv_at hl 5 rfl) ?_
  refine lv_iadd hx hb dX1_g_20 ?_
  refine ms_vv (j := ja) (g := kd_h1 vv ja jb x) S hK hP hD hS ha (kd_h1a _ _ _ _) dX1_g_21 (fun H locs hP hD hS => ?_)
  refine lv_aload_n hx hb dX1_g_22 rfl (lv_at hl 0 rfl) ?_
  refine mg_b3 S hK hP dX1_g_23 ?_
  refine lv_iload hx hb dX1_g_26 (lv_at hl 4 rfl) ?_
  refine lv_aload_n hx hb dX1_g_28 rfl (lv_at hl 0 rfl) ?_
  refine mg_b3 S hK hP dX1_g_29 ?_
  refine lv_iload hx hb dX1_g_32 (lv_at hl 4 rfl) ?_
  refine ml_vv (j := jd) S hK hP hd dX1_g_34 ?_
  refine lv_aload_n hx hb dX1_g_35 rfl (lv_at hl 0 rfl) ?_
  refine mg_b3 S hK hP dX1_g_36 ?_
  refine lv_iload_n hx hb dX1_g_39 rfl (lv_at hl 1 rfl) ?_
  refine ml_vv (j := ja) S hK hP ha dX1_g_40 ?_
  refine lv_ixor hx hb dX1_g_41 ?_
  refine lv_bipush (v := 16) hx hb dX1_g_42 (by decide) ?_
  refine kd_cs (rest := [.int xd, .ref b3]) S (metX1_down l (((kd_h1 vv ja jb x) jd) ^^^ ((kd_h1 vv ja jb x) ja)) 16) (va_cwS 2 hts (lw_S q231 q232 q10 q233) rfl rfl rfl (by decide +kernel) ⟨Nat.le_of_ble_eq_true rfl, Nat.le_of_ble_eq_true rfl⟩) rfl hl.1 rfl (Nat.le_of_ble_eq_true rfl) dX1_g_44 ⟨Nat.zero_le _, Nat.zero_le _⟩ ?_
  refine ms_vv (j := jd) (g := kd_h2 (kd_h1 vv ja jb x) ja jd 16) S hK hP hD hS hd rfl dX1_g_47 (fun H locs hP hD hS => ?_)
  refine lv_aload_n hx hb dX1_g_48 rfl (lv_at hl 0 rfl) ?_
  refine mg_b3 S hK hP dX1_g_49 ?_
  refine lv_iload_n hx hb dX1_g_52 rfl (lv_at hl 3 rfl) ?_
  refine lv_aload_n hx hb dX1_g_53 rfl (lv_at hl 0 rfl) ?_
  refine mg_b3 S hK hP dX1_g_54 ?_
  refine lv_iload_n hx hb dX1_g_57 rfl (lv_at hl 3 rfl) ?_
  refine ml_vv (j := jc) S hK hP hc dX1_g_58 ?_
  refine lv_aload_n hx hb dX1_g_59 rfl (lv_at hl 0 rfl) ?_
  refine mg_b3 S hK hP dX1_g_60 ?_
  refine lv_iload hx hb dX1_g_63 (lv_at hl 4 rfl) ?_
  refine ml_vv (j := jd) S hK hP hd dX1_g_65 ?_
  refine lv_iadd hx hb dX1_g_66 ?_
  refine ms_vv (j := jc) (g := kd_h3 (kd_h2 (kd_h1 vv ja jb x) ja jd 16) jc jd) S hK hP hD hS hc rfl dX1_g_67 (fun H locs hP hD hS => ?_)
  refine lv_aload_n hx hb dX1_g_68 rfl (lv_at hl 0 rfl) ?_
  refine mg_b3 S hK hP dX1_g_69 ?_
  refine lv_iload_n hx hb dX1_g_72 rfl (lv_at hl 2 rfl) ?_
  refine lv_aload_n hx hb dX1_g_73 rfl (lv_at hl 0 rfl) ?_
  refine mg_b3 S hK hP dX1_g_74 ?_
  refine lv_iload_n hx hb dX1_g_77 rfl (lv_at hl 2 rfl) ?_
  refine ml_vv (j := jb) S hK hP hb9 dX1_g_78 ?_
  refine lv_aload_n hx hb dX1_g_79 rfl (lv_at hl 0 rfl) ?_
  refine mg_b3 S hK hP dX1_g_80 ?_
  refine lv_iload_n hx hb dX1_g_83 rfl (lv_at hl 3 rfl) ?_
  refine ml_vv (j := jc) S hK hP hc dX1_g_84 ?_
  refine lv_ixor hx hb dX1_g_85 ?_
  refine lv_bipush (v := 12) hx hb dX1_g_86 (by decide) ?_
  refine kd_cs (rest := [.int xb, .ref b3]) S (metX1_down l (((kd_h3 (kd_h2 (kd_h1 vv ja jb x) ja jd 16) jc jd) jb) ^^^ ((kd_h3 (kd_h2 (kd_h1 vv ja jb x) ja jd 16) jc jd) jc)) 12) (va_cwS 2 hts (lw_S q231 q232 q10 q233) rfl rfl rfl (by decide +kernel) ⟨Nat.le_of_ble_eq_true rfl, Nat.le_of_ble_eq_true rfl⟩) rfl hl.1 rfl (Nat.le_of_ble_eq_true rfl) dX1_g_88 ⟨Nat.zero_le _, Nat.zero_le _⟩ ?_
  refine ms_vv (j := jb) (g := kd_hf vv ja jb jc jd x 16 12) S hK hP hD hS hb9 rfl dX1_g_91 (fun H locs hP hD hS => ?_)
  refine lv_aload_n hx hb dX1_g_92 rfl (lv_at hl 0 rfl) ?_
  refine mg_b3 S hK hP dX1_g_93 ?_
  refine lv_iload_n hx hb dX1_g_96 rfl (lv_at hl 1 rfl) ?_
  refine lv_aload_n hx hb dX1_g_97 rfl (lv_at hl 0 rfl) ?_
  refine mg_b3 S hK hP dX1_g_98 ?_
  refine lv_iload_n hx hb dX1_g_101 rfl (lv_at hl 1 rfl) ?_
  refine ml_vv (j := ja) S hK hP ha dX1_g_102 ?_
  refine lv_aload_n hx hb dX1_g_103 rfl (lv_at hl 0 rfl) ?_
  refine mg_b3 S hK hP dX1_g_104 ?_
  refine lv_iload_n hx hb dX1_g_107 rfl (lv_at hl 2 rfl) ?_
  refine ml_vv (j := jb) S hK hP hb9 dX1_g_108 ?_
  refine lv_iadd hx hb dX1_g_109 ?_
  refine lv_iload hx hb dX1_g_110 (lv_at hl 6 rfl) ?_
  refine lv_iadd hx hb dX1_g_112 ?_
  refine ms_vv (j := ja) (g := kd_h1 (kd_hf vv ja jb jc jd x 16 12) ja jb y) S hK hP hD hS ha (kd_h1a _ _ _ _) dX1_g_113 (fun H locs hP hD hS => ?_)
  refine lv_aload_n hx hb dX1_g_114 rfl (lv_at hl 0 rfl) ?_
  refine mg_b3 S hK hP dX1_g_115 ?_
  refine lv_iload hx hb dX1_g_118 (lv_at hl 4 rfl) ?_
  refine lv_aload_n hx hb dX1_g_120 rfl (lv_at hl 0 rfl) ?_
  refine mg_b3 S hK hP dX1_g_121 ?_
  refine lv_iload hx hb dX1_g_124 (lv_at hl 4 rfl) ?_
  refine ml_vv (j := jd) S hK hP hd dX1_g_126 ?_
  refine lv_aload_n hx hb dX1_g_127 rfl (lv_at hl 0 rfl) ?_
  refine mg_b3 S hK hP dX1_g_128 ?_
  refine lv_iload_n hx hb dX1_g_131 rfl (lv_at hl 1 rfl) ?_
  refine ml_vv (j := ja) S hK hP ha dX1_g_132 ?_
  refine lv_ixor hx hb dX1_g_133 ?_
  refine lv_bipush (v := 8) hx hb dX1_g_134 (by decide) ?_
  refine kd_cs (rest := [.int xd, .ref b3]) S (metX1_down l (((kd_h1 (kd_hf vv ja jb jc jd x 16 12) ja jb y) jd) ^^^ ((kd_h1 (kd_hf vv ja jb jc jd x 16 12) ja jb y) ja)) 8) (va_cwS 2 hts (lw_S q231 q232 q10 q233) rfl rfl rfl (by decide +kernel) ⟨Nat.le_of_ble_eq_true rfl, Nat.le_of_ble_eq_true rfl⟩) rfl hl.1 rfl (Nat.le_of_ble_eq_true rfl) dX1_g_136 ⟨Nat.zero_le _, Nat.zero_le _⟩ ?_
  refine ms_vv (j := jd) (g := kd_h2 (kd_h1 (kd_hf vv ja jb jc jd x 16 12) ja jb y) ja jd 8) S hK hP hD hS hd rfl dX1_g_139 (fun H locs hP hD hS => ?_)
  refine lv_aload_n hx hb dX1_g_140 rfl (lv_at hl 0 rfl) ?_
  refine mg_b3 S hK hP dX1_g_141 ?_
  refine lv_iload_n hx hb dX1_g_144 rfl (lv_at hl 3 rfl) ?_
  refine lv_aload_n hx hb dX1_g_145 rfl (lv_at hl 0 rfl) ?_
  refine mg_b3 S hK hP dX1_g_146 ?_
  refine lv_iload_n hx hb dX1_g_149 rfl (lv_at hl 3 rfl) ?_
  refine ml_vv (j := jc) S hK hP hc dX1_g_150 ?_
  refine lv_aload_n hx hb dX1_g_151 rfl (lv_at hl 0 rfl) ?_
  refine mg_b3 S hK hP dX1_g_152 ?_
  refine lv_iload hx hb dX1_g_155 (lv_at hl 4 rfl) ?_
  refine ml_vv (j := jd) S hK hP hd dX1_g_157 ?_
  refine lv_iadd hx hb dX1_g_158 ?_
  refine ms_vv (j := jc) (g := kd_h3 (kd_h2 (kd_h1 (kd_hf vv ja jb jc jd x 16 12) ja jb y) ja jd 8) jc jd) S hK hP hD hS hc rfl dX1_g_159 (fun H locs hP hD hS => ?_)
  refine lv_aload_n hx hb dX1_g_160 rfl (lv_at hl 0 rfl) ?_
  refine mg_b3 S hK hP dX1_g_161 ?_
  refine lv_iload_n hx hb dX1_g_164 rfl (lv_at hl 2 rfl) ?_
  refine lv_aload_n hx hb dX1_g_165 rfl (lv_at hl 0 rfl) ?_
  refine mg_b3 S hK hP dX1_g_166 ?_
  refine lv_iload_n hx hb dX1_g_169 rfl (lv_at hl 2 rfl) ?_
  refine ml_vv (j := jb) S hK hP hb9 dX1_g_170 ?_
  refine lv_aload_n hx hb dX1_g_171 rfl (lv_at hl 0 rfl) ?_
  refine mg_b3 S hK hP dX1_g_172 ?_
  refine lv_iload_n hx hb dX1_g_175 rfl (lv_at hl 3 rfl) ?_
  refine ml_vv (j := jc) S hK hP hc dX1_g_176 ?_
  refine lv_ixor hx hb dX1_g_177 ?_
  refine lv_bipush (v := 7) hx hb dX1_g_178 (by decide) ?_
  refine kd_cs (rest := [.int xb, .ref b3]) S (metX1_down l (((kd_h3 (kd_h2 (kd_h1 (kd_hf vv ja jb jc jd x 16 12) ja jb y) ja jd 8) jc jd) jb) ^^^ ((kd_h3 (kd_h2 (kd_h1 (kd_hf vv ja jb jc jd x 16 12) ja jb y) ja jd 8) jc jd) jc)) 7) (va_cwS 2 hts (lw_S q231 q232 q10 q233) rfl rfl rfl (by decide +kernel) ⟨Nat.le_of_ble_eq_true rfl, Nat.le_of_ble_eq_true rfl⟩) rfl hl.1 rfl (Nat.le_of_ble_eq_true rfl) dX1_g_180 ⟨Nat.zero_le _, Nat.zero_le _⟩ ?_
  refine ms_vv (j := jb) (g := kd_hf (kd_hf vv ja jb jc jd x 16 12) ja jb jc jd y 8 7) S hK hP hD hS hb9 rfl dX1_g_183 (fun H locs hP hD hS => ?_)
  exact kd_vend S hr hlk hK hP hD hS rfl dX1_g_184
section MMIX
variable {p : Program} {l : Launch} {e : Env} {R : Room} {s : State} {m : MethodId} {args : Array Value} {below : List Frame} {meth : Method} {c : Code} {Q : State → Prop} {D : va_G} {A : Nat → Prop} {H0 : Heap}
variable {o b1 b2 b3 b4 b5 b6 : Nat} {cB cI : ClassId} {rd io dn fl cm sz : Int32} {ky hh vv mm bk rw : Nat → Int32} {mx : Int64}
variable {v0 : Nat → Int32} {last : Int32} {nn : Int64}
set_option maxHeartbeats 4000000 in
theorem kd_Mm1 (hR : 0 + 1 ≤ R.frames ∧ 8 + (1 + 11) + 0 ≤ R.locals) (S : CallFix p m c cX1_mix 5 s args lw_all RX1) (hK : va_K D vwCl (tyL cB cI) s)
    (kx : ∀ (H : Heap) (locs : List Loc) (ls : Array Slot), va_P D vwCl (mw o b1 b2 b3 b4 b5 b6 cI rd io dn ky hh (kd_vs hh) (kd_w bk) bk fl mx cm sz rw) H → va_D A (mw o b1 b2 b3 b4 b5 b6 cI rd io dn ky hh (kd_vs hh) (kd_w bk) bk fl mx cm sz rw) → va_S A H0 H locs → lv_has ls 5 [(4, .int (nI 16)), (0, .ref o), (1, .long nn), (3, .int last)] → W p l e R s m args below meth c H locs 0 0 Q (F0 m 109 ls [])) :
    ∀ (n i : Nat), i + n = 16 → ∀ (H : Heap) (locs : List Loc) (ls : Array Slot), va_P D vwCl (mw o b1 b2 b3 b4 b5 b6 cI rd io dn ky hh (kd_fill (kd_vs hh) vv i) (kd_fill (kd_w bk) mm i) bk fl mx cm sz rw) H → va_D A (mw o b1 b2 b3 b4 b5 b6 cI rd io dn ky hh (kd_fill (kd_vs hh) vv i) (kd_fill (kd_w bk) mm i) bk fl mx cm sz rw) → va_S A H0 H locs → lv_has ls 5 [(4, .int (nI i)), (0, .ref o), (1, .long nn), (3, .int last)] → W p l e R s m args below meth c H locs 0 0 Q (F0 m 3 ls []) := by
  have hx := S.1
  have hb := S.2.1
  have hown := S.2.2.2.1
  have hts := S.2.2.2.2
  intro n
  induction n with
  | zero =>
    intro i hi  H locs ls hP hD hS hl
    obtain rfl : i = 16 := by omega
    refine lv_iload hx hb dX1_mix_3 (lv_at hl 0 rfl) ?_
    refine lv_bipush (v := 16) hx hb dX1_mix_5 (by decide) ?_
    refine lv_icmp_ge (tgt := 109) hx hb dX1_mix_7 (by decide) (fun hc => ?_) (fun hc => ?_)
    · have hP := mc_mm (g := kd_w bk) hP (fun j hj => kd_fill_in hj)
      have hP := mc_vv (g := kd_vs hh) hP (fun j hj => kd_fill_in hj)
      exact kx H locs ls hP (m_D hD) hS hl
    · exact absurd (by decide) hc
  | succ n ih =>
    intro i hi  H locs ls hP hD hS hl
    refine lv_iload hx hb dX1_mix_3 (lv_at hl 0 rfl) ?_
    refine lv_bipush (v := 16) hx hb dX1_mix_5 (by decide) ?_
    refine lv_icmp_ge (tgt := 109) hx hb dX1_mix_7 (by decide) (fun hc => ?_) (fun hc => ?_)
    · exact absurd hc (nI_ge (a := i) (b := 16) (by omega) (by omega))
    · refine lv_aload_n hx hb dX1_mix_10 rfl (lv_at hl 1 rfl) ?_
      refine mg_b4 S hK hP dX1_mix_11 ?_
      refine lv_iload hx hb dX1_mix_14 (lv_at hl 0 rfl) ?_
      refine lv_aload_n hx hb dX1_mix_16 rfl (lv_at hl 1 rfl) ?_
      refine mg_b5 S hK hP dX1_mix_17 ?_
      refine lv_iconst (v := 4) hx hb dX1_mix_20 (by decide) ?_
      refine lv_iload hx hb dX1_mix_21 (lv_at hl 0 rfl) ?_
      refine lv_imul hx hb dX1_mix_23 ?_
      refine ml_bk (j := (4 * i)) S hK hP (kd_ix_e (pk_mul 4 i) (by omega) (by omega)) dX1_mix_24 ?_
      refine lv_aload_n hx hb dX1_mix_25 rfl (lv_at hl 1 rfl) ?_
      refine mg_b5 S hK hP dX1_mix_26 ?_
      refine lv_iconst (v := 4) hx hb dX1_mix_29 (by decide) ?_
      refine lv_iload hx hb dX1_mix_30 (lv_at hl 0 rfl) ?_
      refine lv_imul hx hb dX1_mix_32 ?_
      refine lv_iconst (v := 1) hx hb dX1_mix_33 (by decide) ?_
      refine lv_iadd hx hb dX1_mix_34 ?_
      refine ml_bk (j := (4 * i + 1)) S hK hP (kd_ix_e (kd_a (pk_mul 4 i) 1) (by omega) (by omega)) dX1_mix_35 ?_
      refine lv_bipush (v := 8) hx hb dX1_mix_36 (by decide) ?_
      refine lv_ishl hx hb dX1_mix_38 ?_
      refine lv_ior hx hb dX1_mix_39 ?_
      refine lv_aload_n hx hb dX1_mix_40 rfl (lv_at hl 1 rfl) ?_
      refine mg_b5 S hK hP dX1_mix_41 ?_
      refine lv_iconst (v := 4) hx hb dX1_mix_44 (by decide) ?_
      refine lv_iload hx hb dX1_mix_45 (lv_at hl 0 rfl) ?_
      refine lv_imul hx hb dX1_mix_47 ?_
      refine lv_iconst (v := 2) hx hb dX1_mix_48 (by decide) ?_
      refine lv_iadd hx hb dX1_mix_49 ?_
      refine ml_bk (j := (4 * i + 2)) S hK hP (kd_ix_e (kd_a (pk_mul 4 i) 2) (by omega) (by omega)) dX1_mix_50 ?_
      refine lv_bipush (v := 16) hx hb dX1_mix_51 (by decide) ?_
      refine lv_ishl hx hb dX1_mix_53 ?_
      refine lv_ior hx hb dX1_mix_54 ?_
      refine lv_aload_n hx hb dX1_mix_55 rfl (lv_at hl 1 rfl) ?_
      refine mg_b5 S hK hP dX1_mix_56 ?_
      refine lv_iconst (v := 4) hx hb dX1_mix_59 (by decide) ?_
      refine lv_iload hx hb dX1_mix_60 (lv_at hl 0 rfl) ?_
      refine lv_imul hx hb dX1_mix_62 ?_
      refine lv_iconst (v := 3) hx hb dX1_mix_63 (by decide) ?_
      refine lv_iadd hx hb dX1_mix_64 ?_
      refine ml_bk (j := (4 * i + 3)) S hK hP (kd_ix_e (kd_a (pk_mul 4 i) 3) (by omega) (by omega)) dX1_mix_65 ?_
      refine lv_bipush (v := 24) hx hb dX1_mix_66 (by decide) ?_
      refine lv_ishl hx hb dX1_mix_68 ?_
      refine lv_ior hx hb dX1_mix_69 ?_
      refine ms_mm (j := i) (g := kd_fill (kd_w bk) mm (i + 1)) S hK hP hD hS (kd_ix_n (by omega) (by omega)) (kd_fill_s rfl) dX1_mix_70 (fun H locs hP hD hS => ?_)
      refine lv_aload_n hx hb dX1_mix_71 rfl (lv_at hl 1 rfl) ?_
      refine mg_b3 S hK hP dX1_mix_72 ?_
      refine lv_iload hx hb dX1_mix_75 (lv_at hl 0 rfl) ?_
      refine lv_iload hx hb dX1_mix_77 (lv_at hl 0 rfl) ?_
      refine lv_bipush (v := 8) hx hb dX1_mix_79 (by decide) ?_
      refine lv_icmp_ge (tgt := 94) hx hb dX1_mix_81 (by decide) (fun h8 => ?_) (fun h8 => ?_)
      · have h8 := (nI_leI (a := 8) (b := i) (by omega) (by omega)).mp h8
        refine lv_iload hx hb dX1_mix_94 (lv_at hl 0 rfl) ?_
        refine lv_bipush (v := 8) hx hb dX1_mix_96 (by decide) ?_
        refine lv_isub hx hb dX1_mix_98 ?_
        refine kd_cs (rest := [.int (nI i), .ref b3]) S (metX1_first l ((nI i) - 8) (i - 8) (by omega) (pk_sub (b := 8) h8)) (va_cwS 1 hts (lw_S q206 q207 q10 q208) rfl rfl rfl (by decide +kernel) hR) rfl hl.1 rfl (Nat.le_of_ble_eq_true rfl) dX1_mix_99 ⟨Nat.zero_le _, Nat.zero_le _⟩ ?_
        refine ms_vv (j := i) (g := kd_fill (kd_vs hh) vv (i + 1)) S hK hP hD hS (kd_ix_n (by omega) (by omega)) (kd_fill_s (kd_vs_hi hh h8)) dX1_mix_102 (fun H locs hP hD hS => ?_)
        refine lv_iinc (v := nI (i + 1)) (lv' := [(4, .int (nI (i + 1))), (0, .ref o), (1, .long nn), (3, .int last)]) hx hb dX1_mix_103 hl (k := 0) rfl (nI_1 i) (by decide) rfl (fun ls hl => ?_)
        refine lv_goto (tgt := 3) hx hb dX1_mix_106 (by decide) ?_
        exact ih (i + 1) (by omega) H locs ls hP hD hS hl
      · have h8 := kd_nlt (M := 8) (by omega) (by omega) h8
        refine lv_aload_n hx hb dX1_mix_84 rfl (lv_at hl 1 rfl) ?_
        refine mg_b2 S hK hP dX1_mix_85 ?_
        refine lv_iload hx hb dX1_mix_88 (lv_at hl 0 rfl) ?_
        refine ml_hh (j := i) S hK hP (kd_ix_n (by omega) (by omega)) dX1_mix_90 ?_
        refine lv_goto (tgt := 102) hx hb dX1_mix_91 (by decide) ?_
        refine ms_vv (j := i) (g := kd_fill (kd_vs hh) vv (i + 1)) S hK hP hD hS (kd_ix_n (by omega) (by omega)) (kd_fill_s (kd_vs_lo hh h8)) dX1_mix_102 (fun H locs hP hD hS => ?_)
        refine lv_iinc (v := nI (i + 1)) (lv' := [(4, .int (nI (i + 1))), (0, .ref o), (1, .long nn), (3, .int last)]) hx hb dX1_mix_103 hl (k := 0) rfl (nI_1 i) (by decide) rfl (fun ls hl => ?_)
        refine lv_goto (tgt := 3) hx hb dX1_mix_106 (by decide) ?_
        exact ih (i + 1) (by omega) H locs ls hP hD hS hl
set_option maxHeartbeats 4000000 in
theorem kd_Mm3 (hR : 1 + 1 ≤ R.frames ∧ 8 + (7 + 11) + 21 ≤ R.locals) (hA : ∀ q, H0.size ≤ q → A q) (S : CallFix p m c cX1_mix 5 s args lw_all RX1) (hK : va_K D vwCl (tyL cB cI) s)
    (kx : ∀ (H : Heap) (locs : List Loc) (ls : Array Slot), va_P D vwCl (mw o b1 b2 b3 b4 b5 b6 cI rd io dn ky hh (kd_rs mm v0 10) mm bk fl mx cm sz kd_tbl) H → va_D A (mw o b1 b2 b3 b4 b5 b6 cI rd io dn ky hh (kd_rs mm v0 10) mm bk fl mx cm sz kd_tbl) → va_S A H0 H locs → lv_has ls 5 [(4, .int (nI (16 * 10))), (0, .ref o), (1, .long nn), (3, .int last)] → W p l e R s m args below meth c H locs 0 0 Q (F0 m 513 ls [])) :
    ∀ (n i : Nat), i + n = 10 → ∀ (H : Heap) (locs : List Loc) (ls : Array Slot), va_P D vwCl (mw o b1 b2 b3 b4 b5 b6 cI rd io dn ky hh (kd_rs mm v0 i) mm bk fl mx cm sz kd_tbl) H → va_D A (mw o b1 b2 b3 b4 b5 b6 cI rd io dn ky hh (kd_rs mm v0 i) mm bk fl mx cm sz kd_tbl) → va_S A H0 H locs → lv_has ls 5 [(4, .int (nI (16 * i))), (0, .ref o), (1, .long nn), (3, .int last)] → W p l e R s m args below meth c H locs 0 0 Q (F0 m 179 ls []) := by
  have hx := S.1
  have hb := S.2.1
  have hown := S.2.2.2.1
  have hts := S.2.2.2.2
  intro n
  induction n with
  | zero =>
    intro i hi  H locs ls hP hD hS hl
    obtain rfl : i = 10 := by omega
    refine lv_iload hx hb dX1_mix_179 (lv_at hl 0 rfl) ?_
    refine lv_sipush (v := 160) hx hb dX1_mix_181 (by decide) ?_
    refine lv_icmp_ge (tgt := 513) hx hb dX1_mix_184 (by decide) (fun hc => ?_) (fun hc => ?_)
    · exact kx H locs ls hP hD hS hl
    · exact absurd (by decide) hc
  | succ n ih =>
    intro i hi  H locs ls hP hD hS hl
    refine lv_iload hx hb dX1_mix_179 (lv_at hl 0 rfl) ?_
    refine lv_sipush (v := 160) hx hb dX1_mix_181 (by decide) ?_
    refine lv_icmp_ge (tgt := 513) hx hb dX1_mix_184 (by decide) (fun hc => ?_) (fun hc => ?_)
    · exact absurd hc (nI_ge (a := 16 * i) (b := 160) (by omega) (by omega))
    · refine lv_aload_n hx hb dX1_mix_187 rfl (lv_at hl 1 rfl) ?_
      refine lv_iconst (v := 0) hx hb dX1_mix_188 (by decide) ?_
      refine lv_iconst (v := 4) hx hb dX1_mix_189 (by decide) ?_
      refine lv_bipush (v := 8) hx hb dX1_mix_190 (by decide) ?_
      refine lv_bipush (v := 12) hx hb dX1_mix_192 (by decide) ?_
      refine lv_aload_n hx hb dX1_mix_194 rfl (lv_at hl 1 rfl) ?_
      refine mg_b4 S hK hP dX1_mix_195 ?_
      refine lv_aload_n hx hb dX1_mix_198 rfl (lv_at hl 1 rfl) ?_
      refine mg_b6 S hK hP dX1_mix_199 ?_
      refine lv_iload hx hb dX1_mix_202 (lv_at hl 0 rfl) ?_
      refine ml_rw (j := (16 * i)) S hK hP (kd_ix_n (by omega) (by omega)) dX1_mix_204 ?_
      refine ml_mm (j := (kd_pn (16 * i))) S hK hP (kd_tbl_ix (by omega)) dX1_mix_205 ?_
      refine lv_aload_n hx hb dX1_mix_206 rfl (lv_at hl 1 rfl) ?_
      refine mg_b4 S hK hP dX1_mix_207 ?_
      refine lv_aload_n hx hb dX1_mix_210 rfl (lv_at hl 1 rfl) ?_
      refine mg_b6 S hK hP dX1_mix_211 ?_
      refine lv_iload hx hb dX1_mix_214 (lv_at hl 0 rfl) ?_
      refine lv_iconst (v := 1) hx hb dX1_mix_216 (by decide) ?_
      refine lv_iadd hx hb dX1_mix_217 ?_
      refine ml_rw (j := (16 * i + 1)) S hK hP (kd_ix_e (nI_add (16 * i) 1) (by omega) (by omega)) dX1_mix_218 ?_
      refine ml_mm (j := (kd_pn (16 * i + 1))) S hK hP (kd_tbl_ix (by omega)) dX1_mix_219 ?_
      refine kd_cv (rest := []) S (metX1_g l D o b1 b2 b3 b4 b5 b6 cB cI rd io dn ky hh (kd_rs mm v0 i) mm bk fl mx cm sz kd_tbl H.size 0 4 8 12 (kd_px mm (16 * i)) (kd_px mm (16 * i + 1)) 0 4 8 12 (kd_ix_n (j := 0) (by omega) (by omega)) (kd_ix_n (j := 4) (by omega) (by omega)) (kd_ix_n (j := 8) (by omega) (by omega)) (kd_ix_n (j := 12) (by omega) (by omega))) (cwV 6 hts (lw_V q227 q229 qs7 q10 q230) rfl rfl rfl (by decide +kernel) hR) hK hP hD hS hA (m_rec hK hP) rfl hl.1 rfl (Nat.le_of_ble_eq_true rfl) dX1_mix_220 ⟨Nat.zero_le _, Nat.zero_le _⟩ (fun w H locs hw hP hD hS => ?_)
      subst hw
      refine lv_aload_n hx hb dX1_mix_223 rfl (lv_at hl 1 rfl) ?_
      refine lv_iconst (v := 1) hx hb dX1_mix_224 (by decide) ?_
      refine lv_iconst (v := 5) hx hb dX1_mix_225 (by decide) ?_
      refine lv_bipush (v := 9) hx hb dX1_mix_226 (by decide) ?_
      refine lv_bipush (v := 13) hx hb dX1_mix_228 (by decide) ?_
      refine lv_aload_n hx hb dX1_mix_230 rfl (lv_at hl 1 rfl) ?_
      refine mg_b4 S hK hP dX1_mix_231 ?_
      refine lv_aload_n hx hb dX1_mix_234 rfl (lv_at hl 1 rfl) ?_
      refine mg_b6 S hK hP dX1_mix_235 ?_
      refine lv_iload hx hb dX1_mix_238 (lv_at hl 0 rfl) ?_
      refine lv_iconst (v := 2) hx hb dX1_mix_240 (by decide) ?_
      refine lv_iadd hx hb dX1_mix_241 ?_
      refine ml_rw (j := (16 * i + 2)) S hK hP (kd_ix_e (nI_add (16 * i) 2) (by omega) (by omega)) dX1_mix_242 ?_
      refine ml_mm (j := (kd_pn (16 * i + 2))) S hK hP (kd_tbl_ix (by omega)) dX1_mix_243 ?_
      refine lv_aload_n hx hb dX1_mix_244 rfl (lv_at hl 1 rfl) ?_
      refine mg_b4 S hK hP dX1_mix_245 ?_
      refine lv_aload_n hx hb dX1_mix_248 rfl (lv_at hl 1 rfl) ?_
      refine mg_b6 S hK hP dX1_mix_249 ?_
      refine lv_iload hx hb dX1_mix_252 (lv_at hl 0 rfl) ?_
      refine lv_iconst (v := 3) hx hb dX1_mix_254 (by decide) ?_
      refine lv_iadd hx hb dX1_mix_255 ?_
      refine ml_rw (j := (16 * i + 3)) S hK hP (kd_ix_e (nI_add (16 * i) 3) (by omega) (by omega)) dX1_mix_256 ?_
      refine ml_mm (j := (kd_pn (16 * i + 3))) S hK hP (kd_tbl_ix (by omega)) dX1_mix_257 ?_
      refine kd_cv (rest := []) S (metX1_g l D o b1 b2 b3 b4 b5 b6 cB cI rd io dn ky hh (kd_G (kd_rs mm v0 i) 0 4 8 12 (kd_px mm (16 * i)) (kd_px mm (16 * i + 1))) mm bk fl mx cm sz kd_tbl H.size 1 5 9 13 (kd_px mm (16 * i + 2)) (kd_px mm (16 * i + 3)) 1 5 9 13 (kd_ix_n (j := 1) (by omega) (by omega)) (kd_ix_n (j := 5) (by omega) (by omega)) (kd_ix_n (j := 9) (by omega) (by omega)) (kd_ix_n (j := 13) (by omega) (by omega))) (cwV 6 hts (lw_V q227 q229 qs7 q10 q230) rfl rfl rfl (by decide +kernel) hR) hK hP hD hS hA (m_rec hK hP) rfl hl.1 rfl (Nat.le_of_ble_eq_true rfl) dX1_mix_258 ⟨Nat.zero_le _, Nat.zero_le _⟩ (fun w H locs hw hP hD hS => ?_)
      subst hw
      refine lv_aload_n hx hb dX1_mix_261 rfl (lv_at hl 1 rfl) ?_
      refine lv_iconst (v := 2) hx hb dX1_mix_262 (by decide) ?_
      refine lv_bipush (v := 6) hx hb dX1_mix_263 (by decide) ?_
      refine lv_bipush (v := 10) hx hb dX1_mix_265 (by decide) ?_
      refine lv_bipush (v := 14) hx hb dX1_mix_267 (by decide) ?_
      refine lv_aload_n hx hb dX1_mix_269 rfl (lv_at hl 1 rfl) ?_
      refine mg_b4 S hK hP dX1_mix_270 ?_
      refine lv_aload_n hx hb dX1_mix_273 rfl (lv_at hl 1 rfl) ?_
      refine mg_b6 S hK hP dX1_mix_274 ?_
      refine lv_iload hx hb dX1_mix_277 (lv_at hl 0 rfl) ?_
      refine lv_iconst (v := 4) hx hb dX1_mix_279 (by decide) ?_
      refine lv_iadd hx hb dX1_mix_280 ?_
      refine ml_rw (j := (16 * i + 4)) S hK hP (kd_ix_e (nI_add (16 * i) 4) (by omega) (by omega)) dX1_mix_281 ?_
      refine ml_mm (j := (kd_pn (16 * i + 4))) S hK hP (kd_tbl_ix (by omega)) dX1_mix_282 ?_
      refine lv_aload_n hx hb dX1_mix_283 rfl (lv_at hl 1 rfl) ?_
      refine mg_b4 S hK hP dX1_mix_284 ?_
      refine lv_aload_n hx hb dX1_mix_287 rfl (lv_at hl 1 rfl) ?_
      refine mg_b6 S hK hP dX1_mix_288 ?_
      refine lv_iload hx hb dX1_mix_291 (lv_at hl 0 rfl) ?_
      refine lv_iconst (v := 5) hx hb dX1_mix_293 (by decide) ?_
      refine lv_iadd hx hb dX1_mix_294 ?_
      refine ml_rw (j := (16 * i + 5)) S hK hP (kd_ix_e (nI_add (16 * i) 5) (by omega) (by omega)) dX1_mix_295 ?_
      refine ml_mm (j := (kd_pn (16 * i + 5))) S hK hP (kd_tbl_ix (by omega)) dX1_mix_296 ?_
      refine kd_cv (rest := []) S (metX1_g l D o b1 b2 b3 b4 b5 b6 cB cI rd io dn ky hh (kd_G (kd_G (kd_rs mm v0 i) 0 4 8 12 (kd_px mm (16 * i)) (kd_px mm (16 * i + 1))) 1 5 9 13 (kd_px mm (16 * i + 2)) (kd_px mm (16 * i + 3))) mm bk fl mx cm sz kd_tbl H.size 2 6 10 14 (kd_px mm (16 * i + 4)) (kd_px mm (16 * i + 5)) 2 6 10 14 (kd_ix_n (j := 2) (by omega) (by omega)) (kd_ix_n (j := 6) (by omega) (by omega)) (kd_ix_n (j := 10) (by omega) (by omega)) (kd_ix_n (j := 14) (by omega) (by omega))) (cwV 6 hts (lw_V q227 q229 qs7 q10 q230) rfl rfl rfl (by decide +kernel) hR) hK hP hD hS hA (m_rec hK hP) rfl hl.1 rfl (Nat.le_of_ble_eq_true rfl) dX1_mix_297 ⟨Nat.zero_le _, Nat.zero_le _⟩ (fun w H locs hw hP hD hS => ?_)
      subst hw
      refine lv_aload_n hx hb dX1_mix_300 rfl (lv_at hl 1 rfl) ?_
      refine lv_iconst (v := 3) hx hb dX1_mix_301 (by decide) ?_
      refine lv_bipush (v := 7) hx hb dX1_mix_302 (by decide) ?_
      refine lv_bipush (v := 11) hx hb dX1_mix_304 (by decide) ?_
      refine lv_bipush (v := 15) hx hb dX1_mix_306 (by decide) ?_
      refine lv_aload_n hx hb dX1_mix_308 rfl (lv_at hl 1 rfl) ?_
      refine mg_b4 S hK hP dX1_mix_309 ?_
      refine lv_aload_n hx hb dX1_mix_312 rfl (lv_at hl 1 rfl) ?_
      refine mg_b6 S hK hP dX1_mix_313 ?_
      refine lv_iload hx hb dX1_mix_316 (lv_at hl 0 rfl) ?_
      refine lv_bipush (v := 6) hx hb dX1_mix_318 (by decide) ?_
      refine lv_iadd hx hb dX1_mix_320 ?_
      refine ml_rw (j := (16 * i + 6)) S hK hP (kd_ix_e (nI_add (16 * i) 6) (by omega) (by omega)) dX1_mix_321 ?_
      refine ml_mm (j := (kd_pn (16 * i + 6))) S hK hP (kd_tbl_ix (by omega)) dX1_mix_322 ?_
      refine lv_aload_n hx hb dX1_mix_323 rfl (lv_at hl 1 rfl) ?_
      refine mg_b4 S hK hP dX1_mix_324 ?_
      refine lv_aload_n hx hb dX1_mix_327 rfl (lv_at hl 1 rfl) ?_
      refine mg_b6 S hK hP dX1_mix_328 ?_
      refine lv_iload hx hb dX1_mix_331 (lv_at hl 0 rfl) ?_
      refine lv_bipush (v := 7) hx hb dX1_mix_333 (by decide) ?_
      refine lv_iadd hx hb dX1_mix_335 ?_
      refine ml_rw (j := (16 * i + 7)) S hK hP (kd_ix_e (nI_add (16 * i) 7) (by omega) (by omega)) dX1_mix_336 ?_
      refine ml_mm (j := (kd_pn (16 * i + 7))) S hK hP (kd_tbl_ix (by omega)) dX1_mix_337 ?_
      refine kd_cv (rest := []) S (metX1_g l D o b1 b2 b3 b4 b5 b6 cB cI rd io dn ky hh (kd_G (kd_G (kd_G (kd_rs mm v0 i) 0 4 8 12 (kd_px mm (16 * i)) (kd_px mm (16 * i + 1))) 1 5 9 13 (kd_px mm (16 * i + 2)) (kd_px mm (16 * i + 3))) 2 6 10 14 (kd_px mm (16 * i + 4)) (kd_px mm (16 * i + 5))) mm bk fl mx cm sz kd_tbl H.size 3 7 11 15 (kd_px mm (16 * i + 6)) (kd_px mm (16 * i + 7)) 3 7 11 15 (kd_ix_n (j := 3) (by omega) (by omega)) (kd_ix_n (j := 7) (by omega) (by omega)) (kd_ix_n (j := 11) (by omega) (by omega)) (kd_ix_n (j := 15) (by omega) (by omega))) (cwV 6 hts (lw_V q227 q229 qs7 q10 q230) rfl rfl rfl (by decide +kernel) hR) hK hP hD hS hA (m_rec hK hP) rfl hl.1 rfl (Nat.le_of_ble_eq_true rfl) dX1_mix_338 ⟨Nat.zero_le _, Nat.zero_le _⟩ (fun w H locs hw hP hD hS => ?_)
      subst hw
      refine lv_aload_n hx hb dX1_mix_341 rfl (lv_at hl 1 rfl) ?_
      refine lv_iconst (v := 0) hx hb dX1_mix_342 (by decide) ?_
      refine lv_iconst (v := 5) hx hb dX1_mix_343 (by decide) ?_
      refine lv_bipush (v := 10) hx hb dX1_mix_344 (by decide) ?_
      refine lv_bipush (v := 15) hx hb dX1_mix_346 (by decide) ?_
      refine lv_aload_n hx hb dX1_mix_348 rfl (lv_at hl 1 rfl) ?_
      refine mg_b4 S hK hP dX1_mix_349 ?_
      refine lv_aload_n hx hb dX1_mix_352 rfl (lv_at hl 1 rfl) ?_
      refine mg_b6 S hK hP dX1_mix_353 ?_
      refine lv_iload hx hb dX1_mix_356 (lv_at hl 0 rfl) ?_
      refine lv_bipush (v := 8) hx hb dX1_mix_358 (by decide) ?_
      refine lv_iadd hx hb dX1_mix_360 ?_
      refine ml_rw (j := (16 * i + 8)) S hK hP (kd_ix_e (nI_add (16 * i) 8) (by omega) (by omega)) dX1_mix_361 ?_
      refine ml_mm (j := (kd_pn (16 * i + 8))) S hK hP (kd_tbl_ix (by omega)) dX1_mix_362 ?_
      refine lv_aload_n hx hb dX1_mix_363 rfl (lv_at hl 1 rfl) ?_
      refine mg_b4 S hK hP dX1_mix_364 ?_
      refine lv_aload_n hx hb dX1_mix_367 rfl (lv_at hl 1 rfl) ?_
      refine mg_b6 S hK hP dX1_mix_368 ?_
      refine lv_iload hx hb dX1_mix_371 (lv_at hl 0 rfl) ?_
      refine lv_bipush (v := 9) hx hb dX1_mix_373 (by decide) ?_
      refine lv_iadd hx hb dX1_mix_375 ?_
      refine ml_rw (j := (16 * i + 9)) S hK hP (kd_ix_e (nI_add (16 * i) 9) (by omega) (by omega)) dX1_mix_376 ?_
      refine ml_mm (j := (kd_pn (16 * i + 9))) S hK hP (kd_tbl_ix (by omega)) dX1_mix_377 ?_
      refine kd_cv (rest := []) S (metX1_g l D o b1 b2 b3 b4 b5 b6 cB cI rd io dn ky hh (kd_G (kd_G (kd_G (kd_G (kd_rs mm v0 i) 0 4 8 12 (kd_px mm (16 * i)) (kd_px mm (16 * i + 1))) 1 5 9 13 (kd_px mm (16 * i + 2)) (kd_px mm (16 * i + 3))) 2 6 10 14 (kd_px mm (16 * i + 4)) (kd_px mm (16 * i + 5))) 3 7 11 15 (kd_px mm (16 * i + 6)) (kd_px mm (16 * i + 7))) mm bk fl mx cm sz kd_tbl H.size 0 5 10 15 (kd_px mm (16 * i + 8)) (kd_px mm (16 * i + 9)) 0 5 10 15 (kd_ix_n (j := 0) (by omega) (by omega)) (kd_ix_n (j := 5) (by omega) (by omega)) (kd_ix_n (j := 10) (by omega) (by omega)) (kd_ix_n (j := 15) (by omega) (by omega))) (cwV 6 hts (lw_V q227 q229 qs7 q10 q230) rfl rfl rfl (by decide +kernel) hR) hK hP hD hS hA (m_rec hK hP) rfl hl.1 rfl (Nat.le_of_ble_eq_true rfl) dX1_mix_378 ⟨Nat.zero_le _, Nat.zero_le _⟩ (fun w H locs hw hP hD hS => ?_)
      subst hw
      refine lv_aload_n hx hb dX1_mix_381 rfl (lv_at hl 1 rfl) ?_
      refine lv_iconst (v := 1) hx hb dX1_mix_382 (by decide) ?_
      refine lv_bipush (v := 6) hx hb dX1_mix_383 (by decide) ?_
      refine lv_bipush (v := 11) hx hb dX1_mix_385 (by decide) ?_
      refine lv_bipush (v := 12) hx hb dX1_mix_387 (by decide) ?_
      refine lv_aload_n hx hb dX1_mix_389 rfl (lv_at hl 1 rfl) ?_
      refine mg_b4 S hK hP dX1_mix_390 ?_
      refine lv_aload_n hx hb dX1_mix_393 rfl (lv_at hl 1 rfl) ?_
      refine mg_b6 S hK hP dX1_mix_394 ?_
      refine lv_iload hx hb dX1_mix_397 (lv_at hl 0 rfl) ?_
      refine lv_bipush (v := 10) hx hb dX1_mix_399 (by decide) ?_
      refine lv_iadd hx hb dX1_mix_401 ?_
      refine ml_rw (j := (16 * i + 10)) S hK hP (kd_ix_e (nI_add (16 * i) 10) (by omega) (by omega)) dX1_mix_402 ?_
      refine ml_mm (j := (kd_pn (16 * i + 10))) S hK hP (kd_tbl_ix (by omega)) dX1_mix_403 ?_
      refine lv_aload_n hx hb dX1_mix_404 rfl (lv_at hl 1 rfl) ?_
      refine mg_b4 S hK hP dX1_mix_405 ?_
      refine lv_aload_n hx hb dX1_mix_408 rfl (lv_at hl 1 rfl) ?_
      refine mg_b6 S hK hP dX1_mix_409 ?_
      refine lv_iload hx hb dX1_mix_412 (lv_at hl 0 rfl) ?_
      refine lv_bipush (v := 11) hx hb dX1_mix_414 (by decide) ?_
      refine lv_iadd hx hb dX1_mix_416 ?_
      refine ml_rw (j := (16 * i + 11)) S hK hP (kd_ix_e (nI_add (16 * i) 11) (by omega) (by omega)) dX1_mix_417 ?_
      refine ml_mm (j := (kd_pn (16 * i + 11))) S hK hP (kd_tbl_ix (by omega)) dX1_mix_418 ?_
      refine kd_cv (rest := []) S (metX1_g l D o b1 b2 b3 b4 b5 b6 cB cI rd io dn ky hh (kd_G (kd_G (kd_G (kd_G (kd_G (kd_rs mm v0 i) 0 4 8 12 (kd_px mm (16 * i)) (kd_px mm (16 * i + 1))) 1 5 9 13 (kd_px mm (16 * i + 2)) (kd_px mm (16 * i + 3))) 2 6 10 14 (kd_px mm (16 * i + 4)) (kd_px mm (16 * i + 5))) 3 7 11 15 (kd_px mm (16 * i + 6)) (kd_px mm (16 * i + 7))) 0 5 10 15 (kd_px mm (16 * i + 8)) (kd_px mm (16 * i + 9))) mm bk fl mx cm sz kd_tbl H.size 1 6 11 12 (kd_px mm (16 * i + 10)) (kd_px mm (16 * i + 11)) 1 6 11 12 (kd_ix_n (j := 1) (by omega) (by omega)) (kd_ix_n (j := 6) (by omega) (by omega)) (kd_ix_n (j := 11) (by omega) (by omega)) (kd_ix_n (j := 12) (by omega) (by omega))) (cwV 6 hts (lw_V q227 q229 qs7 q10 q230) rfl rfl rfl (by decide +kernel) hR) hK hP hD hS hA (m_rec hK hP) rfl hl.1 rfl (Nat.le_of_ble_eq_true rfl) dX1_mix_419 ⟨Nat.zero_le _, Nat.zero_le _⟩ (fun w H locs hw hP hD hS => ?_)
      subst hw
      refine lv_aload_n hx hb dX1_mix_422 rfl (lv_at hl 1 rfl) ?_
      refine lv_iconst (v := 2) hx hb dX1_mix_423 (by decide) ?_
      refine lv_bipush (v := 7) hx hb dX1_mix_424 (by decide) ?_
      refine lv_bipush (v := 8) hx hb dX1_mix_426 (by decide) ?_
      refine lv_bipush (v := 13) hx hb dX1_mix_428 (by decide) ?_
      refine lv_aload_n hx hb dX1_mix_430 rfl (lv_at hl 1 rfl) ?_
      refine mg_b4 S hK hP dX1_mix_431 ?_
      refine lv_aload_n hx hb dX1_mix_434 rfl (lv_at hl 1 rfl) ?_
      refine mg_b6 S hK hP dX1_mix_435 ?_
      refine lv_iload hx hb dX1_mix_438 (lv_at hl 0 rfl) ?_
      refine lv_bipush (v := 12) hx hb dX1_mix_440 (by decide) ?_
      refine lv_iadd hx hb dX1_mix_442 ?_
      refine ml_rw (j := (16 * i + 12)) S hK hP (kd_ix_e (nI_add (16 * i) 12) (by omega) (by omega)) dX1_mix_443 ?_
      refine ml_mm (j := (kd_pn (16 * i + 12))) S hK hP (kd_tbl_ix (by omega)) dX1_mix_444 ?_
      refine lv_aload_n hx hb dX1_mix_445 rfl (lv_at hl 1 rfl) ?_
      refine mg_b4 S hK hP dX1_mix_446 ?_
      refine lv_aload_n hx hb dX1_mix_449 rfl (lv_at hl 1 rfl) ?_
      refine mg_b6 S hK hP dX1_mix_450 ?_
      refine lv_iload hx hb dX1_mix_453 (lv_at hl 0 rfl) ?_
      refine lv_bipush (v := 13) hx hb dX1_mix_455 (by decide) ?_
      refine lv_iadd hx hb dX1_mix_457 ?_
      refine ml_rw (j := (16 * i + 13)) S hK hP (kd_ix_e (nI_add (16 * i) 13) (by omega) (by omega)) dX1_mix_458 ?_
      refine ml_mm (j := (kd_pn (16 * i + 13))) S hK hP (kd_tbl_ix (by omega)) dX1_mix_459 ?_
      refine kd_cv (rest := []) S (metX1_g l D o b1 b2 b3 b4 b5 b6 cB cI rd io dn ky hh (kd_G (kd_G (kd_G (kd_G (kd_G (kd_G (kd_rs mm v0 i) 0 4 8 12 (kd_px mm (16 * i)) (kd_px mm (16 * i + 1))) 1 5 9 13 (kd_px mm (16 * i + 2)) (kd_px mm (16 * i + 3))) 2 6 10 14 (kd_px mm (16 * i + 4)) (kd_px mm (16 * i + 5))) 3 7 11 15 (kd_px mm (16 * i + 6)) (kd_px mm (16 * i + 7))) 0 5 10 15 (kd_px mm (16 * i + 8)) (kd_px mm (16 * i + 9))) 1 6 11 12 (kd_px mm (16 * i + 10)) (kd_px mm (16 * i + 11))) mm bk fl mx cm sz kd_tbl H.size 2 7 8 13 (kd_px mm (16 * i + 12)) (kd_px mm (16 * i + 13)) 2 7 8 13 (kd_ix_n (j := 2) (by omega) (by omega)) (kd_ix_n (j := 7) (by omega) (by omega)) (kd_ix_n (j := 8) (by omega) (by omega)) (kd_ix_n (j := 13) (by omega) (by omega))) (cwV 6 hts (lw_V q227 q229 qs7 q10 q230) rfl rfl rfl (by decide +kernel) hR) hK hP hD hS hA (m_rec hK hP) rfl hl.1 rfl (Nat.le_of_ble_eq_true rfl) dX1_mix_460 ⟨Nat.zero_le _, Nat.zero_le _⟩ (fun w H locs hw hP hD hS => ?_)
      subst hw
      refine lv_aload_n hx hb dX1_mix_463 rfl (lv_at hl 1 rfl) ?_
      refine lv_iconst (v := 3) hx hb dX1_mix_464 (by decide) ?_
      refine lv_iconst (v := 4) hx hb dX1_mix_465 (by decide) ?_
      refine lv_bipush (v := 9) hx hb dX1_mix_466 (by decide) ?_
      refine lv_bipush (v := 14) hx hb dX1_mix_468 (by decide) ?_
      refine lv_aload_n hx hb dX1_mix_470 rfl (lv_at hl 1 rfl) ?_
      refine mg_b4 S hK hP dX1_mix_471 ?_
      refine lv_aload_n hx hb dX1_mix_474 rfl (lv_at hl 1 rfl) ?_
      refine mg_b6 S hK hP dX1_mix_475 ?_
      refine lv_iload hx hb dX1_mix_478 (lv_at hl 0 rfl) ?_
      refine lv_bipush (v := 14) hx hb dX1_mix_480 (by decide) ?_
      refine lv_iadd hx hb dX1_mix_482 ?_
      refine ml_rw (j := (16 * i + 14)) S hK hP (kd_ix_e (nI_add (16 * i) 14) (by omega) (by omega)) dX1_mix_483 ?_
      refine ml_mm (j := (kd_pn (16 * i + 14))) S hK hP (kd_tbl_ix (by omega)) dX1_mix_484 ?_
      refine lv_aload_n hx hb dX1_mix_485 rfl (lv_at hl 1 rfl) ?_
      refine mg_b4 S hK hP dX1_mix_486 ?_
      refine lv_aload_n hx hb dX1_mix_489 rfl (lv_at hl 1 rfl) ?_
      refine mg_b6 S hK hP dX1_mix_490 ?_
      refine lv_iload hx hb dX1_mix_493 (lv_at hl 0 rfl) ?_
      refine lv_bipush (v := 15) hx hb dX1_mix_495 (by decide) ?_
      refine lv_iadd hx hb dX1_mix_497 ?_
      refine ml_rw (j := (16 * i + 15)) S hK hP (kd_ix_e (nI_add (16 * i) 15) (by omega) (by omega)) dX1_mix_498 ?_
      refine ml_mm (j := (kd_pn (16 * i + 15))) S hK hP (kd_tbl_ix (by omega)) dX1_mix_499 ?_
      refine kd_cv (rest := []) S (metX1_g l D o b1 b2 b3 b4 b5 b6 cB cI rd io dn ky hh (kd_G (kd_G (kd_G (kd_G (kd_G (kd_G (kd_G (kd_rs mm v0 i) 0 4 8 12 (kd_px mm (16 * i)) (kd_px mm (16 * i + 1))) 1 5 9 13 (kd_px mm (16 * i + 2)) (kd_px mm (16 * i + 3))) 2 6 10 14 (kd_px mm (16 * i + 4)) (kd_px mm (16 * i + 5))) 3 7 11 15 (kd_px mm (16 * i + 6)) (kd_px mm (16 * i + 7))) 0 5 10 15 (kd_px mm (16 * i + 8)) (kd_px mm (16 * i + 9))) 1 6 11 12 (kd_px mm (16 * i + 10)) (kd_px mm (16 * i + 11))) 2 7 8 13 (kd_px mm (16 * i + 12)) (kd_px mm (16 * i + 13))) mm bk fl mx cm sz kd_tbl H.size 3 4 9 14 (kd_px mm (16 * i + 14)) (kd_px mm (16 * i + 15)) 3 4 9 14 (kd_ix_n (j := 3) (by omega) (by omega)) (kd_ix_n (j := 4) (by omega) (by omega)) (kd_ix_n (j := 9) (by omega) (by omega)) (kd_ix_n (j := 14) (by omega) (by omega))) (cwV 6 hts (lw_V q227 q229 qs7 q10 q230) rfl rfl rfl (by decide +kernel) hR) hK hP hD hS hA (m_rec hK hP) rfl hl.1 rfl (Nat.le_of_ble_eq_true rfl) dX1_mix_500 ⟨Nat.zero_le _, Nat.zero_le _⟩ (fun w H locs hw hP hD hS => ?_)
      subst hw
      refine lv_iload hx hb dX1_mix_503 (lv_at hl 0 rfl) ?_
      refine lv_bipush (v := 16) hx hb dX1_mix_505 (by decide) ?_
      refine lv_iadd hx hb dX1_mix_507 ?_
      refine lv_istore (lv' := [(4, .int ((nI (16 * i)) + 16)), (0, .ref o), (1, .long nn), (3, .int last)]) hx hb dX1_mix_508 hl (by decide) rfl (fun ls hl => ?_)
      rw [show nI (16 * i) + 16 = nI (16 * (i + 1)) from nI_add (16 * i) 16] at hl
      refine lv_goto (tgt := 179) hx hb dX1_mix_510 (by decide) ?_
      exact ih (i + 1) (by omega) H locs ls hP hD hS hl
set_option maxHeartbeats 4000000 in
theorem kd_Mm4  (S : CallFix p m c cX1_mix 5 s args lw_all RX1) (hK : va_K D vwCl (tyL cB cI) s)
    (kx : ∀ (H : Heap) (locs : List Loc) (ls : Array Slot), va_P D vwCl (mw o b1 b2 b3 b4 b5 b6 cI rd io dn ky (kd_xo hh vv) vv mm bk fl mx cm sz rw) H → va_D A (mw o b1 b2 b3 b4 b5 b6 cI rd io dn ky (kd_xo hh vv) vv mm bk fl mx cm sz rw) → va_S A H0 H locs → lv_has ls 5 [(4, .int (nI 8)), (0, .ref o), (1, .long nn), (3, .int last)] → W p l e R s m args below meth c H locs 0 0 Q (F0 m 562 ls [])) :
    ∀ (n i : Nat), i + n = 8 → ∀ (H : Heap) (locs : List Loc) (ls : Array Slot), va_P D vwCl (mw o b1 b2 b3 b4 b5 b6 cI rd io dn ky (kd_fill (kd_xo hh vv) hh i) vv mm bk fl mx cm sz rw) H → va_D A (mw o b1 b2 b3 b4 b5 b6 cI rd io dn ky (kd_fill (kd_xo hh vv) hh i) vv mm bk fl mx cm sz rw) → va_S A H0 H locs → lv_has ls 5 [(4, .int (nI i)), (0, .ref o), (1, .long nn), (3, .int last)] → W p l e R s m args below meth c H locs 0 0 Q (F0 m 516 ls []) := by
  have hx := S.1
  have hb := S.2.1
  have hown := S.2.2.2.1
  have hts := S.2.2.2.2
  intro n
  induction n with
  | zero =>
    intro i hi  H locs ls hP hD hS hl
    obtain rfl : i = 8 := by omega
    refine lv_iload hx hb dX1_mix_516 (lv_at hl 0 rfl) ?_
    refine lv_bipush (v := 8) hx hb dX1_mix_518 (by decide) ?_
    refine lv_icmp_ge (tgt := 562) hx hb dX1_mix_520 (by decide) (fun hc => ?_) (fun hc => ?_)
    · have hP := mc_hh (g := kd_xo hh vv) hP (fun j hj => kd_fill_in hj)
      exact kx H locs ls hP (m_D hD) hS hl
    · exact absurd (by decide) hc
  | succ n ih =>
    intro i hi  H locs ls hP hD hS hl
    refine lv_iload hx hb dX1_mix_516 (lv_at hl 0 rfl) ?_
    refine lv_bipush (v := 8) hx hb dX1_mix_518 (by decide) ?_
    refine lv_icmp_ge (tgt := 562) hx hb dX1_mix_520 (by decide) (fun hc => ?_) (fun hc => ?_)
    · exact absurd hc (nI_ge (a := i) (b := 8) (by omega) (by omega))
    · refine lv_aload_n hx hb dX1_mix_523 rfl (lv_at hl 1 rfl) ?_
      refine mg_b2 S hK hP dX1_mix_524 ?_
      refine lv_iload hx hb dX1_mix_527 (lv_at hl 0 rfl) ?_
      refine lv_aload_n hx hb dX1_mix_529 rfl (lv_at hl 1 rfl) ?_
      refine mg_b2 S hK hP dX1_mix_530 ?_
      refine lv_iload hx hb dX1_mix_533 (lv_at hl 0 rfl) ?_
      refine ml_hh (j := i) S hK hP (kd_ix_n (by omega) (by omega)) dX1_mix_535 ?_
      refine lv_aload_n hx hb dX1_mix_536 rfl (lv_at hl 1 rfl) ?_
      refine mg_b3 S hK hP dX1_mix_537 ?_
      refine lv_iload hx hb dX1_mix_540 (lv_at hl 0 rfl) ?_
      refine ml_vv (j := i) S hK hP (kd_ix_n (by omega) (by omega)) dX1_mix_542 ?_
      refine lv_ixor hx hb dX1_mix_543 ?_
      refine lv_aload_n hx hb dX1_mix_544 rfl (lv_at hl 1 rfl) ?_
      refine mg_b3 S hK hP dX1_mix_545 ?_
      refine lv_iload hx hb dX1_mix_548 (lv_at hl 0 rfl) ?_
      refine lv_bipush (v := 8) hx hb dX1_mix_550 (by decide) ?_
      refine lv_iadd hx hb dX1_mix_552 ?_
      refine ml_vv (j := (i + 8)) S hK hP (kd_ix_e (nI_add i 8) (by omega) (by omega)) dX1_mix_553 ?_
      refine lv_ixor hx hb dX1_mix_554 ?_
      refine ms_hh (j := i) (g := kd_fill (kd_xo hh vv) hh (i + 1)) S hK hP hD hS (kd_ix_n (by omega) (by omega)) (kd_fill_s (kd_xoa hh vv i)) dX1_mix_555 (fun H locs hP hD hS => ?_)
      refine lv_iinc (v := nI (i + 1)) (lv' := [(4, .int (nI (i + 1))), (0, .ref o), (1, .long nn), (3, .int last)]) hx hb dX1_mix_556 hl (k := 0) rfl (nI_1 i) (by decide) rfl (fun ls hl => ?_)
      refine lv_goto (tgt := 516) hx hb dX1_mix_559 (by decide) ?_
      exact ih (i + 1) (by omega) H locs ls hP hD hS hl
set_option maxHeartbeats 4000000 in
theorem kd_Mmt {WS : va_W → Prop} (hR : 1 + 1 ≤ R.frames ∧ 8 + (7 + 11) + 21 ≤ R.locals) (hw : ∀ mm1 vv1 : Nat → Int32, WS (mw o b1 b2 b3 b4 b5 b6 cI rd io dn ky (kd_xo hh (kd_rs mm v0 10)) vv1 mm1 bk fl mx cm sz kd_tbl)) (S : CallFix p m c cX1_mix 5 s args lw_all RX1) (hr : meth.sig.returnType = none) (hlk : meth.locks = false) (hA : ∀ q, s.heap.size ≤ q → A q) (hK : va_K D vwCl (tyL cB cI) s) :
    ∀ (H : Heap) (locs : List Loc) (ls : Array Slot), va_P D vwCl (mw o b1 b2 b3 b4 b5 b6 cI rd io dn ky hh v0 mm bk fl mx cm sz kd_tbl) H → va_D A (mw o b1 b2 b3 b4 b5 b6 cI rd io dn ky hh v0 mm bk fl mx cm sz kd_tbl) → va_S A s.heap H locs → lv_has ls 5 [(4, .int (nI 16)), (0, .ref o), (1, .long nn), (3, .int last)] → W p l e R s m args below meth c H locs 0 0 (MQ below (kd_QV D (tyL cB cI) A WS) args s 0 0 A) (F0 m 176 ls []) := by
  have hx := S.1
  have hb := S.2.1
  have hown := S.2.2.2.1
  have hts := S.2.2.2.2
  intro  H locs ls hP hD hS hl
  refine lv_iconst (v := 0) hx hb dX1_mix_176 (by decide) ?_
  refine lv_istore (lv' := [(4, .int 0), (0, .ref o), (1, .long nn), (3, .int last)]) hx hb dX1_mix_177 hl (by decide) rfl (fun ls hl => ?_)
  refine kd_Mm3 (v0 := v0) hR hA S hK ?_ 10 0 rfl _ _ _ hP hD hS hl
  intro H locs ls hP hD hS hl
  refine lv_iconst (v := 0) hx hb dX1_mix_513 (by decide) ?_
  refine lv_istore (lv' := [(4, .int 0), (0, .ref o), (1, .long nn), (3, .int last)]) hx hb dX1_mix_514 hl (by decide) rfl (fun ls hl => ?_)
  refine kd_Mm4 (hh := hh) S hK ?_ 8 0 rfl _ _ _ (by rw [kd_fill_0]; exact hP) (by rw [kd_fill_0]; exact hD) hS hl
  intro H locs ls hP hD hS hl
  exact kd_vend S hr hlk hK hP hD hS (hw _ _) dX1_mix_562
end MMIX
set_option maxHeartbeats 4000000 in
/-- mix(n, last) -/
theorem metX1_mix (l : Launch) (D : va_G) (o b1 b2 b3 b4 b5 b6 : Nat) (cB cI : ClassId) (rd io dn : Int32) (ky hh vv mm bk : Nat → Int32) (fl : Int32) (mx : Int64) (cm sz : Int32) (hz : Nat) (nn : Int64) (last : Int32) : kd_MV l yX1_mix cX1_mix 5 ({ frames := 2, cells := 0, slots := 0, locals := 47 } : Room) [.ref o, .long nn, .int last] D (tyL cB cI) (mw o b1 b2 b3 b4 b5 b6 cI rd io dn ky hh vv mm bk fl mx cm sz kd_tbl) hz (fun w => ∃ mm1 vv1 : Nat → Int32, w = (mw o b1 b2 b3 b4 b5 b6 cI rd io dn ky (kd_mx (kd_w bk) hh nn last) vv1 mm1 bk fl mx cm sz kd_tbl)) := by
  refine kd_mv (by decide) (Nat.le_of_ble_eq_true rfl) ?_
  intro p e s m below meth c ls A S hr hlk hnm hA hP hK hD hS hl
  have S : CallFix p m c cX1_mix 5 s _ lw_all RX1 := S
  have hl : lv_has ls 5 [(0, .ref o), (1, .long nn), (3, .int last)] := hl
  have hx := S.1
  have hb := S.2.1
  have hown := S.2.2.2.1
  have hts := S.2.2.2.2
  refine lv_iconst (v := 0) hx hb dX1_mix_0 (by decide) ?_
  refine lv_istore (lv' := [(4, .int 0), (0, .ref o), (1, .long nn), (3, .int last)]) hx hb dX1_mix_1 hl (by decide) rfl (fun ls hl => ?_)
  refine kd_Mm1 (mm := mm) (vv := vv) ⟨Nat.le_of_ble_eq_true rfl, Nat.le_of_ble_eq_true rfl⟩ S hK ?_ 16 0 rfl _ _ _ (by rw [kd_fill_0, kd_fill_0]; exact hP) (by rw [kd_fill_0, kd_fill_0]; exact hD) hS hl
  intro H locs ls hP hD hS hl
  refine lv_aload_n hx hb dX1_mix_109 rfl (lv_at hl 1 rfl) ?_
  refine mg_b3 S hK hP dX1_mix_110 ?_
  refine lv_bipush (v := 12) hx hb dX1_mix_113 (by decide) ?_
  refine lv_aload_n hx hb dX1_mix_115 rfl (lv_at hl 1 rfl) ?_
  refine mg_b3 S hK hP dX1_mix_116 ?_
  refine lv_bipush (v := 12) hx hb dX1_mix_119 (by decide) ?_
  refine ml_vv (j := 12) S hK hP (kd_ix_n (j := 12) (by omega) (by omega)) dX1_mix_121 ?_
  refine lv_lload_n hx hb dX1_mix_122 rfl (lv_at hl 2 rfl) ?_
  refine lv_l2i hx hb dX1_mix_123 rfl ?_
  refine lv_ixor hx hb dX1_mix_124 ?_
  refine ms_vv (j := 12) (g := kd_x12 (kd_vs hh) nn) S hK hP hD hS (kd_ix_n (j := 12) (by omega) (by omega)) rfl dX1_mix_125 (fun H locs hP hD hS => ?_)
  refine lv_aload_n hx hb dX1_mix_126 rfl (lv_at hl 1 rfl) ?_
  refine mg_b3 S hK hP dX1_mix_127 ?_
  refine lv_bipush (v := 13) hx hb dX1_mix_130 (by decide) ?_
  refine lv_aload_n hx hb dX1_mix_132 rfl (lv_at hl 1 rfl) ?_
  refine mg_b3 S hK hP dX1_mix_133 ?_
  refine lv_bipush (v := 13) hx hb dX1_mix_136 (by decide) ?_
  refine ml_vv (j := 13) S hK hP (kd_ix_n (j := 13) (by omega) (by omega)) dX1_mix_138 ?_
  refine lv_lload_n hx hb dX1_mix_139 rfl (lv_at hl 2 rfl) ?_
  refine lv_bipush (v := 32) hx hb dX1_mix_140 (by decide) ?_
  refine lv_lushr hx hb dX1_mix_142 rfl ?_
  refine lv_l2i hx hb dX1_mix_143 rfl ?_
  refine lv_ixor hx hb dX1_mix_144 ?_
  refine ms_vv (j := 13) (g := kd_x13 (kd_x12 (kd_vs hh) nn) nn) S hK hP hD hS (kd_ix_n (j := 13) (by omega) (by omega)) rfl dX1_mix_145 (fun H locs hP hD hS => ?_)
  refine lv_aload_n hx hb dX1_mix_146 rfl (lv_at hl 1 rfl) ?_
  refine mg_b3 S hK hP dX1_mix_147 ?_
  refine lv_bipush (v := 14) hx hb dX1_mix_150 (by decide) ?_
  refine lv_iload_n hx hb dX1_mix_152 rfl (lv_at hl 3 rfl) ?_
  refine lv_if_eq (tgt := 168) hx hb dX1_mix_153 (by decide) (fun hq => ?_) (fun hq => ?_)
  · refine lv_aload_n hx hb dX1_mix_168 rfl (lv_at hl 1 rfl) ?_
    refine mg_b3 S hK hP dX1_mix_169 ?_
    refine lv_bipush (v := 14) hx hb dX1_mix_172 (by decide) ?_
    refine ml_vv (j := 14) S hK hP (kd_ix_n (j := 14) (by omega) (by omega)) dX1_mix_174 ?_
    refine ms_vv (j := 14) (g := kd_v0 hh nn last) S hK hP hD hS (kd_ix_n (j := 14) (by omega) (by omega)) ((kd_upd_same rfl).trans (kd_v0_0 hh nn hq).symm) dX1_mix_175 (fun H locs hP hD hS => ?_)
    exact kd_Mmt ⟨Nat.le_of_ble_eq_true rfl, Nat.le_of_ble_eq_true rfl⟩ (fun _ _ => ⟨_, _, rfl⟩) S hr hlk hA hK H locs ls hP hD hS hl
  · refine lv_aload_n hx hb dX1_mix_156 rfl (lv_at hl 1 rfl) ?_
    refine mg_b3 S hK hP dX1_mix_157 ?_
    refine lv_bipush (v := 14) hx hb dX1_mix_160 (by decide) ?_
    refine ml_vv (j := 14) S hK hP (kd_ix_n (j := 14) (by omega) (by omega)) dX1_mix_162 ?_
    refine lv_iconst (v := (-1)) hx hb dX1_mix_163 (by decide) ?_
    refine lv_ixor hx hb dX1_mix_164 ?_
    refine lv_goto (tgt := 175) hx hb dX1_mix_165 (by decide) ?_
    refine ms_vv (j := 14) (g := kd_v0 hh nn last) S hK hP hD hS (kd_ix_n (j := 14) (by omega) (by omega)) ((kd_v0_1 hh nn hq).symm) dX1_mix_175 (fun H locs hP hD hS => ?_)
    exact kd_Mmt ⟨Nat.le_of_ble_eq_true rfl, Nat.le_of_ble_eq_true rfl⟩ (fun _ _ => ⟨_, _, rfl⟩) S hr hlk hA hK H locs ls hP hD hS hl
end
section
set_option maxRecDepth 100000
section MTAKE
variable {p : Program} {l : Launch} {e : Env} {R : Room} {s : State} {m : MethodId} {args : Array Value} {below : List Frame} {meth : Method} {c : Code} {Q : State → Prop} {D : va_G} {A : Nat → Prop} {H0 : Heap}
variable {o b1 b2 b3 b4 b5 b6 : Nat} {cB cI : ClassId} {rd io dn fl cm sz : Int32} {ky hh vv mm bk rw : Nat → Int32} {mx : Int64}
variable {b0 : Nat → Int32} {f : Nat} {b : Int32}
set_option maxHeartbeats 4000000 in
theorem kd_Mtt {WS : va_W → Prop} (hf : f < 64) (hw : WS (mw o b1 b2 b3 b4 b5 b6 cI rd io dn ky hh vv mm (upd b0 f b) (nI (f + 1)) mx cm sz rw)) (S : CallFix p m c cX1_take 2 s args lw_all RX1) (hr : meth.sig.returnType = none) (hlk : meth.locks = false) (hA : ∀ q, s.heap.size ≤ q → A q) (hK : va_K D vwCl (tyL cB cI) s) :
    ∀ (H : Heap) (locs : List Loc) (ls : Array Slot), va_P D vwCl (mw o b1 b2 b3 b4 b5 b6 cI rd io dn ky hh vv mm b0 (nI f) mx cm sz rw) H → va_D A (mw o b1 b2 b3 b4 b5 b6 cI rd io dn ky hh vv mm b0 (nI f) mx cm sz rw) → va_S A s.heap H locs → lv_has ls 2 [(0, .ref o), (1, .int b)] → W p l e R s m args below meth c H locs 0 0 (MQ below (kd_QV D (tyL cB cI) A WS) args s 0 0 A) (F0 m 35 ls []) := by
  have hx := S.1
  have hb := S.2.1
  have hown := S.2.2.2.1
  have hts := S.2.2.2.2
  intro  H locs ls hP hD hS hl
  refine lv_aload_n hx hb dX1_take_35 rfl (lv_at hl 0 rfl) ?_
  refine mg_b5 S hK hP dX1_take_36 ?_
  refine lv_aload_n hx hb dX1_take_39 rfl (lv_at hl 0 rfl) ?_
  refine mg_fl S hK hP dX1_take_40 ?_
  refine lv_iload_n hx hb dX1_take_43 rfl (lv_at hl 1 rfl) ?_
  refine ms_bk (j := f) (g := upd b0 f b) S hK hP hD hS (kd_ix_n (by omega) (by omega)) rfl dX1_take_44 (fun H locs hP hD hS => ?_)
  refine lv_aload_n hx hb dX1_take_45 rfl (lv_at hl 0 rfl) ?_
  refine lv_dup hx hb dX1_take_46 rfl ?_
  refine mg_fl S hK hP dX1_take_47 ?_
  refine lv_iconst (v := 1) hx hb dX1_take_50 (by decide) ?_
  refine lv_iadd hx hb dX1_take_51 ?_
  refine mp_fl (x := (nI f) + 1) S hK hP hD hS dX1_take_52 (fun H locs hP hD hS => ?_)
  rw [nI_1] at hP hD
  exact kd_vend S hr hlk hK hP hD hS hw dX1_take_55
end MTAKE
set_option maxHeartbeats 4000000 in
/-- take(b) -/
theorem metX1_take (l : Launch) (D : va_G) (o b1 b2 b3 b4 b5 b6 : Nat) (cB cI : ClassId) (rd io dn : Int32) (ky vv mm : Nat → Int32) (K : kd_C) (cm sz : Int32) (hz : Nat) (b : Int32) (hf : K.2.2.1 ≤ 64) : kd_MV l yX1_take cX1_take 2 ({ frames := 3, cells := 0, slots := 0, locals := 71 } : Room) [.ref o, .int b] D (tyL cB cI) (mw o b1 b2 b3 b4 b5 b6 cI rd io dn ky K.1 vv mm K.2.1 (nI K.2.2.1) K.2.2.2 cm sz kd_tbl) hz (fun w => ∃ mm1 vv1 : Nat → Int32, w = (mw o b1 b2 b3 b4 b5 b6 cI rd io dn ky ((kd_tk K b).1) vv1 mm1 ((kd_tk K b).2.1) (nI (kd_tk K b).2.2.1) ((kd_tk K b).2.2.2) cm sz kd_tbl)) := by
  obtain ⟨hh, b0, f, mx⟩ := K
  have hf : f ≤ 64 := hf
  refine kd_mv (by decide) (Nat.le_of_ble_eq_true rfl) ?_
  intro p e s m below meth c ls A S hr hlk hnm hA hP hK hD hS hl
  have S : CallFix p m c cX1_take 2 s _ lw_all RX1 := S
  have hl : lv_has ls 2 [(0, .ref o), (1, .int b)] := hl
  have hx := S.1
  have hb := S.2.1
  have hown := S.2.2.2.1
  have hts := S.2.2.2.2
  have hP : va_P D vwCl (mw o b1 b2 b3 b4 b5 b6 cI rd io dn ky hh vv mm b0 (nI f) mx cm sz kd_tbl) s.heap := hP
  have hD : va_D A (mw o b1 b2 b3 b4 b5 b6 cI rd io dn ky hh vv mm b0 (nI f) mx cm sz kd_tbl) := hD
  refine lv_aload_n hx hb dX1_take_0 rfl (lv_at hl 0 rfl) ?_
  refine mg_fl S hK hP dX1_take_1 ?_
  refine lv_bipush (v := 64) hx hb dX1_take_4 (by decide) ?_
  refine lv_icmp_ne (tgt := 35) hx hb dX1_take_6 (by decide) (fun hc => ?_) (fun hc => ?_)
  · have h64 : ¬ f = 64 := fun q => hc ((kd_64 hf).mpr q)
    exact kd_Mtt (by omega) ⟨mm, vv, congrArg (fun K : kd_C => (mw o b1 b2 b3 b4 b5 b6 cI rd io dn ky K.1 (vv) (mm) K.2.1 (nI K.2.2.1) K.2.2.2 cm sz kd_tbl)) (kd_tk_0 h64 b).symm⟩ S hr hlk hA hK _ _ ls hP hD hS hl
  · have h64 : f = 64 := (kd_64 hf).mp hc
    refine lv_aload_n hx hb dX1_take_9 rfl (lv_at hl 0 rfl) ?_
    refine lv_aload_n hx hb dX1_take_10 rfl (lv_at hl 0 rfl) ?_
    refine mg_mx S hK hP dX1_take_11 ?_
    refine lv_ldc2 hx hb hown (hts _ q222) dX1_take_14 ?_
    refine lv_ladd hx hb dX1_take_17 ?_
    refine mp_mx (x := mx + 64) S hK hP hD hS dX1_take_18 (fun H locs hP hD hS => ?_)
    refine lv_aload_n hx hb dX1_take_21 rfl (lv_at hl 0 rfl) ?_
    refine lv_aload_n hx hb dX1_take_22 rfl (lv_at hl 0 rfl) ?_
    refine mg_mx S hK hP dX1_take_23 ?_
    refine lv_iconst (v := 0) hx hb dX1_take_26 (by decide) ?_
    refine kd_cv (rest := []) S (metX1_mix l D o b1 b2 b3 b4 b5 b6 cB cI rd io dn ky hh vv mm b0 (nI f) (mx + 64) cm sz H.size (mx + 64) 0) (cwV 2 hts (lw_V q223 q225 qs6 q10 q226) rfl rfl rfl (by decide +kernel) ⟨Nat.le_of_ble_eq_true rfl, Nat.le_of_ble_eq_true rfl⟩) hK hP hD hS hA (m_rec hK hP) rfl hl.1 rfl (Nat.le_of_ble_eq_true rfl) dX1_take_27 ⟨Nat.zero_le _, Nat.zero_le _⟩ (fun w H locs hw hP hD hS => ?_)
    obtain ⟨mm1, vv1, rfl⟩ := hw
    refine lv_aload_n hx hb dX1_take_30 rfl (lv_at hl 0 rfl) ?_
    refine lv_iconst (v := 0) hx hb dX1_take_31 (by decide) ?_
    refine mp_fl (x := 0) S hK hP hD hS dX1_take_32 (fun H locs hP hD hS => ?_)
    exact kd_Mtt (f := 0) (by omega) ⟨mm1, vv1, congrArg (fun K : kd_C => (mw o b1 b2 b3 b4 b5 b6 cI rd io dn ky K.1 (vv1) (mm1) K.2.1 (nI K.2.2.1) K.2.2.2 cm sz kd_tbl)) (kd_tk_1 h64 b).symm⟩ S hr hlk hA hK _ _ ls hP hD hS hl
set_option maxHeartbeats 4000000 in
/-- update(b) -/
theorem metX1_update (l : Launch) (D : va_G) (o b1 b2 b3 b4 b5 b6 : Nat) (cB cI : ClassId) (rd ph : Int32) (ky mm vv : Nat → Int32) (K : kd_C) (dg : Int32) (ct : Int64) (hz : Nat) (b : Int32) (hok : kd_ok K) : kd_MI l yX1_update cX1_update 3 .boolean ({ frames := 4, cells := 0, slots := 0, locals := 92 } : Room) [.ref o, .int b] D (tyL cB cI) (mw o b1 b2 b3 b4 b5 b6 cI rd (kd_op ph) (kd_do ph) ky K.1 vv mm K.2.1 (nI K.2.2.1) K.2.2.2 ct.toInt32 dg kd_tbl) hz (fun r w => (kd_cu ph b ∧ r = 1 ∧ ∃ mm1 vv1 : Nat → Int32, w = (mw o b1 b2 b3 b4 b5 b6 cI rd (kd_op ph) (kd_do ph) ky ((kd_tk K b).1) vv1 mm1 ((kd_tk K b).2.1) (nI (kd_tk K b).2.2.1) ((kd_tk K b).2.2.2) ((ct + 1).toInt32) dg kd_tbl)) ∨ (¬ kd_cu ph b ∧ r = 0 ∧ ∃ mm1 vv1 : Nat → Int32, w = (mw o b1 b2 b3 b4 b5 b6 cI rd (kd_op ph) (kd_do ph) ky K.1 vv1 mm1 K.2.1 (nI K.2.2.1) K.2.2.2 ct.toInt32 dg kd_tbl))) := by
  refine kd_mi (by decide) (Nat.le_of_ble_eq_true rfl) ?_
  intro p e s m below meth c ls A S hr hlk hA hP hK hD hS hl
  have S : CallFix p m c cX1_update 3 s _ lw_all RX1 := S
  have hl : lv_has ls 3 [(0, .ref o), (1, .int b)] := hl
  have hx := S.1
  have hb := S.2.1
  have hown := S.2.2.2.1
  have hts := S.2.2.2.2
  refine lv_aload_n hx hb dX1_update_0 rfl (lv_at hl 0 rfl) ?_
  refine mg_io S hK hP dX1_update_1 ?_
  refine lv_if_eq (tgt := 22) hx hb dX1_update_4 (by decide) (fun h1 => ?_) (fun h1 => ?_)
  · refine lv_iconst (v := 0) hx hb dX1_update_22 (by decide) ?_
    refine lv_istore_n (lv' := [(2, .int 0), (0, .ref o), (1, .int b)]) hx hb dX1_update_23 rfl hl (by decide) rfl (fun ls hl => ?_)
    refine lv_iload_n hx hb dX1_update_24 rfl (lv_at hl 0 rfl) ?_
    refine lv_if_eq (tgt := 43) hx hb dX1_update_25 (by decide) (fun hn => ?_) (fun hn => ?_)
    · refine lv_iload_n hx hb dX1_update_43 rfl (lv_at hl 0 rfl) ?_
      exact kd_iend S hr rfl hlk hK hP hD hS (Or.inr ⟨fun q => kd_op_0 h1 q.1, rfl, mm, vv, rfl⟩) dX1_update_44
    · exact absurd rfl hn
  · refine lv_iload_n hx hb dX1_update_7 rfl (lv_at hl 1 rfl) ?_
    refine lv_if_lt (tgt := 22) hx hb dX1_update_8 (by decide) (fun h2 => ?_) (fun h2 => ?_)
    · refine lv_iconst (v := 0) hx hb dX1_update_22 (by decide) ?_
      refine lv_istore_n (lv' := [(2, .int 0), (0, .ref o), (1, .int b)]) hx hb dX1_update_23 rfl hl (by decide) rfl (fun ls hl => ?_)
      refine lv_iload_n hx hb dX1_update_24 rfl (lv_at hl 0 rfl) ?_
      refine lv_if_eq (tgt := 43) hx hb dX1_update_25 (by decide) (fun hn => ?_) (fun hn => ?_)
      · refine lv_iload_n hx hb dX1_update_43 rfl (lv_at hl 0 rfl) ?_
        exact kd_iend S hr rfl hlk hK hP hD hS (Or.inr ⟨fun q => q.2.1 h2, rfl, mm, vv, rfl⟩) dX1_update_44
      · exact absurd rfl hn
    · refine lv_iload_n hx hb dX1_update_11 rfl (lv_at hl 1 rfl) ?_
      refine lv_sipush (v := 256) hx hb dX1_update_12 (by decide) ?_
      refine lv_icmp_ge (tgt := 22) hx hb dX1_update_15 (by decide) (fun h3 => ?_) (fun h3 => ?_)
      · refine lv_iconst (v := 0) hx hb dX1_update_22 (by decide) ?_
        refine lv_istore_n (lv' := [(2, .int 0), (0, .ref o), (1, .int b)]) hx hb dX1_update_23 rfl hl (by decide) rfl (fun ls hl => ?_)
        refine lv_iload_n hx hb dX1_update_24 rfl (lv_at hl 0 rfl) ?_
        refine lv_if_eq (tgt := 43) hx hb dX1_update_25 (by decide) (fun hn => ?_) (fun hn => ?_)
        · refine lv_iload_n hx hb dX1_update_43 rfl (lv_at hl 0 rfl) ?_
          exact kd_iend S hr rfl hlk hK hP hD hS (Or.inr ⟨fun q => q.2.2 h3, rfl, mm, vv, rfl⟩) dX1_update_44
        · exact absurd rfl hn
      · refine lv_iconst (v := 1) hx hb dX1_update_18 (by decide) ?_
        refine lv_goto (tgt := 23) hx hb dX1_update_19 (by decide) ?_
        refine lv_istore_n (lv' := [(2, .int 1), (0, .ref o), (1, .int b)]) hx hb dX1_update_23 rfl hl (by decide) rfl (fun ls hl => ?_)
        refine lv_iload_n hx hb dX1_update_24 rfl (lv_at hl 0 rfl) ?_
        refine lv_if_eq (tgt := 43) hx hb dX1_update_25 (by decide) (fun hn => ?_) (fun hn => ?_)
        · exact absurd hn (by decide)
        · refine lv_aload_n hx hb dX1_update_28 rfl (lv_at hl 1 rfl) ?_
          refine lv_iload_n hx hb dX1_update_29 rfl (lv_at hl 2 rfl) ?_
          refine kd_cv (rest := []) S (metX1_take l D o b1 b2 b3 b4 b5 b6 cB cI rd (kd_op ph) (kd_do ph) ky vv mm K ct.toInt32 dg _ b hok.1) (cwV 1 hts (lw_V q218 q220 qs5 q10 q221) rfl rfl rfl (by decide +kernel) ⟨Nat.le_of_ble_eq_true rfl, Nat.le_of_ble_eq_true rfl⟩) hK hP hD hS hA (m_rec hK hP) rfl hl.1 rfl (Nat.le_of_ble_eq_true rfl) dX1_update_30 ⟨Nat.zero_le _, Nat.zero_le _⟩ (fun w H locs hw hP hD hS => ?_)
          obtain ⟨mm1, vv1, rfl⟩ := hw
          refine lv_aload_n hx hb dX1_update_33 rfl (lv_at hl 1 rfl) ?_
          refine lv_dup hx hb dX1_update_34 rfl ?_
          refine mg_cm S hK hP dX1_update_35 ?_
          refine lv_iconst (v := 1) hx hb dX1_update_38 (by decide) ?_
          refine lv_iadd hx hb dX1_update_39 ?_
          refine mp_cm (x := ct.toInt32 + 1) S hK hP hD hS dX1_update_40 (fun H locs hP hD hS => ?_)
          rw [kd_t32] at hP hD
          refine lv_iload_n hx hb dX1_update_43 rfl (lv_at hl 0 rfl) ?_
          exact kd_iend S hr rfl hlk hK hP hD hS (Or.inl ⟨⟨kd_op_1 h1, h2, h3⟩, rfl, mm1, vv1, rfl⟩) dX1_update_44
section MUPS
variable {p : Program} {l : Launch} {e : Env} {R : Room} {s : State} {m : MethodId} {args : Array Value} {below : List Frame} {meth : Method} {c : Code} {Q : State → Prop} {D : va_G} {A : Nat → Prop} {H0 : Heap}
variable {o b1 b2 b3 b4 b5 b6 : Nat} {cB cI : ClassId} {rd io dn fl cm sz : Int32} {ky hh vv mm bk rw : Nat → Int32} {mx : Int64}
variable {K : kd_C} {ct : Int64} {ph dg : Int32} {N : Nat}
variable {ia ib ic id x : Int32}
set_option maxHeartbeats 4000000 in
theorem kd_Mus76 (hR : 3 + 1 ≤ R.frames ∧ 8 + (2 + 11) + 71 ≤ R.locals) (hA : ∀ q, H0.size ≤ q → A q) (hf : K.2.2.1 ≤ 64) (i : Nat) (S : CallFix p m c cX1_updates 9 s args lw_all RX1) (hK : va_K D vwCl (tyL cB cI) s)
    (kx : ∀ (mm1 vv1 : Nat → Int32) (H : Heap) (locs : List Loc) (ls : Array Slot), va_P D vwCl (mw o b1 b2 b3 b4 b5 b6 cI rd io dn ky ((kd_tk K ((x >>> ((24 - 8 * (nI i - nI i / 4 * 4)) &&& 31)) &&& 255)).1) vv1 mm1 ((kd_tk K ((x >>> ((24 - 8 * (nI i - nI i / 4 * 4)) &&& 31)) &&& 255)).2.1) (nI (kd_tk K ((x >>> ((24 - 8 * (nI i - nI i / 4 * 4)) &&& 31)) &&& 255)).2.2.1) ((kd_tk K ((x >>> ((24 - 8 * (nI i - nI i / 4 * 4)) &&& 31)) &&& 255)).2.2.2) (cm + 1) sz kd_tbl) H → va_D A (mw o b1 b2 b3 b4 b5 b6 cI rd io dn ky ((kd_tk K ((x >>> ((24 - 8 * (nI i - nI i / 4 * 4)) &&& 31)) &&& 255)).1) vv1 mm1 ((kd_tk K ((x >>> ((24 - 8 * (nI i - nI i / 4 * 4)) &&& 31)) &&& 255)).2.1) (nI (kd_tk K ((x >>> ((24 - 8 * (nI i - nI i / 4 * 4)) &&& 31)) &&& 255)).2.2.1) ((kd_tk K ((x >>> ((24 - 8 * (nI i - nI i / 4 * 4)) &&& 31)) &&& 255)).2.2.2) (cm + 1) sz kd_tbl) → va_S A H0 H locs → lv_has ls 9 [(7, .int (nI (i + 1))), (6, .int 1), (0, .ref o), (1, .int ia), (2, .int ib), (3, .int ic), (4, .int id), (5, .int (nI N))] → W p l e R s m args below meth c H locs 0 0 Q (F0 m 30 ls [])) :
    ∀ (H : Heap) (locs : List Loc) (ls : Array Slot), va_P D vwCl (mw o b1 b2 b3 b4 b5 b6 cI rd io dn ky K.1 vv mm K.2.1 (nI K.2.2.1) K.2.2.2 cm sz kd_tbl) H → va_D A (mw o b1 b2 b3 b4 b5 b6 cI rd io dn ky K.1 vv mm K.2.1 (nI K.2.2.1) K.2.2.2 cm sz kd_tbl) → va_S A H0 H locs → lv_has ls 9 [(7, .int (nI i)), (6, .int 1), (0, .ref o), (1, .int ia), (2, .int ib), (3, .int ic), (4, .int id), (5, .int (nI N))] → W p l e R s m args below meth c H locs 0 0 Q (F0 m 76 ls [.int x]) := by
  have hx := S.1
  have hb := S.2.1
  have hown := S.2.2.2.1
  have hts := S.2.2.2.2
  intro H locs ls hP hD hS hl
  refine lv_istore (lv' := [(8, .int x), (7, .int (nI i)), (6, .int 1), (0, .ref o), (1, .int ia), (2, .int ib), (3, .int ic), (4, .int id), (5, .int (nI N))]) hx hb dX1_updates_76 hl (by decide) rfl (fun ls hl => ?_)
  refine lv_aload_n hx hb dX1_updates_78 rfl (lv_at hl 3 rfl) ?_
  refine lv_iload hx hb dX1_updates_79 (lv_at hl 0 rfl) ?_
  refine lv_bipush (v := 24) hx hb dX1_updates_81 (by decide) ?_
  refine lv_bipush (v := 8) hx hb dX1_updates_83 (by decide) ?_
  refine lv_iload hx hb dX1_updates_85 (lv_at hl 1 rfl) ?_
  refine lv_iconst (v := 4) hx hb dX1_updates_87 (by decide) ?_
  refine lv_irem hx hb dX1_updates_88 (by decide) ?_
  refine lv_imul hx hb dX1_updates_89 ?_
  refine lv_isub hx hb dX1_updates_90 ?_
  refine lv_ishr hx hb dX1_updates_91 ?_
  refine lv_sipush (v := 255) hx hb dX1_updates_92 (by decide) ?_
  refine lv_iand hx hb dX1_updates_95 ?_
  refine kd_cv (rest := []) S (metX1_take l D o b1 b2 b3 b4 b5 b6 cB cI rd io dn ky vv mm K cm sz _ ((x >>> ((24 - 8 * (nI i - nI i / 4 * 4)) &&& 31)) &&& 255) hf) (cwV 1 hts (lw_V q218 q220 qs5 q10 q221) rfl rfl rfl (by decide +kernel) hR) hK hP hD hS hA (m_rec hK hP) rfl hl.1 rfl (Nat.le_of_ble_eq_true rfl) dX1_updates_96 ⟨Nat.zero_le _, Nat.zero_le _⟩ (fun w H locs hw hP hD hS => ?_)
  obtain ⟨mm1, vv1, rfl⟩ := hw
  refine lv_aload_n hx hb dX1_updates_99 rfl (lv_at hl 3 rfl) ?_
  refine lv_dup hx hb dX1_updates_100 rfl ?_
  refine mg_cm S hK hP dX1_updates_101 ?_
  refine lv_iconst (v := 1) hx hb dX1_updates_104 (by decide) ?_
  refine lv_iadd hx hb dX1_updates_105 ?_
  refine mp_cm (x := cm + 1) S hK hP hD hS dX1_updates_106 (fun H locs hP hD hS => ?_)
  refine lv_iinc (v := nI (i + 1)) (lv' := [(7, .int (nI (i + 1))), (8, .int x), (6, .int 1), (0, .ref o), (1, .int ia), (2, .int ib), (3, .int ic), (4, .int id), (5, .int (nI N))]) hx hb dX1_updates_109 hl (k := 1) rfl (nI_1 i) (by decide) rfl (fun ls hl => ?_)
  refine lv_goto (tgt := 30) hx hb dX1_updates_112 (by decide) ?_
  exact kx mm1 vv1 H locs ls hP hD hS (lv_sub hl [0, 2, 3, 4, 5, 6, 7, 8] rfl)
set_option maxHeartbeats 4000000 in
theorem kd_Mus (hR : 3 + 1 ≤ R.frames ∧ 8 + (2 + 11) + 71 ≤ R.locals) (hA : ∀ q, H0.size ≤ q → A q) (hok : kd_ok K) (hN : N ≤ 16) (S : CallFix p m c cX1_updates 9 s args lw_all RX1) (hK : va_K D vwCl (tyL cB cI) s)
    (kx : ∀ (mm vv : Nat → Int32), ∀ (H : Heap) (locs : List Loc) (ls : Array Slot), va_P D vwCl (mw o b1 b2 b3 b4 b5 b6 cI rd io dn ky ((kd_tN K (kd_ub ia ib ic id) N).1) vv mm ((kd_tN K (kd_ub ia ib ic id) N).2.1) (nI (kd_tN K (kd_ub ia ib ic id) N).2.2.1) ((kd_tN K (kd_ub ia ib ic id) N).2.2.2) ((ct + lN N).toInt32) sz kd_tbl) H → va_D A (mw o b1 b2 b3 b4 b5 b6 cI rd io dn ky ((kd_tN K (kd_ub ia ib ic id) N).1) vv mm ((kd_tN K (kd_ub ia ib ic id) N).2.1) (nI (kd_tN K (kd_ub ia ib ic id) N).2.2.1) ((kd_tN K (kd_ub ia ib ic id) N).2.2.2) ((ct + lN N).toInt32) sz kd_tbl) → va_S A H0 H locs → lv_has ls 9 [(7, .int (nI N)), (6, .int 1), (0, .ref o), (1, .int ia), (2, .int ib), (3, .int ic), (4, .int id), (5, .int (nI N))] → W p l e R s m args below meth c H locs 0 0 Q (F0 m 115 ls [])) :
    ∀ (n i : Nat), i + n = N → ∀ (mm vv : Nat → Int32), ∀ (H : Heap) (locs : List Loc) (ls : Array Slot), va_P D vwCl (mw o b1 b2 b3 b4 b5 b6 cI rd io dn ky ((kd_tN K (kd_ub ia ib ic id) i).1) vv mm ((kd_tN K (kd_ub ia ib ic id) i).2.1) (nI (kd_tN K (kd_ub ia ib ic id) i).2.2.1) ((kd_tN K (kd_ub ia ib ic id) i).2.2.2) ((ct + lN i).toInt32) sz kd_tbl) H → va_D A (mw o b1 b2 b3 b4 b5 b6 cI rd io dn ky ((kd_tN K (kd_ub ia ib ic id) i).1) vv mm ((kd_tN K (kd_ub ia ib ic id) i).2.1) (nI (kd_tN K (kd_ub ia ib ic id) i).2.2.1) ((kd_tN K (kd_ub ia ib ic id) i).2.2.2) ((ct + lN i).toInt32) sz kd_tbl) → va_S A H0 H locs → lv_has ls 9 [(7, .int (nI i)), (6, .int 1), (0, .ref o), (1, .int ia), (2, .int ib), (3, .int ic), (4, .int id), (5, .int (nI N))] → W p l e R s m args below meth c H locs 0 0 Q (F0 m 30 ls []) := by
  have hx := S.1
  have hb := S.2.1
  have hown := S.2.2.2.1
  have hts := S.2.2.2.2
  intro n
  induction n with
  | zero =>
    intro i hi mm vv H locs ls hP hD hS hl
    obtain rfl : i = N := by omega
    refine lv_iload hx hb dX1_updates_30 (lv_at hl 0 rfl) ?_
    refine lv_iload hx hb dX1_updates_32 (lv_at hl 7 rfl) ?_
    refine lv_icmp_ge (tgt := 115) hx hb dX1_updates_34 (by decide) (fun hc => ?_) (fun hc => ?_)
    · exact kx mm vv H locs ls hP hD hS hl
    · exact absurd (nI_le (Nat.le_refl i) (by omega)) hc
  | succ n ih =>
    intro i hi mm vv H locs ls hP hD hS hl
    refine lv_iload hx hb dX1_updates_30 (lv_at hl 0 rfl) ?_
    refine lv_iload hx hb dX1_updates_32 (lv_at hl 7 rfl) ?_
    refine lv_icmp_ge (tgt := 115) hx hb dX1_updates_34 (by decide) (fun hc => ?_) (fun hc => ?_)
    · exact absurd hc (nI_ge (a := i) (b := N) (by omega) (by omega))
    · refine lv_iload hx hb dX1_updates_37 (lv_at hl 1 rfl) ?_
      refine lv_if_eq (tgt := 115) hx hb dX1_updates_39 (by decide) (fun hn => ?_) (fun hn => ?_)
      · exact absurd hn (by decide)
      · refine lv_iload hx hb dX1_updates_42 (lv_at hl 0 rfl) ?_
        refine lv_iconst (v := 4) hx hb dX1_updates_44 (by decide) ?_
        refine lv_icmp_ge (tgt := 52) hx hb dX1_updates_45 (by decide) (fun k1 => ?_) (fun k1 => ?_)
        · refine lv_iload hx hb dX1_updates_52 (lv_at hl 0 rfl) ?_
          refine lv_bipush (v := 8) hx hb dX1_updates_54 (by decide) ?_
          refine lv_icmp_ge (tgt := 63) hx hb dX1_updates_56 (by decide) (fun k2 => ?_) (fun k2 => ?_)
          · refine lv_iload hx hb dX1_updates_63 (lv_at hl 0 rfl) ?_
            refine lv_bipush (v := 12) hx hb dX1_updates_65 (by decide) ?_
            refine lv_icmp_ge (tgt := 74) hx hb dX1_updates_67 (by decide) (fun k3 => ?_) (fun k3 => ?_)
            · refine lv_iload hx hb dX1_updates_74 (lv_at hl 6 rfl) ?_
              refine W.eq (g2 := F0 m 76 ls [.int (kd_sel ia ib ic id i)]) (by rw [kd_sel_4 ia ib ic id ((nI_leI (a := 12) (by omega) (by omega)).mp k3)]) ?_
              exact kd_Mus76 hR hA (kd_tN_ok hok (kd_ub_by ia ib ic id) i).1 i S hK (fun mm1 vv1 H locs ls hP hD hS hl => ih (i + 1) (by omega) mm1 vv1 H locs ls (by rw [← kd_t32n]; exact hP) (by rw [← kd_t32n]; exact hD) hS hl) H locs ls hP hD hS hl
            · refine lv_iload_n hx hb dX1_updates_70 rfl (lv_at hl 5 rfl) ?_
              refine lv_goto (tgt := 76) hx hb dX1_updates_71 (by decide) ?_
              refine W.eq (g2 := F0 m 76 ls [.int (kd_sel ia ib ic id i)]) (by rw [kd_sel_3 ia ib ic id ((nI_leI (a := 8) (by omega) (by omega)).mp k2) (kd_nlt (M := 12) (by omega) (by omega) k3)]) ?_
              exact kd_Mus76 hR hA (kd_tN_ok hok (kd_ub_by ia ib ic id) i).1 i S hK (fun mm1 vv1 H locs ls hP hD hS hl => ih (i + 1) (by omega) mm1 vv1 H locs ls (by rw [← kd_t32n]; exact hP) (by rw [← kd_t32n]; exact hD) hS hl) H locs ls hP hD hS hl
          · refine lv_iload_n hx hb dX1_updates_59 rfl (lv_at hl 4 rfl) ?_
            refine lv_goto (tgt := 76) hx hb dX1_updates_60 (by decide) ?_
            refine W.eq (g2 := F0 m 76 ls [.int (kd_sel ia ib ic id i)]) (by rw [kd_sel_2 ia ib ic id ((nI_leI (a := 4) (by omega) (by omega)).mp k1) (kd_nlt (M := 8) (by omega) (by omega) k2)]) ?_
            exact kd_Mus76 hR hA (kd_tN_ok hok (kd_ub_by ia ib ic id) i).1 i S hK (fun mm1 vv1 H locs ls hP hD hS hl => ih (i + 1) (by omega) mm1 vv1 H locs ls (by rw [← kd_t32n]; exact hP) (by rw [← kd_t32n]; exact hD) hS hl) H locs ls hP hD hS hl
        · refine lv_iload_n hx hb dX1_updates_48 rfl (lv_at hl 3 rfl) ?_
          refine lv_goto (tgt := 76) hx hb dX1_updates_49 (by decide) ?_
          refine W.eq (g2 := F0 m 76 ls [.int (kd_sel ia ib ic id i)]) (by rw [kd_sel_1 ia ib ic id (kd_nlt (M := 4) (by omega) (by omega) k1)]) ?_
          exact kd_Mus76 hR hA (kd_tN_ok hok (kd_ub_by ia ib ic id) i).1 i S hK (fun mm1 vv1 H locs ls hP hD hS hl => ih (i + 1) (by omega) mm1 vv1 H locs ls (by rw [← kd_t32n]; exact hP) (by rw [← kd_t32n]; exact hD) hS hl) H locs ls hP hD hS hl
end MUPS
set_option maxHeartbeats 4000000 in
/-- updates(a, b, c, d, n) -/
theorem metX1_updates (l : Launch) (D : va_G) (o b1 b2 b3 b4 b5 b6 : Nat) (cB cI : ClassId) (rd ph : Int32) (ky mm vv : Nat → Int32) (K : kd_C) (dg : Int32) (ct : Int64) (hz : Nat) (ia ib ic id n : Int32) (hok : kd_ok K) : kd_MI l yX1_updates cX1_updates 9 .boolean ({ frames := 4, cells := 0, slots := 0, locals := 92 } : Room) [.ref o, .int ia, .int ib, .int ic, .int id, .int n] D (tyL cB cI) (mw o b1 b2 b3 b4 b5 b6 cI rd (kd_op ph) (kd_do ph) ky K.1 vv mm K.2.1 (nI K.2.2.1) K.2.2.2 ct.toInt32 dg kd_tbl) hz (fun r w => (kd_cus ph n ∧ r = 1 ∧ ∃ mm1 vv1 : Nat → Int32, w = (mw o b1 b2 b3 b4 b5 b6 cI rd (kd_op ph) (kd_do ph) ky ((kd_tN K (kd_ub ia ib ic id) n.toNatClampNeg).1) vv1 mm1 ((kd_tN K (kd_ub ia ib ic id) n.toNatClampNeg).2.1) (nI (kd_tN K (kd_ub ia ib ic id) n.toNatClampNeg).2.2.1) ((kd_tN K (kd_ub ia ib ic id) n.toNatClampNeg).2.2.2) ((ct + lN n.toNatClampNeg).toInt32) dg kd_tbl)) ∨ (¬ kd_cus ph n ∧ r = 0 ∧ ∃ mm1 vv1 : Nat → Int32, w = (mw o b1 b2 b3 b4 b5 b6 cI rd (kd_op ph) (kd_do ph) ky K.1 vv1 mm1 K.2.1 (nI K.2.2.1) K.2.2.2 ct.toInt32 dg kd_tbl))) := by
  refine kd_mi (by decide) (Nat.le_of_ble_eq_true rfl) ?_
  intro p e s m below meth c ls A S hr hlk hA hP hK hD hS hl
  have S : CallFix p m c cX1_updates 9 s _ lw_all RX1 := S
  have hl : lv_has ls 9 [(0, .ref o), (1, .int ia), (2, .int ib), (3, .int ic), (4, .int id), (5, .int n)] := hl
  have hx := S.1
  have hb := S.2.1
  have hown := S.2.2.2.1
  have hts := S.2.2.2.2
  refine lv_aload_n hx hb dX1_updates_0 rfl (lv_at hl 0 rfl) ?_
  refine mg_io S hK hP dX1_updates_1 ?_
  refine lv_if_eq (tgt := 24) hx hb dX1_updates_4 (by decide) (fun h1 => ?_) (fun h1 => ?_)
  · refine lv_iconst (v := 0) hx hb dX1_updates_24 (by decide) ?_
    refine lv_istore (lv' := [(6, .int 0), (0, .ref o), (1, .int ia), (2, .int ib), (3, .int ic), (4, .int id), (5, .int n)]) hx hb dX1_updates_25 hl (by decide) rfl (fun ls hl => ?_)
    refine lv_iconst (v := 0) hx hb dX1_updates_27 (by decide) ?_
    refine lv_istore (lv' := [(7, .int 0), (6, .int 0), (0, .ref o), (1, .int ia), (2, .int ib), (3, .int ic), (4, .int id), (5, .int n)]) hx hb dX1_updates_28 hl (by decide) rfl (fun ls hl => ?_)
    refine lv_iload hx hb dX1_updates_30 (lv_at hl 0 rfl) ?_
    refine lv_iload hx hb dX1_updates_32 (lv_at hl 7 rfl) ?_
    refine lv_icmp_ge (tgt := 115) hx hb dX1_updates_34 (by decide) (fun hm => ?_) (fun hm => ?_)
    · refine lv_iload hx hb dX1_updates_115 (lv_at hl 1 rfl) ?_
      exact kd_iend S hr rfl hlk hK hP hD hS (Or.inr ⟨fun q => kd_op_0 h1 q.1, rfl, mm, vv, rfl⟩) dX1_updates_117
    · refine lv_iload hx hb dX1_updates_37 (lv_at hl 1 rfl) ?_
      refine lv_if_eq (tgt := 115) hx hb dX1_updates_39 (by decide) (fun hn => ?_) (fun hn => ?_)
      · refine lv_iload hx hb dX1_updates_115 (lv_at hl 1 rfl) ?_
        exact kd_iend S hr rfl hlk hK hP hD hS (Or.inr ⟨fun q => kd_op_0 h1 q.1, rfl, mm, vv, rfl⟩) dX1_updates_117
      · exact absurd rfl hn
  · refine lv_iload hx hb dX1_updates_7 (lv_at hl 5 rfl) ?_
    refine lv_iconst (v := 1) hx hb dX1_updates_9 (by decide) ?_
    refine lv_icmp_lt (tgt := 24) hx hb dX1_updates_10 (by decide) (fun h2 => ?_) (fun h2 => ?_)
    · refine lv_iconst (v := 0) hx hb dX1_updates_24 (by decide) ?_
      refine lv_istore (lv' := [(6, .int 0), (0, .ref o), (1, .int ia), (2, .int ib), (3, .int ic), (4, .int id), (5, .int n)]) hx hb dX1_updates_25 hl (by decide) rfl (fun ls hl => ?_)
      refine lv_iconst (v := 0) hx hb dX1_updates_27 (by decide) ?_
      refine lv_istore (lv' := [(7, .int 0), (6, .int 0), (0, .ref o), (1, .int ia), (2, .int ib), (3, .int ic), (4, .int id), (5, .int n)]) hx hb dX1_updates_28 hl (by decide) rfl (fun ls hl => ?_)
      refine lv_iload hx hb dX1_updates_30 (lv_at hl 0 rfl) ?_
      refine lv_iload hx hb dX1_updates_32 (lv_at hl 7 rfl) ?_
      refine lv_icmp_ge (tgt := 115) hx hb dX1_updates_34 (by decide) (fun hm => ?_) (fun hm => ?_)
      · refine lv_iload hx hb dX1_updates_115 (lv_at hl 1 rfl) ?_
        exact kd_iend S hr rfl hlk hK hP hD hS (Or.inr ⟨fun q => q.2.1 h2, rfl, mm, vv, rfl⟩) dX1_updates_117
      · refine lv_iload hx hb dX1_updates_37 (lv_at hl 1 rfl) ?_
        refine lv_if_eq (tgt := 115) hx hb dX1_updates_39 (by decide) (fun hn => ?_) (fun hn => ?_)
        · refine lv_iload hx hb dX1_updates_115 (lv_at hl 1 rfl) ?_
          exact kd_iend S hr rfl hlk hK hP hD hS (Or.inr ⟨fun q => q.2.1 h2, rfl, mm, vv, rfl⟩) dX1_updates_117
        · exact absurd rfl hn
    · refine lv_iload hx hb dX1_updates_13 (lv_at hl 5 rfl) ?_
      refine lv_bipush (v := 16) hx hb dX1_updates_15 (by decide) ?_
      refine lv_icmp_gt (tgt := 24) hx hb dX1_updates_17 (by decide) (fun h3 => ?_) (fun h3 => ?_)
      · refine lv_iconst (v := 0) hx hb dX1_updates_24 (by decide) ?_
        refine lv_istore (lv' := [(6, .int 0), (0, .ref o), (1, .int ia), (2, .int ib), (3, .int ic), (4, .int id), (5, .int n)]) hx hb dX1_updates_25 hl (by decide) rfl (fun ls hl => ?_)
        refine lv_iconst (v := 0) hx hb dX1_updates_27 (by decide) ?_
        refine lv_istore (lv' := [(7, .int 0), (6, .int 0), (0, .ref o), (1, .int ia), (2, .int ib), (3, .int ic), (4, .int id), (5, .int n)]) hx hb dX1_updates_28 hl (by decide) rfl (fun ls hl => ?_)
        refine lv_iload hx hb dX1_updates_30 (lv_at hl 0 rfl) ?_
        refine lv_iload hx hb dX1_updates_32 (lv_at hl 7 rfl) ?_
        refine lv_icmp_ge (tgt := 115) hx hb dX1_updates_34 (by decide) (fun hm => ?_) (fun hm => ?_)
        · refine lv_iload hx hb dX1_updates_115 (lv_at hl 1 rfl) ?_
          exact kd_iend S hr rfl hlk hK hP hD hS (Or.inr ⟨fun q => kd_le_not q.2.2 h3, rfl, mm, vv, rfl⟩) dX1_updates_117
        · refine lv_iload hx hb dX1_updates_37 (lv_at hl 1 rfl) ?_
          refine lv_if_eq (tgt := 115) hx hb dX1_updates_39 (by decide) (fun hn => ?_) (fun hn => ?_)
          · refine lv_iload hx hb dX1_updates_115 (lv_at hl 1 rfl) ?_
            exact kd_iend S hr rfl hlk hK hP hD hS (Or.inr ⟨fun q => kd_le_not q.2.2 h3, rfl, mm, vv, rfl⟩) dX1_updates_117
          · exact absurd rfl hn
      · refine lv_iconst (v := 1) hx hb dX1_updates_20 (by decide) ?_
        refine lv_goto (tgt := 25) hx hb dX1_updates_21 (by decide) ?_
        refine lv_istore (lv' := [(6, .int 1), (0, .ref o), (1, .int ia), (2, .int ib), (3, .int ic), (4, .int id), (5, .int n)]) hx hb dX1_updates_25 hl (by decide) rfl (fun ls hl => ?_)
        refine lv_iconst (v := 0) hx hb dX1_updates_27 (by decide) ?_
        refine lv_istore (lv' := [(7, .int 0), (6, .int 1), (0, .ref o), (1, .int ia), (2, .int ib), (3, .int ic), (4, .int id), (5, .int n)]) hx hb dX1_updates_28 hl (by decide) rfl (fun ls hl => ?_)
        have h3 := kd_not_lt h3
        obtain ⟨N, hN, rfl⟩ := kd_cnt (M := 16) (by omega) (kd_n1 h2) h3
        refine kd_Mus (ct := ct) ⟨Nat.le_of_ble_eq_true rfl, Nat.le_of_ble_eq_true rfl⟩ hA hok hN S hK ?_ N 0 (by omega) mm vv _ _ _ (by rw [kd_ct0]; exact hP) (by rw [kd_ct0]; exact hD) hS hl
        intro mm1 vv1 H locs ls hP hD hS hl
        refine lv_iload hx hb dX1_updates_115 (lv_at hl 1 rfl) ?_
        exact kd_iend S hr rfl hlk hK hP hD hS (Or.inl ⟨⟨kd_op_1 h1, h2, h3⟩, rfl, mm1, vv1, by rw [nI_clamp (n := N) (by omega)]⟩) dX1_updates_117
section MFILL
variable {p : Program} {l : Launch} {e : Env} {R : Room} {s : State} {m : MethodId} {args : Array Value} {below : List Frame} {meth : Method} {c : Code} {Q : State → Prop} {D : va_G} {A : Nat → Prop} {H0 : Heap}
variable {o b1 b2 b3 b4 b5 b6 : Nat} {cB cI : ClassId} {rd io dn fl cm sz : Int32} {ky hh vv mm bk rw : Nat → Int32} {mx : Int64}
variable {K : kd_C} {ct : Int64} {ph dg : Int32} {N : Nat}
variable {b : Int32}
set_option maxHeartbeats 4000000 in
theorem kd_Mfl (hR : 3 + 1 ≤ R.frames ∧ 8 + (2 + 11) + 71 ≤ R.locals) (hA : ∀ q, H0.size ≤ q → A q) (hok : kd_ok K) (hby : kd_by b) (hN : N ≤ 10000) (S : CallFix p m c cX1_fill 5 s args lw_all RX1) (hK : va_K D vwCl (tyL cB cI) s)
    (kx : ∀ (mm vv : Nat → Int32), ∀ (H : Heap) (locs : List Loc) (ls : Array Slot), va_P D vwCl (mw o b1 b2 b3 b4 b5 b6 cI rd io dn ky ((kd_tN K (fun _ => b) N).1) vv mm ((kd_tN K (fun _ => b) N).2.1) (nI (kd_tN K (fun _ => b) N).2.2.1) ((kd_tN K (fun _ => b) N).2.2.2) ((ct + lN N).toInt32) sz kd_tbl) H → va_D A (mw o b1 b2 b3 b4 b5 b6 cI rd io dn ky ((kd_tN K (fun _ => b) N).1) vv mm ((kd_tN K (fun _ => b) N).2.1) (nI (kd_tN K (fun _ => b) N).2.2.1) ((kd_tN K (fun _ => b) N).2.2.2) ((ct + lN N).toInt32) sz kd_tbl) → va_S A H0 H locs → lv_has ls 5 [(4, .int (nI N)), (3, .int 1), (0, .ref o), (1, .int b), (2, .int (nI N))] → W p l e R s m args below meth c H locs 0 0 Q (F0 m 69 ls [])) :
    ∀ (n i : Nat), i + n = N → ∀ (mm vv : Nat → Int32), ∀ (H : Heap) (locs : List Loc) (ls : Array Slot), va_P D vwCl (mw o b1 b2 b3 b4 b5 b6 cI rd io dn ky ((kd_tN K (fun _ => b) i).1) vv mm ((kd_tN K (fun _ => b) i).2.1) (nI (kd_tN K (fun _ => b) i).2.2.1) ((kd_tN K (fun _ => b) i).2.2.2) ((ct + lN i).toInt32) sz kd_tbl) H → va_D A (mw o b1 b2 b3 b4 b5 b6 cI rd io dn ky ((kd_tN K (fun _ => b) i).1) vv mm ((kd_tN K (fun _ => b) i).2.1) (nI (kd_tN K (fun _ => b) i).2.2.1) ((kd_tN K (fun _ => b) i).2.2.2) ((ct + lN i).toInt32) sz kd_tbl) → va_S A H0 H locs → lv_has ls 5 [(4, .int (nI i)), (3, .int 1), (0, .ref o), (1, .int b), (2, .int (nI N))] → W p l e R s m args below meth c H locs 0 0 Q (F0 m 38 ls []) := by
  have hx := S.1
  have hb := S.2.1
  have hown := S.2.2.2.1
  have hts := S.2.2.2.2
  intro n
  induction n with
  | zero =>
    intro i hi mm vv H locs ls hP hD hS hl
    obtain rfl : i = N := by omega
    refine lv_iload hx hb dX1_fill_38 (lv_at hl 0 rfl) ?_
    refine lv_iload_n hx hb dX1_fill_40 rfl (lv_at hl 4 rfl) ?_
    refine lv_icmp_ge (tgt := 69) hx hb dX1_fill_41 (by decide) (fun hc => ?_) (fun hc => ?_)
    · exact kx mm vv H locs ls hP hD hS hl
    · exact absurd (nI_le (Nat.le_refl i) (by omega)) hc
  | succ n ih =>
    intro i hi mm vv H locs ls hP hD hS hl
    refine lv_iload hx hb dX1_fill_38 (lv_at hl 0 rfl) ?_
    refine lv_iload_n hx hb dX1_fill_40 rfl (lv_at hl 4 rfl) ?_
    refine lv_icmp_ge (tgt := 69) hx hb dX1_fill_41 (by decide) (fun hc => ?_) (fun hc => ?_)
    · exact absurd hc (nI_ge (a := i) (b := N) (by omega) (by omega))
    · refine lv_iload_n hx hb dX1_fill_44 rfl (lv_at hl 1 rfl) ?_
      refine lv_if_eq (tgt := 69) hx hb dX1_fill_45 (by decide) (fun hn => ?_) (fun hn => ?_)
      · exact absurd hn (by decide)
      · refine lv_aload_n hx hb dX1_fill_48 rfl (lv_at hl 2 rfl) ?_
        refine lv_iload_n hx hb dX1_fill_49 rfl (lv_at hl 3 rfl) ?_
        refine kd_cv (rest := []) S (metX1_take l D o b1 b2 b3 b4 b5 b6 cB cI rd io dn ky vv mm (kd_tN K (fun _ => b) i) ((ct + lN i).toInt32) sz _ b (kd_tN_ok hok (fun _ => hby) i).1) (cwV 1 hts (lw_V q218 q220 qs5 q10 q221) rfl rfl rfl (by decide +kernel) hR) hK hP hD hS hA (m_rec hK hP) rfl hl.1 rfl (Nat.le_of_ble_eq_true rfl) dX1_fill_50 ⟨Nat.zero_le _, Nat.zero_le _⟩ (fun w H locs hw hP hD hS => ?_)
        obtain ⟨mm1, vv1, rfl⟩ := hw
        refine lv_aload_n hx hb dX1_fill_53 rfl (lv_at hl 2 rfl) ?_
        refine lv_dup hx hb dX1_fill_54 rfl ?_
        refine mg_cm S hK hP dX1_fill_55 ?_
        refine lv_iconst (v := 1) hx hb dX1_fill_58 (by decide) ?_
        refine lv_iadd hx hb dX1_fill_59 ?_
        refine mp_cm (x := ((ct + lN i).toInt32) + 1) S hK hP hD hS dX1_fill_60 (fun H locs hP hD hS => ?_)
        rw [kd_t32n] at hP hD
        refine lv_iinc (v := nI (i + 1)) (lv' := [(4, .int (nI (i + 1))), (3, .int 1), (0, .ref o), (1, .int b), (2, .int (nI N))]) hx hb dX1_fill_63 hl (k := 0) rfl (nI_1 i) (by decide) rfl (fun ls hl => ?_)
        refine lv_goto (tgt := 38) hx hb dX1_fill_66 (by decide) ?_
        exact ih (i + 1) (by omega) mm1 vv1 H locs ls hP hD hS hl
end MFILL
set_option maxHeartbeats 4000000 in
/-- fill(b, n) -/
theorem metX1_fill (l : Launch) (D : va_G) (o b1 b2 b3 b4 b5 b6 : Nat) (cB cI : ClassId) (rd ph : Int32) (ky mm vv : Nat → Int32) (K : kd_C) (dg : Int32) (ct : Int64) (hz : Nat) (b n : Int32) (hok : kd_ok K) : kd_MI l yX1_fill cX1_fill 5 .boolean ({ frames := 4, cells := 0, slots := 0, locals := 92 } : Room) [.ref o, .int b, .int n] D (tyL cB cI) (mw o b1 b2 b3 b4 b5 b6 cI rd (kd_op ph) (kd_do ph) ky K.1 vv mm K.2.1 (nI K.2.2.1) K.2.2.2 ct.toInt32 dg kd_tbl) hz (fun r w => (kd_cf ph b n ∧ r = 1 ∧ ∃ mm1 vv1 : Nat → Int32, w = (mw o b1 b2 b3 b4 b5 b6 cI rd (kd_op ph) (kd_do ph) ky ((kd_tN K (fun _ => b) n.toNatClampNeg).1) vv1 mm1 ((kd_tN K (fun _ => b) n.toNatClampNeg).2.1) (nI (kd_tN K (fun _ => b) n.toNatClampNeg).2.2.1) ((kd_tN K (fun _ => b) n.toNatClampNeg).2.2.2) ((ct + lN n.toNatClampNeg).toInt32) dg kd_tbl)) ∨ (¬ kd_cf ph b n ∧ r = 0 ∧ ∃ mm1 vv1 : Nat → Int32, w = (mw o b1 b2 b3 b4 b5 b6 cI rd (kd_op ph) (kd_do ph) ky K.1 vv1 mm1 K.2.1 (nI K.2.2.1) K.2.2.2 ct.toInt32 dg kd_tbl))) := by
  refine kd_mi (by decide) (Nat.le_of_ble_eq_true rfl) ?_
  intro p e s m below meth c ls A S hr hlk hA hP hK hD hS hl
  have S : CallFix p m c cX1_fill 5 s _ lw_all RX1 := S
  have hl : lv_has ls 5 [(0, .ref o), (1, .int b), (2, .int n)] := hl
  have hx := S.1
  have hb := S.2.1
  have hown := S.2.2.2.1
  have hts := S.2.2.2.2
  refine lv_aload_n hx hb dX1_fill_0 rfl (lv_at hl 0 rfl) ?_
  refine mg_io S hK hP dX1_fill_1 ?_
  refine lv_if_eq (tgt := 33) hx hb dX1_fill_4 (by decide) (fun h1 => ?_) (fun h1 => ?_)
  · refine lv_iconst (v := 0) hx hb dX1_fill_33 (by decide) ?_
    refine lv_istore_n (lv' := [(3, .int 0), (0, .ref o), (1, .int b), (2, .int n)]) hx hb dX1_fill_34 rfl hl (by decide) rfl (fun ls hl => ?_)
    refine lv_iconst (v := 0) hx hb dX1_fill_35 (by decide) ?_
    refine lv_istore (lv' := [(4, .int 0), (3, .int 0), (0, .ref o), (1, .int b), (2, .int n)]) hx hb dX1_fill_36 hl (by decide) rfl (fun ls hl => ?_)
    refine lv_iload hx hb dX1_fill_38 (lv_at hl 0 rfl) ?_
    refine lv_iload_n hx hb dX1_fill_40 rfl (lv_at hl 4 rfl) ?_
    refine lv_icmp_ge (tgt := 69) hx hb dX1_fill_41 (by decide) (fun hm => ?_) (fun hm => ?_)
    · refine lv_iload_n hx hb dX1_fill_69 rfl (lv_at hl 1 rfl) ?_
      exact kd_iend S hr rfl hlk hK hP hD hS (Or.inr ⟨fun q => kd_op_0 h1 q.1, rfl, mm, vv, rfl⟩) dX1_fill_70
    · refine lv_iload_n hx hb dX1_fill_44 rfl (lv_at hl 1 rfl) ?_
      refine lv_if_eq (tgt := 69) hx hb dX1_fill_45 (by decide) (fun hn => ?_) (fun hn => ?_)
      · refine lv_iload_n hx hb dX1_fill_69 rfl (lv_at hl 1 rfl) ?_
        exact kd_iend S hr rfl hlk hK hP hD hS (Or.inr ⟨fun q => kd_op_0 h1 q.1, rfl, mm, vv, rfl⟩) dX1_fill_70
      · exact absurd rfl hn
  · refine lv_iload_n hx hb dX1_fill_7 rfl (lv_at hl 1 rfl) ?_
    refine lv_if_lt (tgt := 33) hx hb dX1_fill_8 (by decide) (fun h2 => ?_) (fun h2 => ?_)
    · refine lv_iconst (v := 0) hx hb dX1_fill_33 (by decide) ?_
      refine lv_istore_n (lv' := [(3, .int 0), (0, .ref o), (1, .int b), (2, .int n)]) hx hb dX1_fill_34 rfl hl (by decide) rfl (fun ls hl => ?_)
      refine lv_iconst (v := 0) hx hb dX1_fill_35 (by decide) ?_
      refine lv_istore (lv' := [(4, .int 0), (3, .int 0), (0, .ref o), (1, .int b), (2, .int n)]) hx hb dX1_fill_36 hl (by decide) rfl (fun ls hl => ?_)
      refine lv_iload hx hb dX1_fill_38 (lv_at hl 0 rfl) ?_
      refine lv_iload_n hx hb dX1_fill_40 rfl (lv_at hl 4 rfl) ?_
      refine lv_icmp_ge (tgt := 69) hx hb dX1_fill_41 (by decide) (fun hm => ?_) (fun hm => ?_)
      · refine lv_iload_n hx hb dX1_fill_69 rfl (lv_at hl 1 rfl) ?_
        exact kd_iend S hr rfl hlk hK hP hD hS (Or.inr ⟨fun q => q.2.1.1 h2, rfl, mm, vv, rfl⟩) dX1_fill_70
      · refine lv_iload_n hx hb dX1_fill_44 rfl (lv_at hl 1 rfl) ?_
        refine lv_if_eq (tgt := 69) hx hb dX1_fill_45 (by decide) (fun hn => ?_) (fun hn => ?_)
        · refine lv_iload_n hx hb dX1_fill_69 rfl (lv_at hl 1 rfl) ?_
          exact kd_iend S hr rfl hlk hK hP hD hS (Or.inr ⟨fun q => q.2.1.1 h2, rfl, mm, vv, rfl⟩) dX1_fill_70
        · exact absurd rfl hn
    · refine lv_iload_n hx hb dX1_fill_11 rfl (lv_at hl 1 rfl) ?_
      refine lv_sipush (v := 256) hx hb dX1_fill_12 (by decide) ?_
      refine lv_icmp_ge (tgt := 33) hx hb dX1_fill_15 (by decide) (fun h3 => ?_) (fun h3 => ?_)
      · refine lv_iconst (v := 0) hx hb dX1_fill_33 (by decide) ?_
        refine lv_istore_n (lv' := [(3, .int 0), (0, .ref o), (1, .int b), (2, .int n)]) hx hb dX1_fill_34 rfl hl (by decide) rfl (fun ls hl => ?_)
        refine lv_iconst (v := 0) hx hb dX1_fill_35 (by decide) ?_
        refine lv_istore (lv' := [(4, .int 0), (3, .int 0), (0, .ref o), (1, .int b), (2, .int n)]) hx hb dX1_fill_36 hl (by decide) rfl (fun ls hl => ?_)
        refine lv_iload hx hb dX1_fill_38 (lv_at hl 0 rfl) ?_
        refine lv_iload_n hx hb dX1_fill_40 rfl (lv_at hl 4 rfl) ?_
        refine lv_icmp_ge (tgt := 69) hx hb dX1_fill_41 (by decide) (fun hm => ?_) (fun hm => ?_)
        · refine lv_iload_n hx hb dX1_fill_69 rfl (lv_at hl 1 rfl) ?_
          exact kd_iend S hr rfl hlk hK hP hD hS (Or.inr ⟨fun q => q.2.1.2 h3, rfl, mm, vv, rfl⟩) dX1_fill_70
        · refine lv_iload_n hx hb dX1_fill_44 rfl (lv_at hl 1 rfl) ?_
          refine lv_if_eq (tgt := 69) hx hb dX1_fill_45 (by decide) (fun hn => ?_) (fun hn => ?_)
          · refine lv_iload_n hx hb dX1_fill_69 rfl (lv_at hl 1 rfl) ?_
            exact kd_iend S hr rfl hlk hK hP hD hS (Or.inr ⟨fun q => q.2.1.2 h3, rfl, mm, vv, rfl⟩) dX1_fill_70
          · exact absurd rfl hn
      · refine lv_iload_n hx hb dX1_fill_18 rfl (lv_at hl 2 rfl) ?_
        refine lv_if_lt (tgt := 33) hx hb dX1_fill_19 (by decide) (fun h4 => ?_) (fun h4 => ?_)
        · refine lv_iconst (v := 0) hx hb dX1_fill_33 (by decide) ?_
          refine lv_istore_n (lv' := [(3, .int 0), (0, .ref o), (1, .int b), (2, .int n)]) hx hb dX1_fill_34 rfl hl (by decide) rfl (fun ls hl => ?_)
          refine lv_iconst (v := 0) hx hb dX1_fill_35 (by decide) ?_
          refine lv_istore (lv' := [(4, .int 0), (3, .int 0), (0, .ref o), (1, .int b), (2, .int n)]) hx hb dX1_fill_36 hl (by decide) rfl (fun ls hl => ?_)
          refine lv_iload hx hb dX1_fill_38 (lv_at hl 0 rfl) ?_
          refine lv_iload_n hx hb dX1_fill_40 rfl (lv_at hl 4 rfl) ?_
          refine lv_icmp_ge (tgt := 69) hx hb dX1_fill_41 (by decide) (fun hm => ?_) (fun hm => ?_)
          · refine lv_iload_n hx hb dX1_fill_69 rfl (lv_at hl 1 rfl) ?_
            exact kd_iend S hr rfl hlk hK hP hD hS (Or.inr ⟨fun q => q.2.2.1 h4, rfl, mm, vv, rfl⟩) dX1_fill_70
          · refine lv_iload_n hx hb dX1_fill_44 rfl (lv_at hl 1 rfl) ?_
            refine lv_if_eq (tgt := 69) hx hb dX1_fill_45 (by decide) (fun hn => ?_) (fun hn => ?_)
            · refine lv_iload_n hx hb dX1_fill_69 rfl (lv_at hl 1 rfl) ?_
              exact kd_iend S hr rfl hlk hK hP hD hS (Or.inr ⟨fun q => q.2.2.1 h4, rfl, mm, vv, rfl⟩) dX1_fill_70
            · exact absurd rfl hn
        · refine lv_iload_n hx hb dX1_fill_22 rfl (lv_at hl 2 rfl) ?_
          refine lv_sipush (v := 10000) hx hb dX1_fill_23 (by decide) ?_
          refine lv_icmp_gt (tgt := 33) hx hb dX1_fill_26 (by decide) (fun h5 => ?_) (fun h5 => ?_)
          · refine lv_iconst (v := 0) hx hb dX1_fill_33 (by decide) ?_
            refine lv_istore_n (lv' := [(3, .int 0), (0, .ref o), (1, .int b), (2, .int n)]) hx hb dX1_fill_34 rfl hl (by decide) rfl (fun ls hl => ?_)
            refine lv_iconst (v := 0) hx hb dX1_fill_35 (by decide) ?_
            refine lv_istore (lv' := [(4, .int 0), (3, .int 0), (0, .ref o), (1, .int b), (2, .int n)]) hx hb dX1_fill_36 hl (by decide) rfl (fun ls hl => ?_)
            refine lv_iload hx hb dX1_fill_38 (lv_at hl 0 rfl) ?_
            refine lv_iload_n hx hb dX1_fill_40 rfl (lv_at hl 4 rfl) ?_
            refine lv_icmp_ge (tgt := 69) hx hb dX1_fill_41 (by decide) (fun hm => ?_) (fun hm => ?_)
            · refine lv_iload_n hx hb dX1_fill_69 rfl (lv_at hl 1 rfl) ?_
              exact kd_iend S hr rfl hlk hK hP hD hS (Or.inr ⟨fun q => kd_le_not q.2.2.2 h5, rfl, mm, vv, rfl⟩) dX1_fill_70
            · refine lv_iload_n hx hb dX1_fill_44 rfl (lv_at hl 1 rfl) ?_
              refine lv_if_eq (tgt := 69) hx hb dX1_fill_45 (by decide) (fun hn => ?_) (fun hn => ?_)
              · refine lv_iload_n hx hb dX1_fill_69 rfl (lv_at hl 1 rfl) ?_
                exact kd_iend S hr rfl hlk hK hP hD hS (Or.inr ⟨fun q => kd_le_not q.2.2.2 h5, rfl, mm, vv, rfl⟩) dX1_fill_70
              · exact absurd rfl hn
          · refine lv_iconst (v := 1) hx hb dX1_fill_29 (by decide) ?_
            refine lv_goto (tgt := 34) hx hb dX1_fill_30 (by decide) ?_
            refine lv_istore_n (lv' := [(3, .int 1), (0, .ref o), (1, .int b), (2, .int n)]) hx hb dX1_fill_34 rfl hl (by decide) rfl (fun ls hl => ?_)
            refine lv_iconst (v := 0) hx hb dX1_fill_35 (by decide) ?_
            refine lv_istore (lv' := [(4, .int 0), (3, .int 1), (0, .ref o), (1, .int b), (2, .int n)]) hx hb dX1_fill_36 hl (by decide) rfl (fun ls hl => ?_)
            have h5 := kd_not_lt h5
            obtain ⟨N, hN, rfl⟩ := kd_cnt (M := 10000) (by omega) h4 h5
            refine kd_Mfl (ct := ct) ⟨Nat.le_of_ble_eq_true rfl, Nat.le_of_ble_eq_true rfl⟩ hA hok (kd_by_of h2 h3) hN S hK ?_ N 0 (by omega) mm vv _ _ _ (by rw [kd_ct0]; exact hP) (by rw [kd_ct0]; exact hD) hS hl
            intro mm1 vv1 H locs ls hP hD hS hl
            refine lv_iload_n hx hb dX1_fill_69 rfl (lv_at hl 1 rfl) ?_
            exact kd_iend S hr rfl hlk hK hP hD hS (Or.inl ⟨⟨kd_op_1 h1, ⟨h2, h3⟩, h4, h5⟩, rfl, mm1, vv1, by rw [nI_clamp (n := N) (by omega)]⟩) dX1_fill_70
section MFIN
variable {p : Program} {l : Launch} {e : Env} {R : Room} {s : State} {m : MethodId} {args : Array Value} {below : List Frame} {meth : Method} {c : Code} {Q : State → Prop} {D : va_G} {A : Nat → Prop} {H0 : Heap}
variable {o b1 b2 b3 b4 b5 b6 : Nat} {cB cI : ClassId} {rd io dn fl cm sz : Int32} {ky hh vv mm bk rw : Nat → Int32} {mx : Int64}
variable {b0 : Nat → Int32} {f : Nat}
set_option maxHeartbeats 4000000 in
theorem kd_Mfi (hf : f ≤ 64) (S : CallFix p m c cX1_finish 2 s args lw_all RX1) (hK : va_K D vwCl (tyL cB cI) s)
    (kx : ∀ (H : Heap) (locs : List Loc) (ls : Array Slot), va_P D vwCl (mw o b1 b2 b3 b4 b5 b6 cI rd io dn ky hh vv mm (kd_pad b0 f 64) fl mx cm sz rw) H → va_D A (mw o b1 b2 b3 b4 b5 b6 cI rd io dn ky hh vv mm (kd_pad b0 f 64) fl mx cm sz rw) → va_S A H0 H locs → lv_has ls 2 [(1, .int (nI 64)), (0, .ref o)] → W p l e R s m args below meth c H locs 0 0 Q (F0 m 47 ls [])) :
    ∀ (n i : Nat), i + n = 64 - f → ∀ (H : Heap) (locs : List Loc) (ls : Array Slot), va_P D vwCl (mw o b1 b2 b3 b4 b5 b6 cI rd io dn ky hh vv mm (kd_pad b0 f (f + i)) fl mx cm sz rw) H → va_D A (mw o b1 b2 b3 b4 b5 b6 cI rd io dn ky hh vv mm (kd_pad b0 f (f + i)) fl mx cm sz rw) → va_S A H0 H locs → lv_has ls 2 [(1, .int (nI (f + i))), (0, .ref o)] → W p l e R s m args below meth c H locs 0 0 Q (F0 m 28 ls []) := by
  have hx := S.1
  have hb := S.2.1
  have hown := S.2.2.2.1
  have hts := S.2.2.2.2
  intro n
  induction n with
  | zero =>
    intro i hi  H locs ls hP hD hS hl
    obtain rfl : i = 64 - f := by omega
    refine lv_iload_n hx hb dX1_finish_28 rfl (lv_at hl 0 rfl) ?_
    refine lv_bipush (v := 64) hx hb dX1_finish_29 (by decide) ?_
    refine lv_icmp_ge (tgt := 47) hx hb dX1_finish_31 (by decide) (fun hc => ?_) (fun hc => ?_)
    · have e : f + (64 - f) = 64 := by omega
      rw [e] at hP hD hl
      exact kx H locs ls hP hD hS hl
    · have e : f + (64 - f) = 64 := by omega
      rw [e] at hc
      exact absurd (by decide) hc
  | succ n ih =>
    intro i hi  H locs ls hP hD hS hl
    refine lv_iload_n hx hb dX1_finish_28 rfl (lv_at hl 0 rfl) ?_
    refine lv_bipush (v := 64) hx hb dX1_finish_29 (by decide) ?_
    refine lv_icmp_ge (tgt := 47) hx hb dX1_finish_31 (by decide) (fun hc => ?_) (fun hc => ?_)
    · exact absurd hc (nI_ge (a := f + i) (b := 64) (by omega) (by omega))
    · refine lv_aload_n hx hb dX1_finish_34 rfl (lv_at hl 1 rfl) ?_
      refine mg_b5 S hK hP dX1_finish_35 ?_
      refine lv_iload_n hx hb dX1_finish_38 rfl (lv_at hl 0 rfl) ?_
      refine lv_iconst (v := 0) hx hb dX1_finish_39 (by decide) ?_
      refine ms_bk (j := (f + i)) (g := kd_pad b0 f (f + (i + 1))) S hK hP hD hS (kd_ix_n (by omega) (by omega)) (kd_pad_s b0 (Nat.le_add_right f i)) dX1_finish_40 (fun H locs hP hD hS => ?_)
      refine lv_iinc (v := nI (f + (i + 1))) (lv' := [(1, .int (nI (f + (i + 1)))), (0, .ref o)]) hx hb dX1_finish_41 hl (k := 0) rfl (nI_1 (f + i)) (by decide) rfl (fun ls hl => ?_)
      refine lv_goto (tgt := 28) hx hb dX1_finish_44 (by decide) ?_
      exact ih (i + 1) (by omega) H locs ls hP hD hS hl
end MFIN
set_option maxHeartbeats 4000000 in
/-- finish() -/
theorem metX1_finish (l : Launch) (D : va_G) (o b1 b2 b3 b4 b5 b6 : Nat) (cB cI : ClassId) (rd ph : Int32) (ky mm vv : Nat → Int32) (K : kd_C) (dg : Int32) (ct : Int64) (hz : Nat) (hok : kd_ok K) : kd_MI l yX1_finish cX1_finish 2 .boolean ({ frames := 3, cells := 0, slots := 0, locals := 71 } : Room) [.ref o] D (tyL cB cI) (mw o b1 b2 b3 b4 b5 b6 cI rd (kd_op ph) (kd_do ph) ky K.1 vv mm K.2.1 (nI K.2.2.1) K.2.2.2 ct.toInt32 dg kd_tbl) hz (fun r w => (ph = 1 ∧ r = 1 ∧ ∃ mm1 vv1 : Nat → Int32, w = (mw o b1 b2 b3 b4 b5 b6 cI rd (kd_op 2) (kd_do 2) ky ((kd_fin K).1) vv1 mm1 ((kd_fin K).2.1) (nI (kd_fin K).2.2.1) ((kd_fin K).2.2.2) ct.toInt32 dg kd_tbl)) ∨ (¬ ph = 1 ∧ r = 0 ∧ ∃ mm1 vv1 : Nat → Int32, w = (mw o b1 b2 b3 b4 b5 b6 cI rd (kd_op ph) (kd_do ph) ky K.1 vv1 mm1 K.2.1 (nI K.2.2.1) K.2.2.2 ct.toInt32 dg kd_tbl))) := by
  obtain ⟨hh, b0, f, mx⟩ := K
  obtain ⟨hf, hby⟩ := hok
  have hf : f ≤ 64 := hf
  refine kd_mi (by decide) (Nat.le_of_ble_eq_true rfl) ?_
  intro p e s m below meth c ls A S hr hlk hA hP hK hD hS hl
  have S : CallFix p m c cX1_finish 2 s _ lw_all RX1 := S
  have hl : lv_has ls 2 [(0, .ref o)] := hl
  have hx := S.1
  have hb := S.2.1
  have hown := S.2.2.2.1
  have hts := S.2.2.2.2
  have hP : va_P D vwCl (mw o b1 b2 b3 b4 b5 b6 cI rd (kd_op ph) (kd_do ph) ky hh vv mm b0 (nI f) mx ct.toInt32 dg kd_tbl) s.heap := hP
  have hD : va_D A (mw o b1 b2 b3 b4 b5 b6 cI rd (kd_op ph) (kd_do ph) ky hh vv mm b0 (nI f) mx ct.toInt32 dg kd_tbl) := hD
  refine lv_aload_n hx hb dX1_finish_0 rfl (lv_at hl 0 rfl) ?_
  refine mg_io S hK hP dX1_finish_1 ?_
  refine lv_if_ne (tgt := 9) hx hb dX1_finish_4 (by decide) (fun h1 => ?_) (fun h1 => ?_)
  · refine lv_aload_n hx hb dX1_finish_9 rfl (lv_at hl 0 rfl) ?_
    refine lv_aload_n hx hb dX1_finish_10 rfl (lv_at hl 0 rfl) ?_
    refine mg_mx S hK hP dX1_finish_11 ?_
    refine lv_aload_n hx hb dX1_finish_14 rfl (lv_at hl 0 rfl) ?_
    refine mg_fl S hK hP dX1_finish_15 ?_
    refine lv_i2l hx hb dX1_finish_18 rfl ?_
    refine lv_ladd hx hb dX1_finish_19 ?_
    refine mp_mx (x := mx + ((nI f).toInt64)) S hK hP hD hS dX1_finish_20 (fun H locs hP hD hS => ?_)
    refine lv_aload_n hx hb dX1_finish_23 rfl (lv_at hl 0 rfl) ?_
    refine mg_fl S hK hP dX1_finish_24 ?_
    refine lv_istore_n (lv' := [(1, .int (nI f)), (0, .ref o)]) hx hb dX1_finish_27 rfl hl (by decide) rfl (fun ls hl => ?_)
    refine kd_Mfi (b0 := b0) hf S hK ?_ (64 - f) 0 (by omega) _ _ _ (by rw [Nat.add_zero, kd_pad_0]; exact hP) (by rw [Nat.add_zero, kd_pad_0]; exact hD) hS hl
    intro H locs ls hP hD hS hl
    refine lv_aload_n hx hb dX1_finish_47 rfl (lv_at hl 1 rfl) ?_
    refine lv_aload_n hx hb dX1_finish_48 rfl (lv_at hl 1 rfl) ?_
    refine mg_mx S hK hP dX1_finish_49 ?_
    refine lv_iconst (v := 1) hx hb dX1_finish_52 (by decide) ?_
    refine kd_cv (rest := []) S (metX1_mix l D o b1 b2 b3 b4 b5 b6 cB cI rd (kd_op ph) (kd_do ph) ky hh vv mm (kd_pad b0 f 64) (nI f) (mx + (nI f).toInt64) ct.toInt32 dg H.size (mx + (nI f).toInt64) 1) (cwV 2 hts (lw_V q223 q225 qs6 q10 q226) rfl rfl rfl (by decide +kernel) ⟨Nat.le_of_ble_eq_true rfl, Nat.le_of_ble_eq_true rfl⟩) hK hP hD hS hA (m_rec hK hP) rfl hl.1 rfl (Nat.le_of_ble_eq_true rfl) dX1_finish_53 ⟨Nat.zero_le _, Nat.zero_le _⟩ (fun w H locs hw hP hD hS => ?_)
    obtain ⟨mm1, vv1, rfl⟩ := hw
    refine lv_aload_n hx hb dX1_finish_56 rfl (lv_at hl 1 rfl) ?_
    refine lv_iconst (v := 0) hx hb dX1_finish_57 (by decide) ?_
    refine mp_io (x := 0) S hK hP hD hS rfl rfl dX1_finish_58 (fun H locs hP hD hS => ?_)
    refine lv_aload_n hx hb dX1_finish_61 rfl (lv_at hl 1 rfl) ?_
    refine lv_iconst (v := 1) hx hb dX1_finish_62 (by decide) ?_
    refine mp_dn (x := 1) S hK hP hD hS rfl rfl dX1_finish_63 (fun H locs hP hD hS => ?_)
    refine lv_iconst (v := 1) hx hb dX1_finish_66 (by decide) ?_
    exact kd_iend S hr rfl hlk hK hP hD hS (Or.inl ⟨kd_op_1 h1, rfl, mm1, vv1, by rw [kd_op2, kd_do2]; rfl⟩) dX1_finish_67
  · refine lv_iconst (v := 0) hx hb dX1_finish_7 (by decide) ?_
    exact kd_iend S hr rfl hlk hK hP hD hS (Or.inr ⟨kd_op_0 h1, rfl, mm, vv, rfl⟩) dX1_finish_8
end
section
set_option maxRecDepth 100000
theorem kd_ph0 {ph : Int32} (hph : ph = 0 ∨ ph = 1 ∨ ph = 2) (h1 : kd_op ph = 0) (h2 : kd_do ph = 0) : ph = 0 := by
  rcases hph with q | q | q
  · exact q
  · exact absurd q (kd_op_0 h1)
  · exact absurd q (kd_do_0 h2)
set_option maxHeartbeats 4000000 in
/-- setKeyByte(i, b) -/
theorem metX1_setKeyByte (l : Launch) (D : va_G) (o b1 b2 b3 b4 b5 b6 : Nat) (cB cI : ClassId) (rd ph dn : Int32) (k0 hh vv mm bk : Nat → Int32) (fl : Int32) (mx : Int64) (cm sz : Int32) (rw : Nat → Int32) (hz : Nat) (i b : Int32) : kd_MI l yX1_setKeyByte cX1_setKeyByte 4 .boolean ({ frames := 0, cells := 0, slots := 0, locals := 0 } : Room) [.ref o, .int i, .int b] D (tyL cB cI) (mw o b1 b2 b3 b4 b5 b6 cI rd (kd_op ph) dn k0 hh vv mm bk fl mx cm sz rw) hz (fun r w => (kd_ck ph i b ∧ r = 1 ∧ ∃ mm1 vv1 : Nat → Int32, w = (mw o b1 b2 b3 b4 b5 b6 cI rd (kd_op ph) dn (upd k0 i.toNatClampNeg b) hh vv1 mm1 bk fl mx cm sz rw)) ∨ (¬ kd_ck ph i b ∧ r = 0 ∧ ∃ mm1 vv1 : Nat → Int32, w = (mw o b1 b2 b3 b4 b5 b6 cI rd (kd_op ph) dn k0 hh vv1 mm1 bk fl mx cm sz rw))) := by
  refine kd_mi (by decide) (Nat.le_of_ble_eq_true rfl) ?_
  intro p e s m below meth c ls A S hr hlk hA hP hK hD hS hl
  have S : CallFix p m c cX1_setKeyByte 4 s _ lw_all RX1 := S
  have hl : lv_has ls 4 [(0, .ref o), (1, .int i), (2, .int b)] := hl
  have hx := S.1
  have hb := S.2.1
  have hown := S.2.2.2.1
  have hts := S.2.2.2.2
  refine lv_iload_n hx hb dX1_setKeyByte_0 rfl (lv_at hl 1 rfl) ?_
  refine lv_if_lt (tgt := 32) hx hb dX1_setKeyByte_1 (by decide) (fun h1 => ?_) (fun h1 => ?_)
  · refine lv_iconst (v := 0) hx hb dX1_setKeyByte_32 (by decide) ?_
    refine lv_istore_n (lv' := [(3, .int 0), (0, .ref o), (1, .int i), (2, .int b)]) hx hb dX1_setKeyByte_33 rfl hl (by decide) rfl (fun ls hl => ?_)
    refine lv_iload_n hx hb dX1_setKeyByte_34 rfl (lv_at hl 0 rfl) ?_
    refine lv_if_eq (tgt := 45) hx hb dX1_setKeyByte_35 (by decide) (fun hn => ?_) (fun hn => ?_)
    · refine lv_iload_n hx hb dX1_setKeyByte_45 rfl (lv_at hl 0 rfl) ?_
      exact kd_iend S hr rfl hlk hK hP hD hS (Or.inr ⟨fun q => q.1 h1, rfl, mm, vv, rfl⟩) dX1_setKeyByte_46
    · exact absurd rfl hn
  · refine lv_iload_n hx hb dX1_setKeyByte_4 rfl (lv_at hl 1 rfl) ?_
    refine lv_bipush (v := 32) hx hb dX1_setKeyByte_5 (by decide) ?_
    refine lv_icmp_ge (tgt := 32) hx hb dX1_setKeyByte_7 (by decide) (fun h2 => ?_) (fun h2 => ?_)
    · refine lv_iconst (v := 0) hx hb dX1_setKeyByte_32 (by decide) ?_
      refine lv_istore_n (lv' := [(3, .int 0), (0, .ref o), (1, .int i), (2, .int b)]) hx hb dX1_setKeyByte_33 rfl hl (by decide) rfl (fun ls hl => ?_)
      refine lv_iload_n hx hb dX1_setKeyByte_34 rfl (lv_at hl 0 rfl) ?_
      refine lv_if_eq (tgt := 45) hx hb dX1_setKeyByte_35 (by decide) (fun hn => ?_) (fun hn => ?_)
      · refine lv_iload_n hx hb dX1_setKeyByte_45 rfl (lv_at hl 0 rfl) ?_
        exact kd_iend S hr rfl hlk hK hP hD hS (Or.inr ⟨fun q => q.2.1 h2, rfl, mm, vv, rfl⟩) dX1_setKeyByte_46
      · exact absurd rfl hn
    · refine lv_iload_n hx hb dX1_setKeyByte_10 rfl (lv_at hl 2 rfl) ?_
      refine lv_if_lt (tgt := 32) hx hb dX1_setKeyByte_11 (by decide) (fun h3 => ?_) (fun h3 => ?_)
      · refine lv_iconst (v := 0) hx hb dX1_setKeyByte_32 (by decide) ?_
        refine lv_istore_n (lv' := [(3, .int 0), (0, .ref o), (1, .int i), (2, .int b)]) hx hb dX1_setKeyByte_33 rfl hl (by decide) rfl (fun ls hl => ?_)
        refine lv_iload_n hx hb dX1_setKeyByte_34 rfl (lv_at hl 0 rfl) ?_
        refine lv_if_eq (tgt := 45) hx hb dX1_setKeyByte_35 (by decide) (fun hn => ?_) (fun hn => ?_)
        · refine lv_iload_n hx hb dX1_setKeyByte_45 rfl (lv_at hl 0 rfl) ?_
          exact kd_iend S hr rfl hlk hK hP hD hS (Or.inr ⟨fun q => q.2.2.1.1 h3, rfl, mm, vv, rfl⟩) dX1_setKeyByte_46
        · exact absurd rfl hn
      · refine lv_iload_n hx hb dX1_setKeyByte_14 rfl (lv_at hl 2 rfl) ?_
        refine lv_sipush (v := 256) hx hb dX1_setKeyByte_15 (by decide) ?_
        refine lv_icmp_ge (tgt := 32) hx hb dX1_setKeyByte_18 (by decide) (fun h4 => ?_) (fun h4 => ?_)
        · refine lv_iconst (v := 0) hx hb dX1_setKeyByte_32 (by decide) ?_
          refine lv_istore_n (lv' := [(3, .int 0), (0, .ref o), (1, .int i), (2, .int b)]) hx hb dX1_setKeyByte_33 rfl hl (by decide) rfl (fun ls hl => ?_)
          refine lv_iload_n hx hb dX1_setKeyByte_34 rfl (lv_at hl 0 rfl) ?_
          refine lv_if_eq (tgt := 45) hx hb dX1_setKeyByte_35 (by decide) (fun hn => ?_) (fun hn => ?_)
          · refine lv_iload_n hx hb dX1_setKeyByte_45 rfl (lv_at hl 0 rfl) ?_
            exact kd_iend S hr rfl hlk hK hP hD hS (Or.inr ⟨fun q => q.2.2.1.2 h4, rfl, mm, vv, rfl⟩) dX1_setKeyByte_46
          · exact absurd rfl hn
        · refine lv_aload_n hx hb dX1_setKeyByte_21 rfl (lv_at hl 0 rfl) ?_
          refine mg_io S hK hP dX1_setKeyByte_22 ?_
          refine lv_if_ne (tgt := 32) hx hb dX1_setKeyByte_25 (by decide) (fun h5 => ?_) (fun h5 => ?_)
          · refine lv_iconst (v := 0) hx hb dX1_setKeyByte_32 (by decide) ?_
            refine lv_istore_n (lv' := [(3, .int 0), (0, .ref o), (1, .int i), (2, .int b)]) hx hb dX1_setKeyByte_33 rfl hl (by decide) rfl (fun ls hl => ?_)
            refine lv_iload_n hx hb dX1_setKeyByte_34 rfl (lv_at hl 0 rfl) ?_
            refine lv_if_eq (tgt := 45) hx hb dX1_setKeyByte_35 (by decide) (fun hn => ?_) (fun hn => ?_)
            · refine lv_iload_n hx hb dX1_setKeyByte_45 rfl (lv_at hl 0 rfl) ?_
              exact kd_iend S hr rfl hlk hK hP hD hS (Or.inr ⟨fun q => q.2.2.2 (kd_op_1 h5), rfl, mm, vv, rfl⟩) dX1_setKeyByte_46
            · exact absurd rfl hn
          · refine lv_iconst (v := 1) hx hb dX1_setKeyByte_28 (by decide) ?_
            refine lv_goto (tgt := 33) hx hb dX1_setKeyByte_29 (by decide) ?_
            refine lv_istore_n (lv' := [(3, .int 1), (0, .ref o), (1, .int i), (2, .int b)]) hx hb dX1_setKeyByte_33 rfl hl (by decide) rfl (fun ls hl => ?_)
            refine lv_iload_n hx hb dX1_setKeyByte_34 rfl (lv_at hl 0 rfl) ?_
            refine lv_if_eq (tgt := 45) hx hb dX1_setKeyByte_35 (by decide) (fun hn => ?_) (fun hn => ?_)
            · exact absurd hn (by decide)
            · refine lv_aload_n hx hb dX1_setKeyByte_38 rfl (lv_at hl 1 rfl) ?_
              refine mg_b1 S hK hP dX1_setKeyByte_39 ?_
              refine lv_iload_n hx hb dX1_setKeyByte_42 rfl (lv_at hl 2 rfl) ?_
              refine lv_iload_n hx hb dX1_setKeyByte_43 rfl (lv_at hl 3 rfl) ?_
              refine ms_ky (j := i.toNatClampNeg) (g := upd k0 i.toNatClampNeg b) S hK hP hD hS (kd_ixr (n := 32) (by omega) h1 h2) rfl dX1_setKeyByte_44 (fun H locs hP hD hS => ?_)
              refine lv_iload_n hx hb dX1_setKeyByte_45 rfl (lv_at hl 0 rfl) ?_
              exact kd_iend S hr rfl hlk hK hP hD hS (Or.inl ⟨⟨h1, h2, ⟨h3, h4⟩, kd_op_0 h5⟩, rfl, mm, vv, rfl⟩) dX1_setKeyByte_46
section MST
variable {p : Program} {l : Launch} {e : Env} {R : Room} {s : State} {m : MethodId} {args : Array Value} {below : List Frame} {meth : Method} {c : Code} {Q : State → Prop} {D : va_G} {A : Nat → Prop} {H0 : Heap}
variable {o b1 b2 b3 b4 b5 b6 : Nat} {cB cI : ClassId} {rd io dn fl cm sz : Int32} {ky hh vv mm bk rw : Nat → Int32} {mx : Int64}
variable {b0 k0 : Nat → Int32} {nn kk : Int32} {N : Nat}
set_option maxHeartbeats 4000000 in
theorem kd_Mst1 (hR : 0 + 1 ≤ R.frames ∧ 8 + (1 + 11) + 0 ≤ R.locals) (S : CallFix p m c cX1_start 4 s args lw_all RX1) (hK : va_K D vwCl (tyL cB cI) s)
    (kx : ∀ (H : Heap) (locs : List Loc) (ls : Array Slot), va_P D vwCl (mw o b1 b2 b3 b4 b5 b6 cI rd io dn ky kd_iv vv mm bk fl mx cm sz rw) H → va_D A (mw o b1 b2 b3 b4 b5 b6 cI rd io dn ky kd_iv vv mm bk fl mx cm sz rw) → va_S A H0 H locs → lv_has ls 4 [(3, .int (nI 8)), (0, .ref o), (1, .int nn), (2, .int kk)] → W p l e R s m args below meth c H locs 0 0 Q (F0 m 54 ls [])) :
    ∀ (n i : Nat), i + n = 8 → ∀ (H : Heap) (locs : List Loc) (ls : Array Slot), va_P D vwCl (mw o b1 b2 b3 b4 b5 b6 cI rd io dn ky (kd_fill kd_iv hh i) vv mm bk fl mx cm sz rw) H → va_D A (mw o b1 b2 b3 b4 b5 b6 cI rd io dn ky (kd_fill kd_iv hh i) vv mm bk fl mx cm sz rw) → va_S A H0 H locs → lv_has ls 4 [(3, .int (nI i)), (0, .ref o), (1, .int nn), (2, .int kk)] → W p l e R s m args below meth c H locs 0 0 Q (F0 m 32 ls []) := by
  have hx := S.1
  have hb := S.2.1
  have hown := S.2.2.2.1
  have hts := S.2.2.2.2
  intro n
  induction n with
  | zero =>
    intro i hi  H locs ls hP hD hS hl
    obtain rfl : i = 8 := by omega
    refine lv_iload_n hx hb dX1_start_32 rfl (lv_at hl 0 rfl) ?_
    refine lv_bipush (v := 8) hx hb dX1_start_33 (by decide) ?_
    refine lv_icmp_ge (tgt := 54) hx hb dX1_start_35 (by decide) (fun hc => ?_) (fun hc => ?_)
    · have hP := mc_hh (g := kd_iv) hP (fun j hj => kd_fill_in hj)
      exact kx H locs ls hP (m_D hD) hS hl
    · exact absurd (by decide) hc
  | succ n ih =>
    intro i hi  H locs ls hP hD hS hl
    refine lv_iload_n hx hb dX1_start_32 rfl (lv_at hl 0 rfl) ?_
    refine lv_bipush (v := 8) hx hb dX1_start_33 (by decide) ?_
    refine lv_icmp_ge (tgt := 54) hx hb dX1_start_35 (by decide) (fun hc => ?_) (fun hc => ?_)
    · exact absurd hc (nI_ge (a := i) (b := 8) (by omega) (by omega))
    · refine lv_aload_n hx hb dX1_start_38 rfl (lv_at hl 1 rfl) ?_
      refine mg_b2 S hK hP dX1_start_39 ?_
      refine lv_iload_n hx hb dX1_start_42 rfl (lv_at hl 0 rfl) ?_
      refine lv_iload_n hx hb dX1_start_43 rfl (lv_at hl 0 rfl) ?_
      refine kd_cs (rest := [.int (nI i), .ref b2]) S (metX1_first l (nI i) i (by omega) rfl) (va_cwS 1 hts (lw_S q206 q207 q10 q208) rfl rfl rfl (by decide +kernel) hR) rfl hl.1 rfl (Nat.le_of_ble_eq_true rfl) dX1_start_44 ⟨Nat.zero_le _, Nat.zero_le _⟩ ?_
      refine ms_hh (j := i) (g := kd_fill kd_iv hh (i + 1)) S hK hP hD hS (kd_ix_n (by omega) (by omega)) (kd_fill_s rfl) dX1_start_47 (fun H locs hP hD hS => ?_)
      refine lv_iinc (v := nI (i + 1)) (lv' := [(3, .int (nI (i + 1))), (0, .ref o), (1, .int nn), (2, .int kk)]) hx hb dX1_start_48 hl (k := 0) rfl (nI_1 i) (by decide) rfl (fun ls hl => ?_)
      refine lv_goto (tgt := 32) hx hb dX1_start_51 (by decide) ?_
      exact ih (i + 1) (by omega) H locs ls hP hD hS hl
set_option maxHeartbeats 4000000 in
theorem kd_Mst2 (hR : 3 + 1 ≤ R.frames ∧ 8 + (2 + 11) + 71 ≤ R.locals) (hA : ∀ q, H0.size ≤ q → A q) (hN : N ≤ 32) (hpos : ¬ nI N ≤ 0) (S : CallFix p m c cX1_start 4 s args lw_all RX1) (hK : va_K D vwCl (tyL cB cI) s)
    (kx : ∀ (mm vv : Nat → Int32), ∀ (H : Heap) (locs : List Loc) (ls : Array Slot), va_P D vwCl (mw o b1 b2 b3 b4 b5 b6 cI rd io dn k0 hh vv mm (kd_fill (kd_kb k0 (nI N)) b0 64) (nI 64) mx cm sz kd_tbl) H → va_D A (mw o b1 b2 b3 b4 b5 b6 cI rd io dn k0 hh vv mm (kd_fill (kd_kb k0 (nI N)) b0 64) (nI 64) mx cm sz kd_tbl) → va_S A H0 H locs → lv_has ls 4 [(3, .int (nI 64)), (0, .ref o), (1, .int nn), (2, .int (nI N))] → W p l e R s m args below meth c H locs 0 0 Q (F0 m 144 ls [])) :
    ∀ (n i : Nat), i + n = 64 → ∀ (mm vv : Nat → Int32), ∀ (H : Heap) (locs : List Loc) (ls : Array Slot), va_P D vwCl (mw o b1 b2 b3 b4 b5 b6 cI rd io dn k0 hh vv mm (kd_fill (kd_kb k0 (nI N)) b0 i) (nI i) mx cm sz kd_tbl) H → va_D A (mw o b1 b2 b3 b4 b5 b6 cI rd io dn k0 hh vv mm (kd_fill (kd_kb k0 (nI N)) b0 i) (nI i) mx cm sz kd_tbl) → va_S A H0 H locs → lv_has ls 4 [(3, .int (nI i)), (0, .ref o), (1, .int nn), (2, .int (nI N))] → W p l e R s m args below meth c H locs 0 0 Q (F0 m 109 ls []) := by
  have hx := S.1
  have hb := S.2.1
  have hown := S.2.2.2.1
  have hts := S.2.2.2.2
  intro n
  induction n with
  | zero =>
    intro i hi mm vv H locs ls hP hD hS hl
    obtain rfl : i = 64 := by omega
    refine lv_iload_n hx hb dX1_start_109 rfl (lv_at hl 0 rfl) ?_
    refine lv_bipush (v := 64) hx hb dX1_start_110 (by decide) ?_
    refine lv_icmp_ge (tgt := 144) hx hb dX1_start_112 (by decide) (fun hc => ?_) (fun hc => ?_)
    · exact kx mm vv H locs ls hP hD hS hl
    · exact absurd (by decide) hc
  | succ n ih =>
    intro i hi mm vv H locs ls hP hD hS hl
    refine lv_iload_n hx hb dX1_start_109 rfl (lv_at hl 0 rfl) ?_
    refine lv_bipush (v := 64) hx hb dX1_start_110 (by decide) ?_
    refine lv_icmp_ge (tgt := 144) hx hb dX1_start_112 (by decide) (fun hc => ?_) (fun hc => ?_)
    · exact absurd hc (nI_ge (a := i) (b := 64) (by omega) (by omega))
    · refine lv_iload_n hx hb dX1_start_115 rfl (lv_at hl 3 rfl) ?_
      refine lv_if_le (tgt := 144) hx hb dX1_start_116 (by decide) (fun h0 => ?_) (fun h0 => ?_)
      · exact absurd h0 hpos
      · refine lv_aload_n hx hb dX1_start_119 rfl (lv_at hl 1 rfl) ?_
        refine lv_iload_n hx hb dX1_start_120 rfl (lv_at hl 0 rfl) ?_
        refine lv_iload_n hx hb dX1_start_121 rfl (lv_at hl 3 rfl) ?_
        refine lv_icmp_ge (tgt := 134) hx hb dX1_start_122 (by decide) (fun h1 => ?_) (fun h1 => ?_)
        · refine lv_iconst (v := 0) hx hb dX1_start_134 (by decide) ?_
          refine kd_cv (rest := []) S (metX1_take l D o b1 b2 b3 b4 b5 b6 cB cI rd io dn k0 vv mm (hh, kd_fill (kd_kb k0 (nI N)) b0 i, i, mx) cm sz _ 0 (show i ≤ 64 by omega)) (cwV 1 hts (lw_V q218 q220 qs5 q10 q221) rfl rfl rfl (by decide +kernel) hR) hK hP hD hS hA (m_rec hK hP) rfl hl.1 rfl (Nat.le_of_ble_eq_true rfl) dX1_start_135 ⟨Nat.zero_le _, Nat.zero_le _⟩ (fun w H locs hw hP hD hS => ?_)
          obtain ⟨mm1, vv1, rfl⟩ := hw
          rw [kd_tks (by omega) (kd_kb_0 h1)] at hP hD
          refine lv_iinc (v := nI (i + 1)) (lv' := [(3, .int (nI (i + 1))), (0, .ref o), (1, .int nn), (2, .int (nI N))]) hx hb dX1_start_138 hl (k := 0) rfl (nI_1 i) (by decide) rfl (fun ls hl => ?_)
          refine lv_goto (tgt := 109) hx hb dX1_start_141 (by decide) ?_
          exact ih (i + 1) (by omega) mm1 vv1 H locs ls hP hD hS hl
        · have hlt : i < N := kd_nlt (by omega) (by omega) h1
          refine lv_aload_n hx hb dX1_start_125 rfl (lv_at hl 1 rfl) ?_
          refine mg_b1 S hK hP dX1_start_126 ?_
          refine lv_iload_n hx hb dX1_start_129 rfl (lv_at hl 0 rfl) ?_
          refine ml_ky (j := i) S hK hP (kd_ix_n (by omega) (by omega)) dX1_start_130 ?_
          refine lv_goto (tgt := 135) hx hb dX1_start_131 (by decide) ?_
          refine kd_cv (rest := []) S (metX1_take l D o b1 b2 b3 b4 b5 b6 cB cI rd io dn k0 vv mm (hh, kd_fill (kd_kb k0 (nI N)) b0 i, i, mx) cm sz _ (k0 i) (show i ≤ 64 by omega)) (cwV 1 hts (lw_V q218 q220 qs5 q10 q221) rfl rfl rfl (by decide +kernel) hR) hK hP hD hS hA (m_rec hK hP) rfl hl.1 rfl (Nat.le_of_ble_eq_true rfl) dX1_start_135 ⟨Nat.zero_le _, Nat.zero_le _⟩ (fun w H locs hw hP hD hS => ?_)
          obtain ⟨mm1, vv1, rfl⟩ := hw
          rw [kd_tks (by omega) (kd_kb_1 h1)] at hP hD
          refine lv_iinc (v := nI (i + 1)) (lv' := [(3, .int (nI (i + 1))), (0, .ref o), (1, .int nn), (2, .int (nI N))]) hx hb dX1_start_138 hl (k := 0) rfl (nI_1 i) (by decide) rfl (fun ls hl => ?_)
          refine lv_goto (tgt := 109) hx hb dX1_start_141 (by decide) ?_
          exact ih (i + 1) (by omega) mm1 vv1 H locs ls hP hD hS hl
end MST
set_option maxHeartbeats 4000000 in
/-- start(nn, kk) -/
theorem metX1_start (l : Launch) (D : va_G) (o b1 b2 b3 b4 b5 b6 : Nat) (cB cI : ClassId) (rd ph : Int32) (k0 mm vv : Nat → Int32) (K : kd_C) (dg : Int32) (ct : Int64) (hz : Nat) (nn kk : Int32) : kd_MI l yX1_start cX1_start 4 .boolean ({ frames := 4, cells := 0, slots := 0, locals := 92 } : Room) [.ref o, .int nn, .int kk] D (tyL cB cI) (mw o b1 b2 b3 b4 b5 b6 cI rd (kd_op ph) (kd_do ph) k0 K.1 vv mm K.2.1 (nI K.2.2.1) K.2.2.2 ct.toInt32 dg kd_tbl) hz (fun r w => (kd_cst rd nn kk ∧ r = 1 ∧ ∃ mm1 vv1 : Nat → Int32, w = (mw o b1 b2 b3 b4 b5 b6 cI rd (kd_op 1) (kd_do 1) k0 ((kd_st K k0 nn kk).1) vv1 mm1 ((kd_st K k0 nn kk).2.1) (nI (kd_st K k0 nn kk).2.2.1) ((kd_st K k0 nn kk).2.2.2) ((0 : Int64).toInt32) nn kd_tbl)) ∨ (¬ kd_cst rd nn kk ∧ r = 0 ∧ ∃ mm1 vv1 : Nat → Int32, w = (mw o b1 b2 b3 b4 b5 b6 cI rd (kd_op ph) (kd_do ph) k0 K.1 vv1 mm1 K.2.1 (nI K.2.2.1) K.2.2.2 ct.toInt32 dg kd_tbl))) := by
  obtain ⟨hh, b0, f, mx⟩ := K
  refine kd_mi (by decide) (Nat.le_of_ble_eq_true rfl) ?_
  intro p e s m below meth c ls A S hr hlk hA hP hK hD hS hl
  have S : CallFix p m c cX1_start 4 s _ lw_all RX1 := S
  have hl : lv_has ls 4 [(0, .ref o), (1, .int nn), (2, .int kk)] := hl
  have hx := S.1
  have hb := S.2.1
  have hown := S.2.2.2.1
  have hts := S.2.2.2.2
  have hP : va_P D vwCl (mw o b1 b2 b3 b4 b5 b6 cI rd (kd_op ph) (kd_do ph) k0 hh vv mm b0 (nI f) mx ct.toInt32 dg kd_tbl) s.heap := hP
  have hD : va_D A (mw o b1 b2 b3 b4 b5 b6 cI rd (kd_op ph) (kd_do ph) k0 hh vv mm b0 (nI f) mx ct.toInt32 dg kd_tbl) := hD
  refine lv_aload_n hx hb dX1_start_0 rfl (lv_at hl 0 rfl) ?_
  refine mg_rd S hK hP dX1_start_1 ?_
  refine lv_if_eq (tgt := 28) hx hb dX1_start_4 (by decide) (fun h1 => ?_) (fun h1 => ?_)
  · refine lv_iconst (v := 0) hx hb dX1_start_28 (by decide) ?_
    exact kd_iend S hr rfl hlk hK hP hD hS (Or.inr ⟨fun q => q.1 h1, rfl, mm, vv, rfl⟩) dX1_start_29
  · refine lv_iload_n hx hb dX1_start_7 rfl (lv_at hl 1 rfl) ?_
    refine lv_iconst (v := 1) hx hb dX1_start_8 (by decide) ?_
    refine lv_icmp_lt (tgt := 28) hx hb dX1_start_9 (by decide) (fun h2 => ?_) (fun h2 => ?_)
    · refine lv_iconst (v := 0) hx hb dX1_start_28 (by decide) ?_
      exact kd_iend S hr rfl hlk hK hP hD hS (Or.inr ⟨fun q => q.2.1 h2, rfl, mm, vv, rfl⟩) dX1_start_29
    · refine lv_iload_n hx hb dX1_start_12 rfl (lv_at hl 1 rfl) ?_
      refine lv_bipush (v := 32) hx hb dX1_start_13 (by decide) ?_
      refine lv_icmp_gt (tgt := 28) hx hb dX1_start_15 (by decide) (fun h3 => ?_) (fun h3 => ?_)
      · refine lv_iconst (v := 0) hx hb dX1_start_28 (by decide) ?_
        exact kd_iend S hr rfl hlk hK hP hD hS (Or.inr ⟨fun q => q.2.2.1 h3, rfl, mm, vv, rfl⟩) dX1_start_29
      · refine lv_iload_n hx hb dX1_start_18 rfl (lv_at hl 2 rfl) ?_
        refine lv_if_lt (tgt := 28) hx hb dX1_start_19 (by decide) (fun h4 => ?_) (fun h4 => ?_)
        · refine lv_iconst (v := 0) hx hb dX1_start_28 (by decide) ?_
          exact kd_iend S hr rfl hlk hK hP hD hS (Or.inr ⟨fun q => q.2.2.2.1 h4, rfl, mm, vv, rfl⟩) dX1_start_29
        · refine lv_iload_n hx hb dX1_start_22 rfl (lv_at hl 2 rfl) ?_
          refine lv_bipush (v := 32) hx hb dX1_start_23 (by decide) ?_
          refine lv_icmp_le (tgt := 30) hx hb dX1_start_25 (by decide) (fun h5 => ?_) (fun h5 => ?_)
          · obtain ⟨N, hN, rfl⟩ := kd_cnt (M := 32) (by omega) h4 h5
            refine lv_iconst (v := 0) hx hb dX1_start_30 (by decide) ?_
            refine lv_istore_n (lv' := [(3, .int 0), (0, .ref o), (1, .int nn), (2, .int (nI N))]) hx hb dX1_start_31 rfl hl (by decide) rfl (fun ls hl => ?_)
            refine kd_Mst1 (hh := hh) ⟨Nat.le_of_ble_eq_true rfl, Nat.le_of_ble_eq_true rfl⟩ S hK ?_ 8 0 rfl _ _ _ (by rw [kd_fill_0]; exact hP) (by rw [kd_fill_0]; exact hD) hS hl
            intro H locs ls hP hD hS hl
            refine lv_aload_n hx hb dX1_start_54 rfl (lv_at hl 1 rfl) ?_
            refine mg_b2 S hK hP dX1_start_55 ?_
            refine lv_iconst (v := 0) hx hb dX1_start_58 (by decide) ?_
            refine lv_aload_n hx hb dX1_start_59 rfl (lv_at hl 1 rfl) ?_
            refine mg_b2 S hK hP dX1_start_60 ?_
            refine lv_iconst (v := 0) hx hb dX1_start_63 (by decide) ?_
            refine ml_hh (j := 0) S hK hP (kd_ix_n (j := 0) (by omega) (by omega)) dX1_start_64 ?_
            refine lv_ldc hx hb hown (hts _ q217) dX1_start_65 ?_
            refine lv_ixor hx hb dX1_start_67 ?_
            refine lv_iload_n hx hb dX1_start_68 rfl (lv_at hl 3 rfl) ?_
            refine lv_sipush (v := 256) hx hb dX1_start_69 (by decide) ?_
            refine lv_imul hx hb dX1_start_72 ?_
            refine lv_ixor hx hb dX1_start_73 ?_
            refine lv_iload_n hx hb dX1_start_74 rfl (lv_at hl 2 rfl) ?_
            refine lv_ixor hx hb dX1_start_75 ?_
            refine ms_hh (j := 0) (g := upd kd_iv 0 (kd_hd nn (nI N))) S hK hP hD hS (kd_ix_n (j := 0) (by omega) (by omega)) (by rw [kd_hdm nn hN]) dX1_start_76 (fun H locs hP hD hS => ?_)
            refine lv_aload_n hx hb dX1_start_77 rfl (lv_at hl 1 rfl) ?_
            refine lv_iload_n hx hb dX1_start_78 rfl (lv_at hl 2 rfl) ?_
            refine mp_sz (x := nn) S hK hP hD hS dX1_start_79 (fun H locs hP hD hS => ?_)
            refine lv_aload_n hx hb dX1_start_82 rfl (lv_at hl 1 rfl) ?_
            refine lv_iconst (v := 0) hx hb dX1_start_83 (by decide) ?_
            refine mp_fl (x := 0) S hK hP hD hS dX1_start_84 (fun H locs hP hD hS => ?_)
            refine lv_aload_n hx hb dX1_start_87 rfl (lv_at hl 1 rfl) ?_
            refine lv_lconst (v := 0) hx hb dX1_start_88 (by decide) ?_
            refine mp_mx (x := 0) S hK hP hD hS dX1_start_89 (fun H locs hP hD hS => ?_)
            refine lv_aload_n hx hb dX1_start_92 rfl (lv_at hl 1 rfl) ?_
            refine lv_iconst (v := 0) hx hb dX1_start_93 (by decide) ?_
            refine mp_cm (x := 0) S hK hP hD hS dX1_start_94 (fun H locs hP hD hS => ?_)
            refine lv_aload_n hx hb dX1_start_97 rfl (lv_at hl 1 rfl) ?_
            refine lv_iconst (v := 1) hx hb dX1_start_98 (by decide) ?_
            refine mp_io (x := 1) S hK hP hD hS rfl rfl dX1_start_99 (fun H locs hP hD hS => ?_)
            refine lv_aload_n hx hb dX1_start_102 rfl (lv_at hl 1 rfl) ?_
            refine lv_iconst (v := 0) hx hb dX1_start_103 (by decide) ?_
            refine mp_dn (x := 0) S hK hP hD hS rfl rfl dX1_start_104 (fun H locs hP hD hS => ?_)
            refine lv_iconst (v := 0) hx hb dX1_start_107 (by decide) ?_
            refine lv_istore_n (lv' := [(3, .int 0), (0, .ref o), (1, .int nn), (2, .int (nI N))]) hx hb dX1_start_108 rfl hl (by decide) rfl (fun ls hl => ?_)
            by_cases h6 : nI N ≤ 0
            · refine lv_iload_n hx hb dX1_start_109 rfl (lv_at hl 0 rfl) ?_
              refine lv_bipush (v := 64) hx hb dX1_start_110 (by decide) ?_
              refine lv_icmp_ge (tgt := 144) hx hb dX1_start_112 (by decide) (fun h7 => ?_) (fun h7 => ?_)
              · exact absurd h7 (by decide)
              · refine lv_iload_n hx hb dX1_start_115 rfl (lv_at hl 3 rfl) ?_
                refine lv_if_le (tgt := 144) hx hb dX1_start_116 (by decide) (fun h8 => ?_) (fun h8 => ?_)
                · refine lv_iconst (v := 1) hx hb dX1_start_144 (by decide) ?_
                  exact kd_iend S hr rfl hlk hK hP hD hS (Or.inl ⟨⟨h1, h2, h3, h4, h5⟩, rfl, mm, vv, (congrArg (fun K : kd_C => (mw o b1 b2 b3 b4 b5 b6 cI rd 1 0 k0 K.1 (vv) (mm) K.2.1 (nI K.2.2.1) K.2.2.2 0 nn kd_tbl)) (kd_st_0 k0 nn h6).symm).trans (by rw [kd_op1, kd_do1]; rfl)⟩) dX1_start_145
                · exact absurd h6 h8
            · refine kd_Mst2 (b0 := b0) ⟨Nat.le_of_ble_eq_true rfl, Nat.le_of_ble_eq_true rfl⟩ hA hN h6 S hK ?_ 64 0 rfl mm vv _ _ _ (by rw [kd_fill_0]; exact hP) (by rw [kd_fill_0]; exact hD) hS hl
              intro mm1 vv1 H locs ls hP hD hS hl
              refine lv_iconst (v := 1) hx hb dX1_start_144 (by decide) ?_
              exact kd_iend S hr rfl hlk hK hP hD hS (Or.inl ⟨⟨h1, h2, h3, h4, h5⟩, rfl, mm1, vv1, (congrArg (fun K : kd_C => (mw o b1 b2 b3 b4 b5 b6 cI rd 1 0 k0 K.1 (vv1) (mm1) K.2.1 (nI K.2.2.1) K.2.2.2 0 nn kd_tbl)) (kd_st_1 k0 nn h6).symm).trans (by rw [kd_op1, kd_do1]; rfl)⟩) dX1_start_145
          · refine lv_iconst (v := 0) hx hb dX1_start_28 (by decide) ?_
            exact kd_iend S hr rfl hlk hK hP hD hS (Or.inr ⟨fun q => h5 q.2.2.2.2, rfl, mm, vv, rfl⟩) dX1_start_29
section MINI
variable {p : Program} {l : Launch} {e : Env} {R : Room} {s : State} {m : MethodId} {args : Array Value} {below : List Frame} {meth : Method} {c : Code} {Q : State → Prop} {D : va_G} {A : Nat → Prop} {H0 : Heap}
variable {o b1 b2 b3 b4 b5 b6 : Nat} {cB cI : ClassId} {rd io dn fl cm sz : Int32} {ky hh vv mm bk rw : Nat → Int32} {mx : Int64}
set_option maxHeartbeats 4000000 in
theorem kd_Min  (S : CallFix p m c cX1_init_2 2 s args lw_all RX1) (hK : va_K D vwCl (tyL cB cI) s)
    (kx : ∀ (H : Heap) (locs : List Loc) (ls : Array Slot), va_P D vwCl (mw o b1 b2 b3 b4 b5 b6 cI rd io dn (fun _ => 0) hh vv mm bk fl mx cm sz rw) H → va_D A (mw o b1 b2 b3 b4 b5 b6 cI rd io dn (fun _ => 0) hh vv mm bk fl mx cm sz rw) → va_S A H0 H locs → lv_has ls 2 [(1, .int (nI 32)), (0, .ref o)] → W p l e R s m args below meth c H locs 0 0 Q (F0 m 36 ls [])) :
    ∀ (n i : Nat), i + n = 32 → ∀ (H : Heap) (locs : List Loc) (ls : Array Slot), va_P D vwCl (mw o b1 b2 b3 b4 b5 b6 cI rd io dn (kd_fill (fun _ => 0) ky i) hh vv mm bk fl mx cm sz rw) H → va_D A (mw o b1 b2 b3 b4 b5 b6 cI rd io dn (kd_fill (fun _ => 0) ky i) hh vv mm bk fl mx cm sz rw) → va_S A H0 H locs → lv_has ls 2 [(1, .int (nI i)), (0, .ref o)] → W p l e R s m args below meth c H locs 0 0 Q (F0 m 17 ls []) := by
  have hx := S.1
  have hb := S.2.1
  have hown := S.2.2.2.1
  have hts := S.2.2.2.2
  intro n
  induction n with
  | zero =>
    intro i hi  H locs ls hP hD hS hl
    obtain rfl : i = 32 := by omega
    refine lv_iload_n hx hb dX1_init_2_17 rfl (lv_at hl 0 rfl) ?_
    refine lv_bipush (v := 32) hx hb dX1_init_2_18 (by decide) ?_
    refine lv_icmp_ge (tgt := 36) hx hb dX1_init_2_20 (by decide) (fun hc => ?_) (fun hc => ?_)
    · have hP := mc_ky (g := fun _ => 0) hP (fun j hj => kd_fill_in hj)
      exact kx H locs ls hP (m_D hD) hS hl
    · exact absurd (by decide) hc
  | succ n ih =>
    intro i hi  H locs ls hP hD hS hl
    refine lv_iload_n hx hb dX1_init_2_17 rfl (lv_at hl 0 rfl) ?_
    refine lv_bipush (v := 32) hx hb dX1_init_2_18 (by decide) ?_
    refine lv_icmp_ge (tgt := 36) hx hb dX1_init_2_20 (by decide) (fun hc => ?_) (fun hc => ?_)
    · exact absurd hc (nI_ge (a := i) (b := 32) (by omega) (by omega))
    · refine lv_aload_n hx hb dX1_init_2_23 rfl (lv_at hl 1 rfl) ?_
      refine mg_b1 S hK hP dX1_init_2_24 ?_
      refine lv_iload_n hx hb dX1_init_2_27 rfl (lv_at hl 0 rfl) ?_
      refine lv_iconst (v := 0) hx hb dX1_init_2_28 (by decide) ?_
      refine ms_ky (j := i) (g := kd_fill (fun _ => 0) ky (i + 1)) S hK hP hD hS (kd_ix_n (by omega) (by omega)) (kd_fill_s rfl) dX1_init_2_29 (fun H locs hP hD hS => ?_)
      refine lv_iinc (v := nI (i + 1)) (lv' := [(1, .int (nI (i + 1))), (0, .ref o)]) hx hb dX1_init_2_30 hl (k := 0) rfl (nI_1 i) (by decide) rfl (fun ls hl => ?_)
      refine lv_goto (tgt := 17) hx hb dX1_init_2_33 (by decide) ?_
      exact ih (i + 1) (by omega) H locs ls hP hD hS hl
end MINI
set_option maxHeartbeats 4000000 in
/-- init() -/
theorem metX1_init_2 (l : Launch) (D : va_G) (o b1 b2 b3 b4 b5 b6 : Nat) (cB cI : ClassId) (rd io dn : Int32) (ky hh vv mm bk : Nat → Int32) (fl : Int32) (mx : Int64) (cm sz : Int32) (rw : Nat → Int32) (hz : Nat) : kd_MV l yX1_init_2 cX1_init_2 2 ({ frames := 0, cells := 0, slots := 0, locals := 0 } : Room) [.ref o] D (tyL cB cI) (mw o b1 b2 b3 b4 b5 b6 cI rd io dn ky hh vv mm bk fl mx cm sz rw) hz (fun w => w = (mw o b1 b2 b3 b4 b5 b6 cI 1 (kd_op 0) (kd_do 0) (fun _ => 0) hh vv mm bk fl mx cm sz rw)) := by
  refine kd_mv (by decide) (Nat.le_of_ble_eq_true rfl) ?_
  intro p e s m below meth c ls A S hr hlk hnm hA hP hK hD hS hl
  have S : CallFix p m c cX1_init_2 2 s _ lw_all RX1 := S
  have hl : lv_has ls 2 [(0, .ref o)] := hl
  have hx := S.1
  have hb := S.2.1
  have hown := S.2.2.2.1
  have hts := S.2.2.2.2
  refine lv_aload_n hx hb dX1_init_2_0 rfl (lv_at hl 0 rfl) ?_
  refine lv_iconst (v := 1) hx hb dX1_init_2_1 (by decide) ?_
  refine mp_rd (x := 1) S hK hP hD hS rfl rfl dX1_init_2_2 (fun H locs hP hD hS => ?_)
  refine lv_aload_n hx hb dX1_init_2_5 rfl (lv_at hl 0 rfl) ?_
  refine lv_iconst (v := 0) hx hb dX1_init_2_6 (by decide) ?_
  refine mp_io (x := 0) S hK hP hD hS rfl rfl dX1_init_2_7 (fun H locs hP hD hS => ?_)
  refine lv_aload_n hx hb dX1_init_2_10 rfl (lv_at hl 0 rfl) ?_
  refine lv_iconst (v := 0) hx hb dX1_init_2_11 (by decide) ?_
  refine mp_dn (x := 0) S hK hP hD hS rfl rfl dX1_init_2_12 (fun H locs hP hD hS => ?_)
  refine lv_iconst (v := 0) hx hb dX1_init_2_15 (by decide) ?_
  refine lv_istore_n (lv' := [(1, .int 0), (0, .ref o)]) hx hb dX1_init_2_16 rfl hl (by decide) rfl (fun ls hl => ?_)
  refine kd_Min (ky := ky) S hK ?_ 32 0 rfl _ _ _ (by rw [kd_fill_0]; exact hP) (by rw [kd_fill_0]; exact hD) hS hl
  intro H locs ls hP hD hS hl
  exact kd_vend S hr hlk hK hP hD hS (by rw [kd_op0, kd_do0]) dX1_init_2_36
set_option maxHeartbeats 4000000 in
/-- out(i) -/
theorem metX1_out (l : Launch) (D : va_G) (o b1 b2 b3 b4 b5 b6 : Nat) (cB cI : ClassId) (rd ph : Int32) (ky hh vv mm bk : Nat → Int32) (fl : Int32) (mx : Int64) (dg : Int32) (ct : Int64) (rw : Nat → Int32) (i : Int32) (h32 : ph = 2 → dg ≤ 32) : kd_MR l yX1_out cX1_out 2 .int ({ frames := 0, cells := 0, slots := 0, locals := 0 } : Room) [.ref o, .int i] D (tyL cB cI) (mw o b1 b2 b3 b4 b5 b6 cI rd (kd_op ph) (kd_do ph) ky hh vv mm bk fl mx ct.toInt32 dg rw) (kd_out ph dg hh i) := by
  refine kd_mr (by decide) (Nat.le_of_ble_eq_true rfl) ?_
  intro p e s m below meth c ls S hr hlk hP hK hl
  have S : CallFix p m c cX1_out 2 s _ lw_all RX1 := S
  have hl : lv_has ls 2 [(0, .ref o), (1, .int i)] := hl
  have hx := S.1
  have hb := S.2.1
  have hown := S.2.2.2.1
  have hts := S.2.2.2.2
  refine lv_aload_n hx hb dX1_out_0 rfl (lv_at hl 0 rfl) ?_
  refine mg_dn S hK hP dX1_out_1 ?_
  refine lv_if_eq (tgt := 41) hx hb dX1_out_4 (by decide) (fun h1 => ?_) (fun h1 => ?_)
  · refine lv_iconst (v := (-1)) hx hb dX1_out_41 (by decide) ?_
    exact kd_rend S hr rfl hlk (if_neg (fun q => kd_do_0 h1 q.1)).symm dX1_out_42
  · refine lv_iload_n hx hb dX1_out_7 rfl (lv_at hl 1 rfl) ?_
    refine lv_if_lt (tgt := 41) hx hb dX1_out_8 (by decide) (fun h2 => ?_) (fun h2 => ?_)
    · refine lv_iconst (v := (-1)) hx hb dX1_out_41 (by decide) ?_
      exact kd_rend S hr rfl hlk (if_neg (fun q => q.2.1 h2)).symm dX1_out_42
    · refine lv_iload_n hx hb dX1_out_11 rfl (lv_at hl 1 rfl) ?_
      refine lv_aload_n hx hb dX1_out_12 rfl (lv_at hl 0 rfl) ?_
      refine mg_sz S hK hP dX1_out_13 ?_
      refine lv_icmp_ge (tgt := 41) hx hb dX1_out_16 (by decide) (fun h3 => ?_) (fun h3 => ?_)
      · refine lv_iconst (v := (-1)) hx hb dX1_out_41 (by decide) ?_
        exact kd_rend S hr rfl hlk (if_neg (fun q => kd_lt_not q.2.2 h3)).symm dX1_out_42
      · refine lv_aload_n hx hb dX1_out_19 rfl (lv_at hl 0 rfl) ?_
        refine mg_b2 S hK hP dX1_out_20 ?_
        refine lv_iload_n hx hb dX1_out_23 rfl (lv_at hl 1 rfl) ?_
        refine lv_iconst (v := 4) hx hb dX1_out_24 (by decide) ?_
        refine lv_idiv hx hb dX1_out_25 (by decide) ?_
        refine ml_hh (j := (i / 4).toNatClampNeg) S hK hP (kd_ix4 h2 (kd_not_le h3) (h32 (kd_do_1 h1))) dX1_out_26 ?_
        refine lv_bipush (v := 8) hx hb dX1_out_27 (by decide) ?_
        refine lv_iload_n hx hb dX1_out_29 rfl (lv_at hl 1 rfl) ?_
        refine lv_iconst (v := 4) hx hb dX1_out_30 (by decide) ?_
        refine lv_irem hx hb dX1_out_31 (by decide) ?_
        refine lv_imul hx hb dX1_out_32 ?_
        refine lv_iushr hx hb dX1_out_33 rfl ?_
        refine lv_sipush (v := 255) hx hb dX1_out_34 (by decide) ?_
        refine lv_iand hx hb dX1_out_37 ?_
        refine lv_goto (tgt := 42) hx hb dX1_out_38 (by decide) ?_
        exact kd_rend S hr rfl hlk (if_pos ⟨kd_do_1 h1, h2, kd_not_le h3⟩).symm dX1_out_42
set_option maxHeartbeats 4000000 in
/-- length() -/
theorem metX1_length (l : Launch) (D : va_G) (o b1 b2 b3 b4 b5 b6 : Nat) (cB cI : ClassId) (rd ph : Int32) (ky hh vv mm bk : Nat → Int32) (fl : Int32) (mx : Int64) (dg : Int32) (ct : Int64) (rw : Nat → Int32) (hph : ph = 0 ∨ ph = 1 ∨ ph = 2) : kd_MR l yX1_length cX1_length 1 .int ({ frames := 0, cells := 0, slots := 0, locals := 0 } : Room) [.ref o] D (tyL cB cI) (mw o b1 b2 b3 b4 b5 b6 cI rd (kd_op ph) (kd_do ph) ky hh vv mm bk fl mx ct.toInt32 dg rw) (kd_len ph ct) := by
  refine kd_mr (by decide) (Nat.le_of_ble_eq_true rfl) ?_
  intro p e s m below meth c ls S hr hlk hP hK hl
  have S : CallFix p m c cX1_length 1 s _ lw_all RX1 := S
  have hl : lv_has ls 1 [(0, .ref o)] := hl
  have hx := S.1
  have hb := S.2.1
  have hown := S.2.2.2.1
  have hts := S.2.2.2.2
  refine lv_aload_n hx hb dX1_length_0 rfl (lv_at hl 0 rfl) ?_
  refine mg_io S hK hP dX1_length_1 ?_
  refine lv_if_ne (tgt := 14) hx hb dX1_length_4 (by decide) (fun h1 => ?_) (fun h1 => ?_)
  · have hp : ¬ ph = 0 := by rw [kd_op_1 h1]; decide
    refine lv_aload_n hx hb dX1_length_14 rfl (lv_at hl 0 rfl) ?_
    refine mg_cm S hK hP dX1_length_15 ?_
    refine lv_goto (tgt := 22) hx hb dX1_length_18 (by decide) ?_
    exact kd_rend S hr rfl hlk (if_neg hp).symm dX1_length_22
  · refine lv_aload_n hx hb dX1_length_7 rfl (lv_at hl 0 rfl) ?_
    refine mg_dn S hK hP dX1_length_8 ?_
    refine lv_if_eq (tgt := 21) hx hb dX1_length_11 (by decide) (fun h2 => ?_) (fun h2 => ?_)
    · have hp : ph = 0 := kd_ph0 hph h1 h2
      refine lv_iconst (v := (-1)) hx hb dX1_length_21 (by decide) ?_
      exact kd_rend S hr rfl hlk (if_pos hp).symm dX1_length_22
    · have hp : ¬ ph = 0 := by rw [kd_do_1 h2]; decide
      refine lv_aload_n hx hb dX1_length_14 rfl (lv_at hl 0 rfl) ?_
      refine mg_cm S hK hP dX1_length_15 ?_
      refine lv_goto (tgt := 22) hx hb dX1_length_18 (by decide) ?_
      exact kd_rend S hr rfl hlk (if_neg hp).symm dX1_length_22
section MWD
variable {p : Program} {l : Launch} {e : Env} {R : Room} {s : State} {m : MethodId} {args : Array Value} {below : List Frame} {meth : Method} {c : Code} {Q : State → Prop} {D : va_G} {A : Nat → Prop} {H0 : Heap}
variable {o b1 b2 b3 b4 b5 b6 : Nat} {cB cI : ClassId} {rd io dn fl cm sz : Int32} {ky hh vv mm bk rw : Nat → Int32} {mx : Int64}
variable {ph i : Int32}
set_option maxHeartbeats 4000000 in
theorem kd_Mwd (S : CallFix p m c cX1_word 2 s args lw_all RX1) (hr : meth.sig.returnType = some .int) (hlk : meth.locks = false) (hK : va_K D vwCl (tyL cB cI) s) (hp : ¬ ph = 0) (hP : va_P D vwCl (mw o b1 b2 b3 b4 b5 b6 cI rd io dn ky hh vv mm bk fl mx cm sz rw) s.heap) (ls : Array Slot) (hl : lv_has ls 2 [(0, .ref o), (1, .int i)]) : W p l e R s m args below meth c s.heap [] 0 0 (MQ below (QcRead (kd_wd ph hh i)) args s 0 0 (fun _ => False)) (F0 m 14 ls []) := by
  have hx := S.1
  have hb := S.2.1
  have hown := S.2.2.2.1
  have hts := S.2.2.2.2
  refine lv_iload_n hx hb dX1_word_14 rfl (lv_at hl 1 rfl) ?_
  refine lv_if_lt (tgt := 33) hx hb dX1_word_15 (by decide) (fun h2 => ?_) (fun h2 => ?_)
  · refine lv_iconst (v := 0) hx hb dX1_word_33 (by decide) ?_
    exact kd_rend S hr rfl hlk (if_neg (fun q => q.2.1 h2)).symm dX1_word_34
  · refine lv_iload_n hx hb dX1_word_18 rfl (lv_at hl 1 rfl) ?_
    refine lv_bipush (v := 8) hx hb dX1_word_19 (by decide) ?_
    refine lv_icmp_ge (tgt := 33) hx hb dX1_word_21 (by decide) (fun h3 => ?_) (fun h3 => ?_)
    · refine lv_iconst (v := 0) hx hb dX1_word_33 (by decide) ?_
      exact kd_rend S hr rfl hlk (if_neg (fun q => kd_7_8 h3 q.2.2)).symm dX1_word_34
    · refine lv_aload_n hx hb dX1_word_24 rfl (lv_at hl 0 rfl) ?_
      refine mg_b2 S hK hP dX1_word_25 ?_
      refine lv_iload_n hx hb dX1_word_28 rfl (lv_at hl 1 rfl) ?_
      refine ml_hh (j := i.toNatClampNeg) S hK hP (kd_ixl (n := 7) (by omega) h2 (kd_8_7 h3)) dX1_word_29 ?_
      refine lv_goto (tgt := 34) hx hb dX1_word_30 (by decide) ?_
      exact kd_rend S hr rfl hlk (if_pos ⟨hp, h2, kd_8_7 h3⟩).symm dX1_word_34
end MWD
set_option maxHeartbeats 4000000 in
/-- word(i) -/
theorem metX1_word (l : Launch) (D : va_G) (o b1 b2 b3 b4 b5 b6 : Nat) (cB cI : ClassId) (rd ph : Int32) (ky hh vv mm bk : Nat → Int32) (fl : Int32) (mx : Int64) (dg : Int32) (ct : Int64) (rw : Nat → Int32) (i : Int32) (hph : ph = 0 ∨ ph = 1 ∨ ph = 2) : kd_MR l yX1_word cX1_word 2 .int ({ frames := 0, cells := 0, slots := 0, locals := 0 } : Room) [.ref o, .int i] D (tyL cB cI) (mw o b1 b2 b3 b4 b5 b6 cI rd (kd_op ph) (kd_do ph) ky hh vv mm bk fl mx ct.toInt32 dg rw) (kd_wd ph hh i) := by
  refine kd_mr (by decide) (Nat.le_of_ble_eq_true rfl) ?_
  intro p e s m below meth c ls S hr hlk hP hK hl
  have S : CallFix p m c cX1_word 2 s _ lw_all RX1 := S
  have hl : lv_has ls 2 [(0, .ref o), (1, .int i)] := hl
  have hx := S.1
  have hb := S.2.1
  have hown := S.2.2.2.1
  have hts := S.2.2.2.2
  refine lv_aload_n hx hb dX1_word_0 rfl (lv_at hl 0 rfl) ?_
  refine mg_io S hK hP dX1_word_1 ?_
  refine lv_if_ne (tgt := 14) hx hb dX1_word_4 (by decide) (fun h1 => ?_) (fun h1 => ?_)
  · have hp : ¬ ph = 0 := by rw [kd_op_1 h1]; decide
    exact kd_Mwd S hr hlk hK hp hP ls hl
  · refine lv_aload_n hx hb dX1_word_7 rfl (lv_at hl 0 rfl) ?_
    refine mg_dn S hK hP dX1_word_8 ?_
    refine lv_if_eq (tgt := 33) hx hb dX1_word_11 (by decide) (fun h2 => ?_) (fun h2 => ?_)
    · have hp : ph = 0 := kd_ph0 hph h1 h2
      refine lv_iconst (v := 0) hx hb dX1_word_33 (by decide) ?_
      exact kd_rend S hr rfl hlk (if_neg (fun q => q.1 hp)).symm dX1_word_34
    · have hp : ¬ ph = 0 := by rw [kd_do_1 h2]; decide
      exact kd_Mwd S hr hlk hK hp hP ls hl
end
section
set_option maxRecDepth 100000
/-- a constructor's contract: its new cells are counted; the array classes come with the world -/
def kd_MN (l : Launch) (y : MethodName) (code : ByteArray) (rm : Room) (o : Nat) (D : va_G) (tys : List (ClassId × FieldType)) (W0 : va_W) (sz mc ms : Nat) (WS : ClassId × ClassId × va_W → Prop) : Prop := Met l y (ws_ y code 1 none) rm (va_Pc [.ref o] (kd_Pre D tys W0 sz)) (va_Qv WS (fun w t => kd_B D (tyL w.1 w.2.1) (va_A W0 sz) w.2.2 t) (va_A W0 sz)) mc ms (va_A W0 sz)
theorem kd_mn {l : Launch} {y : MethodName} {code : ByteArray} {rm : Room} {o : Nat} {D : va_G} {tys : List (ClassId × FieldType)} {W0 : va_W} {sz mc ms : Nat} {WS : ClassId × ClassId × va_W → Prop} (hy : plainName y.cls = true)
    (body : ∀ (p : Program) (e : Env) (s : State) (m : MethodId) (below : List Frame) (meth : Method) (c : Code) (ls : Array Slot) (A : Nat → Prop), CallFix p m c code 1 s ([.ref o] : List Value).toArray lw_all y.cls → meth.sig.returnType = none → meth.locks = false → meth.name = y.name → (∀ q, s.heap.size ≤ q → A q) → va_P D vwCl W0 s.heap → va_K D vwCl tys s → va_D A W0 → va_S A s.heap s.heap [] → lv_has ls 1 [(0, .ref o)] →
      W p l e rm s m ([.ref o] : List Value).toArray below meth c s.heap [] 0 0 (MQ below (va_Qv WS (fun w t => kd_B D (tyL w.1 w.2.1) A w.2.2 t) A) ([.ref o] : List Value).toArray s mc ms A) (F0 m 0 ls [])) : kd_MN l y code rm o D tys W0 sz mc ms WS := by
  refine Met.ofW (cc := code) (maxL := 1) (ret := none) hy rfl ?_
  intro p e s m args below meth c s₁ B hml hv
  obtain ⟨rfl, hsz, hP, hK, hD0⟩ := hv
  have hts := atoms_spec (ws := ws_ y code 1 none) B.pre
  have hts : ∀ w ∈ lw_all, w.before _ s = true := fun w h => hts w (List.mem_cons_of_mem _ h)
  subst hsz
  have hl := lv_entry ([.ref o] : List Value) (n := 1) (Nat.le_of_ble_eq_true rfl)
  rw [lg_entry_eq]
  exact body p e s m below meth c _ (va_A W0 s.heap.size) ⟨B.exec, B.bytes, hml, findClass_of_methodNamed B.named, hts⟩ B.returns B.notSynchronized (name_of_methodNamed B.named B.method).1 (fun q h => Or.inr h) hP hK hD0.self va_S.rf hl
theorem kd_nend {p : Program} {l : Launch} {e : Env} {R : Room} {s : State} {m : MethodId} {args : Array Value} {below : List Frame} {meth : Method} {c : Code} {H : Heap} {locs : List Loc} {cells slots : Nat} {cc : ByteArray} {pc nL : Nat} {ls : Array Slot} {D : va_G} {A : Nat → Prop} {own : String} {w : va_W} {cB cI : ClassId} {WS : ClassId × ClassId × va_W → Prop} (S : CallFix p m c cc nL s args lw_all own) (hr : meth.sig.returnType = none) (hlk : meth.locks = false) (hK : va_K D vwCl (tyL cB cI) s) (hP : va_P D vwCl w H) (hD : va_D A w) (hS : va_S A s.heap H locs) (hw : WS (cB, cI, w)) (hdg : decode cc pc = .ok (.return_, 1)) : W p l e R s m args below meth c H locs cells slots (MQ below (va_Qv WS (fun w t => kd_B D (tyL w.1 w.2.1) A w.2.2 t) A) args s cells slots A) (F0 m pc ls []) :=
  W.vret S.1 S.2.1 hr (fun t ht hW => ⟨⟨(cB, cI, w), rfl, hw, by rw [ht]; exact hP, va_K.moved hW.alike hK, hD⟩, hS.F ht⟩) hS.2.2 hdg hlk
set_option maxHeartbeats 4000000 in
/-- KeyedDigest(): seven arrays, all zero -/
theorem metX0_init (l : Launch) (D : va_G) (o sz : Nat) : kd_MN l yX0_init cX0_init ({ frames := 1, cells := 7, slots := 304, locals := 12 } : Room) o D [] [(o, .inr (0, [.int 0, .int 0, .null, .null, .null, .null, .null, .null, .null, .int 0, .long 0, .int 0, .long 0]))] sz 7 304 (fun w => ∃ a1 a2 a3 a4 a5 a6 a7 : Nat, w.2.2 = xw o a1 a2 a3 a4 a5 a6 a7 w.1 w.2.1 0 0 (fun _ => 0) (fun _ => 0) (fun _ => 0) (fun _ => 0) (fun _ => 0) (fun _ => 0) (fun _ => 0) 0 0 0 0) := by
  refine kd_mn (by decide) ?_
  intro p e s m below meth c ls A S hr hlk hnm hA hP hK hD hS hl
  have S : CallFix p m c cX0_init 1 s _ lw_all RX0 := S
  have hx := S.1
  have hb := S.2.1
  have hown := S.2.2.2.1
  have hts := S.2.2.2.2
  refine lv_aload_n hx hb dX0_init_0 rfl (lv_at hl 0 rfl) ?_
  refine W.objInit hx hb hown (hts _ q16) (hts _ q17) (hts _ q18) rfl (by rw [S.2.2.1]; exact hl.1) rfl dX0_init_1 (Nat.le_of_ble_eq_true rfl) (Nat.le_of_ble_eq_true rfl) ?_
  refine W.eq (g2 := F0 m 4 ls []) rfl ?_
  refine lv_aload_n hx hb dX0_init_4 rfl (lv_at hl 0 rfl) ?_
  refine lv_bipush (v := 32) hx hb dX0_init_5 (by decide) ?_
  refine va_newa (atype := .byte) (ty := .byte) (N' := 32) (a0 := (32, .inl (fun _ => 0))) hx hb (hts _ q59) rfl hK hP hD hS hA (fun _ => rfl) (by decide) (by decide) (by decide) (Nat.le_of_ble_eq_true rfl) (Nat.le_of_ble_eq_true rfl) dX0_init_7 (fun a1 c1 H hK hP hD hS => ?_)
  have hK : va_K D vwCl [(c1, .byte)] s := hK
  have hP : va_P D vwCl [(o, .inr (0, [.int 0, .int 0, .null, .null, .null, .null, .null, .null, .null, .int 0, .long 0, .int 0, .long 0])), (a1, .inl (c1, 32, .inl (fun _ => 0)))] H := hP
  have hD : va_D A [(o, .inr (0, [.int 0, .int 0, .null, .null, .null, .null, .null, .null, .null, .int 0, .long 0, .int 0, .long 0])), (a1, .inl (c1, 32, .inl (fun _ => 0)))] := hD
  refine va_putF (D := D) (ci := 0) (v := .ref a1) (ty := .array .byte) (C := RX0) (T := TX0) (N := 13) hx hb hts in_X0 tyX0 tyX0_ok nmX0 hown hK hP hD hS 0 rfl rfl 2 (by decide) (hts _ q21) (fun _ h9 => h9) rfl hnm rfl (by decide +kernel) rfl rfl (Nat.le_of_ble_eq_true rfl) dX0_init_9 (fun H locs hP hD hS => ?_)
  have hP : va_P D vwCl [(o, .inr (0, [.int 0, .int 0, .ref a1, .null, .null, .null, .null, .null, .null, .int 0, .long 0, .int 0, .long 0])), (a1, .inl (c1, 32, .inl (fun _ => 0)))] H := hP
  have hD : va_D A [(o, .inr (0, [.int 0, .int 0, .ref a1, .null, .null, .null, .null, .null, .null, .int 0, .long 0, .int 0, .long 0])), (a1, .inl (c1, 32, .inl (fun _ => 0)))] := hD
  refine lv_aload_n hx hb dX0_init_12 rfl (lv_at hl 0 rfl) ?_
  refine lv_sipush (v := 160) hx hb dX0_init_13 (by decide) ?_
  refine va_newa (atype := .byte) (ty := .byte) (N' := 160) (a0 := (160, .inl (fun _ => 0))) hx hb (hts _ q59) rfl hK hP hD hS hA (fun _ => rfl) (by decide) (by decide) (by decide) (Nat.le_of_ble_eq_true rfl) (Nat.le_of_ble_eq_true rfl) dX0_init_16 (fun a2 c2 H hK hP hD hS => ?_)
  have hK : va_K D vwCl [(c1, .byte), (c2, .byte)] s := hK
  have hP : va_P D vwCl [(o, .inr (0, [.int 0, .int 0, .ref a1, .null, .null, .null, .null, .null, .null, .int 0, .long 0, .int 0, .long 0])), (a1, .inl (c1, 32, .inl (fun _ => 0))), (a2, .inl (c2, 160, .inl (fun _ => 0)))] H := hP
  have hD : va_D A [(o, .inr (0, [.int 0, .int 0, .ref a1, .null, .null, .null, .null, .null, .null, .int 0, .long 0, .int 0, .long 0])), (a1, .inl (c1, 32, .inl (fun _ => 0))), (a2, .inl (c2, 160, .inl (fun _ => 0)))] := hD
  have ec : c2 = c1 := kd_one hK 1 0 rfl rfl (Or.inl rfl)
  rw [ec] at hP hD
  have hK := hK.sub (tys' := [(c1, .byte)]) [0] rfl
  refine va_putF (D := D) (ci := 0) (v := .ref a2) (ty := .array .byte) (C := RX0) (T := TX0) (N := 13) hx hb hts in_X0 tyX0 tyX0_ok nmX0 hown hK hP hD hS 0 rfl rfl 3 (by decide) (hts _ q22) (fun _ h9 => h9) rfl hnm rfl (by decide +kernel) rfl rfl (Nat.le_of_ble_eq_true rfl) dX0_init_18 (fun H locs hP hD hS => ?_)
  have hP : va_P D vwCl [(o, .inr (0, [.int 0, .int 0, .ref a1, .ref a2, .null, .null, .null, .null, .null, .int 0, .long 0, .int 0, .long 0])), (a1, .inl (c1, 32, .inl (fun _ => 0))), (a2, .inl (c1, 160, .inl (fun _ => 0)))] H := hP
  have hD : va_D A [(o, .inr (0, [.int 0, .int 0, .ref a1, .ref a2, .null, .null, .null, .null, .null, .int 0, .long 0, .int 0, .long 0])), (a1, .inl (c1, 32, .inl (fun _ => 0))), (a2, .inl (c1, 160, .inl (fun _ => 0)))] := hD
  refine lv_aload_n hx hb dX0_init_21 rfl (lv_at hl 0 rfl) ?_
  refine lv_bipush (v := 8) hx hb dX0_init_22 (by decide) ?_
  refine va_newa (atype := .int) (ty := .int) (N' := 8) (a0 := (8, .inl (fun _ => 0))) hx hb (hts _ q60) rfl hK hP hD hS hA (fun _ => rfl) (by decide) (by decide) (by decide) (Nat.le_of_ble_eq_true rfl) (Nat.le_of_ble_eq_true rfl) dX0_init_24 (fun a3 c3 H hK hP hD hS => ?_)
  have hK : va_K D vwCl [(c1, .byte), (c3, .int)] s := hK
  have hP : va_P D vwCl [(o, .inr (0, [.int 0, .int 0, .ref a1, .ref a2, .null, .null, .null, .null, .null, .int 0, .long 0, .int 0, .long 0])), (a1, .inl (c1, 32, .inl (fun _ => 0))), (a2, .inl (c1, 160, .inl (fun _ => 0))), (a3, .inl (c3, 8, .inl (fun _ => 0)))] H := hP
  have hD : va_D A [(o, .inr (0, [.int 0, .int 0, .ref a1, .ref a2, .null, .null, .null, .null, .null, .int 0, .long 0, .int 0, .long 0])), (a1, .inl (c1, 32, .inl (fun _ => 0))), (a2, .inl (c1, 160, .inl (fun _ => 0))), (a3, .inl (c3, 8, .inl (fun _ => 0)))] := hD
  refine va_putF (D := D) (ci := 0) (v := .ref a3) (ty := .array .int) (C := RX0) (T := TX0) (N := 13) hx hb hts in_X0 tyX0 tyX0_ok nmX0 hown hK hP hD hS 0 rfl rfl 4 (by decide) (hts _ q23) (fun _ h9 => h9) rfl hnm rfl (by decide +kernel) rfl rfl (Nat.le_of_ble_eq_true rfl) dX0_init_26 (fun H locs hP hD hS => ?_)
  have hP : va_P D vwCl [(o, .inr (0, [.int 0, .int 0, .ref a1, .ref a2, .ref a3, .null, .null, .null, .null, .int 0, .long 0, .int 0, .long 0])), (a1, .inl (c1, 32, .inl (fun _ => 0))), (a2, .inl (c1, 160, .inl (fun _ => 0))), (a3, .inl (c3, 8, .inl (fun _ => 0)))] H := hP
  have hD : va_D A [(o, .inr (0, [.int 0, .int 0, .ref a1, .ref a2, .ref a3, .null, .null, .null, .null, .int 0, .long 0, .int 0, .long 0])), (a1, .inl (c1, 32, .inl (fun _ => 0))), (a2, .inl (c1, 160, .inl (fun _ => 0))), (a3, .inl (c3, 8, .inl (fun _ => 0)))] := hD
  refine lv_aload_n hx hb dX0_init_29 rfl (lv_at hl 0 rfl) ?_
  refine lv_bipush (v := 8) hx hb dX0_init_30 (by decide) ?_
  refine va_newa (atype := .int) (ty := .int) (N' := 8) (a0 := (8, .inl (fun _ => 0))) hx hb (hts _ q60) rfl hK hP hD hS hA (fun _ => rfl) (by decide) (by decide) (by decide) (Nat.le_of_ble_eq_true rfl) (Nat.le_of_ble_eq_true rfl) dX0_init_32 (fun a4 c4 H hK hP hD hS => ?_)
  have hK : va_K D vwCl [(c1, .byte), (c3, .int), (c4, .int)] s := hK
  have hP : va_P D vwCl [(o, .inr (0, [.int 0, .int 0, .ref a1, .ref a2, .ref a3, .null, .null, .null, .null, .int 0, .long 0, .int 0, .long 0])), (a1, .inl (c1, 32, .inl (fun _ => 0))), (a2, .inl (c1, 160, .inl (fun _ => 0))), (a3, .inl (c3, 8, .inl (fun _ => 0))), (a4, .inl (c4, 8, .inl (fun _ => 0)))] H := hP
  have hD : va_D A [(o, .inr (0, [.int 0, .int 0, .ref a1, .ref a2, .ref a3, .null, .null, .null, .null, .int 0, .long 0, .int 0, .long 0])), (a1, .inl (c1, 32, .inl (fun _ => 0))), (a2, .inl (c1, 160, .inl (fun _ => 0))), (a3, .inl (c3, 8, .inl (fun _ => 0))), (a4, .inl (c4, 8, .inl (fun _ => 0)))] := hD
  have ec : c4 = c3 := kd_one hK 2 1 rfl rfl (Or.inr rfl)
  rw [ec] at hP hD
  have hK := hK.sub (tys' := [(c1, .byte), (c3, .int)]) [0, 1] rfl
  refine va_putF (D := D) (ci := 0) (v := .ref a4) (ty := .array .int) (C := RX0) (T := TX0) (N := 13) hx hb hts in_X0 tyX0 tyX0_ok nmX0 hown hK hP hD hS 0 rfl rfl 5 (by decide) (hts _ q24) (fun _ h9 => h9) rfl hnm rfl (by decide +kernel) rfl rfl (Nat.le_of_ble_eq_true rfl) dX0_init_34 (fun H locs hP hD hS => ?_)
  have hP : va_P D vwCl [(o, .inr (0, [.int 0, .int 0, .ref a1, .ref a2, .ref a3, .ref a4, .null, .null, .null, .int 0, .long 0, .int 0, .long 0])), (a1, .inl (c1, 32, .inl (fun _ => 0))), (a2, .inl (c1, 160, .inl (fun _ => 0))), (a3, .inl (c3, 8, .inl (fun _ => 0))), (a4, .inl (c3, 8, .inl (fun _ => 0)))] H := hP
  have hD : va_D A [(o, .inr (0, [.int 0, .int 0, .ref a1, .ref a2, .ref a3, .ref a4, .null, .null, .null, .int 0, .long 0, .int 0, .long 0])), (a1, .inl (c1, 32, .inl (fun _ => 0))), (a2, .inl (c1, 160, .inl (fun _ => 0))), (a3, .inl (c3, 8, .inl (fun _ => 0))), (a4, .inl (c3, 8, .inl (fun _ => 0)))] := hD
  refine lv_aload_n hx hb dX0_init_37 rfl (lv_at hl 0 rfl) ?_
  refine lv_bipush (v := 16) hx hb dX0_init_38 (by decide) ?_
  refine va_newa (atype := .int) (ty := .int) (N' := 16) (a0 := (16, .inl (fun _ => 0))) hx hb (hts _ q60) rfl hK hP hD hS hA (fun _ => rfl) (by decide) (by decide) (by decide) (Nat.le_of_ble_eq_true rfl) (Nat.le_of_ble_eq_true rfl) dX0_init_40 (fun a5 c5 H hK hP hD hS => ?_)
  have hK : va_K D vwCl [(c1, .byte), (c3, .int), (c5, .int)] s := hK
  have hP : va_P D vwCl [(o, .inr (0, [.int 0, .int 0, .ref a1, .ref a2, .ref a3, .ref a4, .null, .null, .null, .int 0, .long 0, .int 0, .long 0])), (a1, .inl (c1, 32, .inl (fun _ => 0))), (a2, .inl (c1, 160, .inl (fun _ => 0))), (a3, .inl (c3, 8, .inl (fun _ => 0))), (a4, .inl (c3, 8, .inl (fun _ => 0))), (a5, .inl (c5, 16, .inl (fun _ => 0)))] H := hP
  have hD : va_D A [(o, .inr (0, [.int 0, .int 0, .ref a1, .ref a2, .ref a3, .ref a4, .null, .null, .null, .int 0, .long 0, .int 0, .long 0])), (a1, .inl (c1, 32, .inl (fun _ => 0))), (a2, .inl (c1, 160, .inl (fun _ => 0))), (a3, .inl (c3, 8, .inl (fun _ => 0))), (a4, .inl (c3, 8, .inl (fun _ => 0))), (a5, .inl (c5, 16, .inl (fun _ => 0)))] := hD
  have ec : c5 = c3 := kd_one hK 2 1 rfl rfl (Or.inr rfl)
  rw [ec] at hP hD
  have hK := hK.sub (tys' := [(c1, .byte), (c3, .int)]) [0, 1] rfl
  refine va_putF (D := D) (ci := 0) (v := .ref a5) (ty := .array .int) (C := RX0) (T := TX0) (N := 13) hx hb hts in_X0 tyX0 tyX0_ok nmX0 hown hK hP hD hS 0 rfl rfl 6 (by decide) (hts _ q25) (fun _ h9 => h9) rfl hnm rfl (by decide +kernel) rfl rfl (Nat.le_of_ble_eq_true rfl) dX0_init_42 (fun H locs hP hD hS => ?_)
  have hP : va_P D vwCl [(o, .inr (0, [.int 0, .int 0, .ref a1, .ref a2, .ref a3, .ref a4, .ref a5, .null, .null, .int 0, .long 0, .int 0, .long 0])), (a1, .inl (c1, 32, .inl (fun _ => 0))), (a2, .inl (c1, 160, .inl (fun _ => 0))), (a3, .inl (c3, 8, .inl (fun _ => 0))), (a4, .inl (c3, 8, .inl (fun _ => 0))), (a5, .inl (c3, 16, .inl (fun _ => 0)))] H := hP
  have hD : va_D A [(o, .inr (0, [.int 0, .int 0, .ref a1, .ref a2, .ref a3, .ref a4, .ref a5, .null, .null, .int 0, .long 0, .int 0, .long 0])), (a1, .inl (c1, 32, .inl (fun _ => 0))), (a2, .inl (c1, 160, .inl (fun _ => 0))), (a3, .inl (c3, 8, .inl (fun _ => 0))), (a4, .inl (c3, 8, .inl (fun _ => 0))), (a5, .inl (c3, 16, .inl (fun _ => 0)))] := hD
  refine lv_aload_n hx hb dX0_init_45 rfl (lv_at hl 0 rfl) ?_
  refine lv_bipush (v := 16) hx hb dX0_init_46 (by decide) ?_
  refine va_newa (atype := .int) (ty := .int) (N' := 16) (a0 := (16, .inl (fun _ => 0))) hx hb (hts _ q60) rfl hK hP hD hS hA (fun _ => rfl) (by decide) (by decide) (by decide) (Nat.le_of_ble_eq_true rfl) (Nat.le_of_ble_eq_true rfl) dX0_init_48 (fun a6 c6 H hK hP hD hS => ?_)
  have hK : va_K D vwCl [(c1, .byte), (c3, .int), (c6, .int)] s := hK
  have hP : va_P D vwCl [(o, .inr (0, [.int 0, .int 0, .ref a1, .ref a2, .ref a3, .ref a4, .ref a5, .null, .null, .int 0, .long 0, .int 0, .long 0])), (a1, .inl (c1, 32, .inl (fun _ => 0))), (a2, .inl (c1, 160, .inl (fun _ => 0))), (a3, .inl (c3, 8, .inl (fun _ => 0))), (a4, .inl (c3, 8, .inl (fun _ => 0))), (a5, .inl (c3, 16, .inl (fun _ => 0))), (a6, .inl (c6, 16, .inl (fun _ => 0)))] H := hP
  have hD : va_D A [(o, .inr (0, [.int 0, .int 0, .ref a1, .ref a2, .ref a3, .ref a4, .ref a5, .null, .null, .int 0, .long 0, .int 0, .long 0])), (a1, .inl (c1, 32, .inl (fun _ => 0))), (a2, .inl (c1, 160, .inl (fun _ => 0))), (a3, .inl (c3, 8, .inl (fun _ => 0))), (a4, .inl (c3, 8, .inl (fun _ => 0))), (a5, .inl (c3, 16, .inl (fun _ => 0))), (a6, .inl (c6, 16, .inl (fun _ => 0)))] := hD
  have ec : c6 = c3 := kd_one hK 2 1 rfl rfl (Or.inr rfl)
  rw [ec] at hP hD
  have hK := hK.sub (tys' := [(c1, .byte), (c3, .int)]) [0, 1] rfl
  refine va_putF (D := D) (ci := 0) (v := .ref a6) (ty := .array .int) (C := RX0) (T := TX0) (N := 13) hx hb hts in_X0 tyX0 tyX0_ok nmX0 hown hK hP hD hS 0 rfl rfl 7 (by decide) (hts _ q26) (fun _ h9 => h9) rfl hnm rfl (by decide +kernel) rfl rfl (Nat.le_of_ble_eq_true rfl) dX0_init_50 (fun H locs hP hD hS => ?_)
  have hP : va_P D vwCl [(o, .inr (0, [.int 0, .int 0, .ref a1, .ref a2, .ref a3, .ref a4, .ref a5, .ref a6, .null, .int 0, .long 0, .int 0, .long 0])), (a1, .inl (c1, 32, .inl (fun _ => 0))), (a2, .inl (c1, 160, .inl (fun _ => 0))), (a3, .inl (c3, 8, .inl (fun _ => 0))), (a4, .inl (c3, 8, .inl (fun _ => 0))), (a5, .inl (c3, 16, .inl (fun _ => 0))), (a6, .inl (c3, 16, .inl (fun _ => 0)))] H := hP
  have hD : va_D A [(o, .inr (0, [.int 0, .int 0, .ref a1, .ref a2, .ref a3, .ref a4, .ref a5, .ref a6, .null, .int 0, .long 0, .int 0, .long 0])), (a1, .inl (c1, 32, .inl (fun _ => 0))), (a2, .inl (c1, 160, .inl (fun _ => 0))), (a3, .inl (c3, 8, .inl (fun _ => 0))), (a4, .inl (c3, 8, .inl (fun _ => 0))), (a5, .inl (c3, 16, .inl (fun _ => 0))), (a6, .inl (c3, 16, .inl (fun _ => 0)))] := hD
  refine lv_aload_n hx hb dX0_init_53 rfl (lv_at hl 0 rfl) ?_
  refine lv_bipush (v := 64) hx hb dX0_init_54 (by decide) ?_
  refine va_newa (atype := .byte) (ty := .byte) (N' := 64) (a0 := (64, .inl (fun _ => 0))) hx hb (hts _ q59) rfl hK hP hD hS hA (fun _ => rfl) (by decide) (by decide) (by decide) (Nat.le_of_ble_eq_true rfl) (Nat.le_of_ble_eq_true rfl) dX0_init_56 (fun a7 c7 H hK hP hD hS => ?_)
  have hK : va_K D vwCl [(c1, .byte), (c3, .int), (c7, .byte)] s := hK
  have hP : va_P D vwCl [(o, .inr (0, [.int 0, .int 0, .ref a1, .ref a2, .ref a3, .ref a4, .ref a5, .ref a6, .null, .int 0, .long 0, .int 0, .long 0])), (a1, .inl (c1, 32, .inl (fun _ => 0))), (a2, .inl (c1, 160, .inl (fun _ => 0))), (a3, .inl (c3, 8, .inl (fun _ => 0))), (a4, .inl (c3, 8, .inl (fun _ => 0))), (a5, .inl (c3, 16, .inl (fun _ => 0))), (a6, .inl (c3, 16, .inl (fun _ => 0))), (a7, .inl (c7, 64, .inl (fun _ => 0)))] H := hP
  have hD : va_D A [(o, .inr (0, [.int 0, .int 0, .ref a1, .ref a2, .ref a3, .ref a4, .ref a5, .ref a6, .null, .int 0, .long 0, .int 0, .long 0])), (a1, .inl (c1, 32, .inl (fun _ => 0))), (a2, .inl (c1, 160, .inl (fun _ => 0))), (a3, .inl (c3, 8, .inl (fun _ => 0))), (a4, .inl (c3, 8, .inl (fun _ => 0))), (a5, .inl (c3, 16, .inl (fun _ => 0))), (a6, .inl (c3, 16, .inl (fun _ => 0))), (a7, .inl (c7, 64, .inl (fun _ => 0)))] := hD
  have ec : c7 = c1 := kd_one hK 2 0 rfl rfl (Or.inl rfl)
  rw [ec] at hP hD
  have hK := hK.sub (tys' := [(c1, .byte), (c3, .int)]) [0, 1] rfl
  refine va_putF (D := D) (ci := 0) (v := .ref a7) (ty := .array .byte) (C := RX0) (T := TX0) (N := 13) hx hb hts in_X0 tyX0 tyX0_ok nmX0 hown hK hP hD hS 0 rfl rfl 8 (by decide) (hts _ q27) (fun _ h9 => h9) rfl hnm rfl (by decide +kernel) rfl rfl (Nat.le_of_ble_eq_true rfl) dX0_init_58 (fun H locs hP hD hS => ?_)
  have hP : va_P D vwCl [(o, .inr (0, [.int 0, .int 0, .ref a1, .ref a2, .ref a3, .ref a4, .ref a5, .ref a6, .ref a7, .int 0, .long 0, .int 0, .long 0])), (a1, .inl (c1, 32, .inl (fun _ => 0))), (a2, .inl (c1, 160, .inl (fun _ => 0))), (a3, .inl (c3, 8, .inl (fun _ => 0))), (a4, .inl (c3, 8, .inl (fun _ => 0))), (a5, .inl (c3, 16, .inl (fun _ => 0))), (a6, .inl (c3, 16, .inl (fun _ => 0))), (a7, .inl (c1, 64, .inl (fun _ => 0)))] H := hP
  have hD : va_D A [(o, .inr (0, [.int 0, .int 0, .ref a1, .ref a2, .ref a3, .ref a4, .ref a5, .ref a6, .ref a7, .int 0, .long 0, .int 0, .long 0])), (a1, .inl (c1, 32, .inl (fun _ => 0))), (a2, .inl (c1, 160, .inl (fun _ => 0))), (a3, .inl (c3, 8, .inl (fun _ => 0))), (a4, .inl (c3, 8, .inl (fun _ => 0))), (a5, .inl (c3, 16, .inl (fun _ => 0))), (a6, .inl (c3, 16, .inl (fun _ => 0))), (a7, .inl (c1, 64, .inl (fun _ => 0)))] := hD
  refine W.widen (k := 7) (n := 304) (by decide) (by decide) ?_
  exact kd_nend (cB := c1) (cI := c3) (w := xw o a1 a2 a3 a4 a5 a6 a7 c1 c3 0 0 (fun _ => 0) (fun _ => 0) (fun _ => 0) (fun _ => 0) (fun _ => 0) (fun _ => 0) (fun _ => 0) 0 0 0 0) S hr hlk hK hP hD hS ⟨a1, a2, a3, a4, a5, a6, a7, rfl⟩ dX0_init_61
section MCT
variable {p : Program} {l : Launch} {e : Env} {R : Room} {s : State} {m : MethodId} {args : Array Value} {below : List Frame} {meth : Method} {c : Code} {Q : State → Prop} {D : va_G} {A : Nat → Prop} {H0 : Heap}
variable {o b1 b2 b3 b4 b5 b6 : Nat} {cB cI : ClassId} {cells slots : Nat}
/-- the model while its rows are filled -/
def mwp (o b1 b2 b3 b4 b5 b6 : Nat) (cI : ClassId) (rw : Nat → Int32) : va_W := [(o, .inr (1, [.int 0, .int 0, .int 0, .ref b1, .ref b2, .ref b3, .ref b4, .ref b5, .int 0, .long 0, .int 0, .int 0, .null])), (b1, .inl (cI, 32, .inl (fun _ => 0))), (b2, .inl (cI, 8, .inl (fun _ => 0))), (b3, .inl (cI, 16, .inl (fun _ => 0))), (b4, .inl (cI, 16, .inl (fun _ => 0))), (b5, .inl (cI, 64, .inl (fun _ => 0))), (b6, .inl (cI, 160, .inl rw))]
abbrev kd_rf (i : Nat) : Nat → Int32 := kd_fill kd_tbl (fun _ => 0) i
theorem kd_mr1 {H : Heap} {locs : List Loc} {cc : ByteArray} {pc i : Nat} {ls : Array Slot} {rest : List Value} {x ix : Int32} (hx : p.tables.exec = Jvm.exec) (hb : c.code = cc) (hK : va_K D vwCl (tyL cB cI) s) (hP : va_P D vwCl (mwp o b1 b2 b3 b4 b5 b6 cI (kd_rf i)) H) (hD : va_D A (mwp o b1 b2 b3 b4 b5 b6 cI (kd_rf i))) (hS : va_S A H0 H locs) (hi : kd_ix ix i 160) (ex : x = kd_tbl i) (hdg : decode cc pc = .ok (.iastore, 1))
    (kk : ∀ (H1 : Heap) (locs1 : List Loc), va_P D vwCl (mwp o b1 b2 b3 b4 b5 b6 cI (kd_rf (i + 1))) H1 → va_D A (mwp o b1 b2 b3 b4 b5 b6 cI (kd_rf (i + 1))) → va_S A H0 H1 locs1 → W p l e R s m args below meth c H1 locs1 cells slots Q (F0 m (pc + 1) ls rest)) : W p l e R s m args below meth c H locs cells slots Q (F0 m pc ls (.int x :: .int ix :: .ref b6 :: rest)) := by
  obtain ⟨hi, hj⟩ := hi
  have hu : upd (kd_rf i) i x = kd_rf (i + 1) := kd_fill_s ex
  rw [← hu] at kk
  subst hj
  exact va_iast hx hb hK hP hD hS 6 1 rfl rfl hi hdg kk
set_option maxHeartbeats 4000000 in
theorem kd_Mr0 {H : Heap} {locs : List Loc} {ls : Array Slot} (hx : p.tables.exec = Jvm.exec) (hb : c.code = cX1_init) (hK : va_K D vwCl (tyL cB cI) s) (hP : va_P D vwCl (mwp o b1 b2 b3 b4 b5 b6 cI (kd_rf 0)) H) (hD : va_D A (mwp o b1 b2 b3 b4 b5 b6 cI (kd_rf 0))) (hS : va_S A H0 H locs)
    (kx : ∀ (H : Heap) (locs : List Loc), va_P D vwCl (mwp o b1 b2 b3 b4 b5 b6 cI (kd_rf 16)) H → va_D A (mwp o b1 b2 b3 b4 b5 b6 cI (kd_rf 16)) → va_S A H0 H locs → W p l e R s m args below meth c H locs cells slots Q (F0 m 134 ls [.ref b6, .ref o])) : W p l e R s m args below meth c H locs cells slots Q (F0 m 50 ls [.ref b6, .ref o]) := by
  refine lv_dup hx hb dX1_init_50 rfl ?_
  refine lv_iconst (v := 0) hx hb dX1_init_51 (by decide) ?_
  refine lv_iconst (v := 0) hx hb dX1_init_52 (by decide) ?_
  refine kd_mr1 (i := 0) hx hb hK hP hD hS (kd_ix_n (j := 0) (by omega) (by omega)) rfl dX1_init_53 (fun H locs hP hD hS => ?_)
  refine lv_dup hx hb dX1_init_54 rfl ?_
  refine lv_iconst (v := 1) hx hb dX1_init_55 (by decide) ?_
  refine lv_iconst (v := 1) hx hb dX1_init_56 (by decide) ?_
  refine kd_mr1 (i := 1) hx hb hK hP hD hS (kd_ix_n (j := 1) (by omega) (by omega)) rfl dX1_init_57 (fun H locs hP hD hS => ?_)
  refine lv_dup hx hb dX1_init_58 rfl ?_
  refine lv_iconst (v := 2) hx hb dX1_init_59 (by decide) ?_
  refine lv_iconst (v := 2) hx hb dX1_init_60 (by decide) ?_
  refine kd_mr1 (i := 2) hx hb hK hP hD hS (kd_ix_n (j := 2) (by omega) (by omega)) rfl dX1_init_61 (fun H locs hP hD hS => ?_)
  refine lv_dup hx hb dX1_init_62 rfl ?_
  refine lv_iconst (v := 3) hx hb dX1_init_63 (by decide) ?_
  refine lv_iconst (v := 3) hx hb dX1_init_64 (by decide) ?_
  refine kd_mr1 (i := 3) hx hb hK hP hD hS (kd_ix_n (j := 3) (by omega) (by omega)) rfl dX1_init_65 (fun H locs hP hD hS => ?_)
  refine lv_dup hx hb dX1_init_66 rfl ?_
  refine lv_iconst (v := 4) hx hb dX1_init_67 (by decide) ?_
  refine lv_iconst (v := 4) hx hb dX1_init_68 (by decide) ?_
  refine kd_mr1 (i := 4) hx hb hK hP hD hS (kd_ix_n (j := 4) (by omega) (by omega)) rfl dX1_init_69 (fun H locs hP hD hS => ?_)
  refine lv_dup hx hb dX1_init_70 rfl ?_
  refine lv_iconst (v := 5) hx hb dX1_init_71 (by decide) ?_
  refine lv_iconst (v := 5) hx hb dX1_init_72 (by decide) ?_
  refine kd_mr1 (i := 5) hx hb hK hP hD hS (kd_ix_n (j := 5) (by omega) (by omega)) rfl dX1_init_73 (fun H locs hP hD hS => ?_)
  refine lv_dup hx hb dX1_init_74 rfl ?_
  refine lv_bipush (v := 6) hx hb dX1_init_75 (by decide) ?_
  refine lv_bipush (v := 6) hx hb dX1_init_77 (by decide) ?_
  refine kd_mr1 (i := 6) hx hb hK hP hD hS (kd_ix_n (j := 6) (by omega) (by omega)) rfl dX1_init_79 (fun H locs hP hD hS => ?_)
  refine lv_dup hx hb dX1_init_80 rfl ?_
  refine lv_bipush (v := 7) hx hb dX1_init_81 (by decide) ?_
  refine lv_bipush (v := 7) hx hb dX1_init_83 (by decide) ?_
  refine kd_mr1 (i := 7) hx hb hK hP hD hS (kd_ix_n (j := 7) (by omega) (by omega)) rfl dX1_init_85 (fun H locs hP hD hS => ?_)
  refine lv_dup hx hb dX1_init_86 rfl ?_
  refine lv_bipush (v := 8) hx hb dX1_init_87 (by decide) ?_
  refine lv_bipush (v := 8) hx hb dX1_init_89 (by decide) ?_
  refine kd_mr1 (i := 8) hx hb hK hP hD hS (kd_ix_n (j := 8) (by omega) (by omega)) rfl dX1_init_91 (fun H locs hP hD hS => ?_)
  refine lv_dup hx hb dX1_init_92 rfl ?_
  refine lv_bipush (v := 9) hx hb dX1_init_93 (by decide) ?_
  refine lv_bipush (v := 9) hx hb dX1_init_95 (by decide) ?_
  refine kd_mr1 (i := 9) hx hb hK hP hD hS (kd_ix_n (j := 9) (by omega) (by omega)) rfl dX1_init_97 (fun H locs hP hD hS => ?_)
  refine lv_dup hx hb dX1_init_98 rfl ?_
  refine lv_bipush (v := 10) hx hb dX1_init_99 (by decide) ?_
  refine lv_bipush (v := 10) hx hb dX1_init_101 (by decide) ?_
  refine kd_mr1 (i := 10) hx hb hK hP hD hS (kd_ix_n (j := 10) (by omega) (by omega)) rfl dX1_init_103 (fun H locs hP hD hS => ?_)
  refine lv_dup hx hb dX1_init_104 rfl ?_
  refine lv_bipush (v := 11) hx hb dX1_init_105 (by decide) ?_
  refine lv_bipush (v := 11) hx hb dX1_init_107 (by decide) ?_
  refine kd_mr1 (i := 11) hx hb hK hP hD hS (kd_ix_n (j := 11) (by omega) (by omega)) rfl dX1_init_109 (fun H locs hP hD hS => ?_)
  refine lv_dup hx hb dX1_init_110 rfl ?_
  refine lv_bipush (v := 12) hx hb dX1_init_111 (by decide) ?_
  refine lv_bipush (v := 12) hx hb dX1_init_113 (by decide) ?_
  refine kd_mr1 (i := 12) hx hb hK hP hD hS (kd_ix_n (j := 12) (by omega) (by omega)) rfl dX1_init_115 (fun H locs hP hD hS => ?_)
  refine lv_dup hx hb dX1_init_116 rfl ?_
  refine lv_bipush (v := 13) hx hb dX1_init_117 (by decide) ?_
  refine lv_bipush (v := 13) hx hb dX1_init_119 (by decide) ?_
  refine kd_mr1 (i := 13) hx hb hK hP hD hS (kd_ix_n (j := 13) (by omega) (by omega)) rfl dX1_init_121 (fun H locs hP hD hS => ?_)
  refine lv_dup hx hb dX1_init_122 rfl ?_
  refine lv_bipush (v := 14) hx hb dX1_init_123 (by decide) ?_
  refine lv_bipush (v := 14) hx hb dX1_init_125 (by decide) ?_
  refine kd_mr1 (i := 14) hx hb hK hP hD hS (kd_ix_n (j := 14) (by omega) (by omega)) rfl dX1_init_127 (fun H locs hP hD hS => ?_)
  refine lv_dup hx hb dX1_init_128 rfl ?_
  refine lv_bipush (v := 15) hx hb dX1_init_129 (by decide) ?_
  refine lv_bipush (v := 15) hx hb dX1_init_131 (by decide) ?_
  refine kd_mr1 (i := 15) hx hb hK hP hD hS (kd_ix_n (j := 15) (by omega) (by omega)) rfl dX1_init_133 (fun H locs hP hD hS => ?_)
  exact kx H locs hP hD hS
set_option maxHeartbeats 4000000 in
theorem kd_Mr1 {H : Heap} {locs : List Loc} {ls : Array Slot} (hx : p.tables.exec = Jvm.exec) (hb : c.code = cX1_init) (hK : va_K D vwCl (tyL cB cI) s) (hP : va_P D vwCl (mwp o b1 b2 b3 b4 b5 b6 cI (kd_rf 16)) H) (hD : va_D A (mwp o b1 b2 b3 b4 b5 b6 cI (kd_rf 16))) (hS : va_S A H0 H locs)
    (kx : ∀ (H : Heap) (locs : List Loc), va_P D vwCl (mwp o b1 b2 b3 b4 b5 b6 cI (kd_rf 32)) H → va_D A (mwp o b1 b2 b3 b4 b5 b6 cI (kd_rf 32)) → va_S A H0 H locs → W p l e R s m args below meth c H locs cells slots Q (F0 m 224 ls [.ref b6, .ref o])) : W p l e R s m args below meth c H locs cells slots Q (F0 m 134 ls [.ref b6, .ref o]) := by
  refine lv_dup hx hb dX1_init_134 rfl ?_
  refine lv_bipush (v := 16) hx hb dX1_init_135 (by decide) ?_
  refine lv_bipush (v := 14) hx hb dX1_init_137 (by decide) ?_
  refine kd_mr1 (i := 16) hx hb hK hP hD hS (kd_ix_n (j := 16) (by omega) (by omega)) rfl dX1_init_139 (fun H locs hP hD hS => ?_)
  refine lv_dup hx hb dX1_init_140 rfl ?_
  refine lv_bipush (v := 17) hx hb dX1_init_141 (by decide) ?_
  refine lv_bipush (v := 10) hx hb dX1_init_143 (by decide) ?_
  refine kd_mr1 (i := 17) hx hb hK hP hD hS (kd_ix_n (j := 17) (by omega) (by omega)) rfl dX1_init_145 (fun H locs hP hD hS => ?_)
  refine lv_dup hx hb dX1_init_146 rfl ?_
  refine lv_bipush (v := 18) hx hb dX1_init_147 (by decide) ?_
  refine lv_iconst (v := 4) hx hb dX1_init_149 (by decide) ?_
  refine kd_mr1 (i := 18) hx hb hK hP hD hS (kd_ix_n (j := 18) (by omega) (by omega)) rfl dX1_init_150 (fun H locs hP hD hS => ?_)
  refine lv_dup hx hb dX1_init_151 rfl ?_
  refine lv_bipush (v := 19) hx hb dX1_init_152 (by decide) ?_
  refine lv_bipush (v := 8) hx hb dX1_init_154 (by decide) ?_
  refine kd_mr1 (i := 19) hx hb hK hP hD hS (kd_ix_n (j := 19) (by omega) (by omega)) rfl dX1_init_156 (fun H locs hP hD hS => ?_)
  refine lv_dup hx hb dX1_init_157 rfl ?_
  refine lv_bipush (v := 20) hx hb dX1_init_158 (by decide) ?_
  refine lv_bipush (v := 9) hx hb dX1_init_160 (by decide) ?_
  refine kd_mr1 (i := 20) hx hb hK hP hD hS (kd_ix_n (j := 20) (by omega) (by omega)) rfl dX1_init_162 (fun H locs hP hD hS => ?_)
  refine lv_dup hx hb dX1_init_163 rfl ?_
  refine lv_bipush (v := 21) hx hb dX1_init_164 (by decide) ?_
  refine lv_bipush (v := 15) hx hb dX1_init_166 (by decide) ?_
  refine kd_mr1 (i := 21) hx hb hK hP hD hS (kd_ix_n (j := 21) (by omega) (by omega)) rfl dX1_init_168 (fun H locs hP hD hS => ?_)
  refine lv_dup hx hb dX1_init_169 rfl ?_
  refine lv_bipush (v := 22) hx hb dX1_init_170 (by decide) ?_
  refine lv_bipush (v := 13) hx hb dX1_init_172 (by decide) ?_
  refine kd_mr1 (i := 22) hx hb hK hP hD hS (kd_ix_n (j := 22) (by omega) (by omega)) rfl dX1_init_174 (fun H locs hP hD hS => ?_)
  refine lv_dup hx hb dX1_init_175 rfl ?_
  refine lv_bipush (v := 23) hx hb dX1_init_176 (by decide) ?_
  refine lv_bipush (v := 6) hx hb dX1_init_178 (by decide) ?_
  refine kd_mr1 (i := 23) hx hb hK hP hD hS (kd_ix_n (j := 23) (by omega) (by omega)) rfl dX1_init_180 (fun H locs hP hD hS => ?_)
  refine lv_dup hx hb dX1_init_181 rfl ?_
  refine lv_bipush (v := 24) hx hb dX1_init_182 (by decide) ?_
  refine lv_iconst (v := 1) hx hb dX1_init_184 (by decide) ?_
  refine kd_mr1 (i := 24) hx hb hK hP hD hS (kd_ix_n (j := 24) (by omega) (by omega)) rfl dX1_init_185 (fun H locs hP hD hS => ?_)
  refine lv_dup hx hb dX1_init_186 rfl ?_
  refine lv_bipush (v := 25) hx hb dX1_init_187 (by decide) ?_
  refine lv_bipush (v := 12) hx hb dX1_init_189 (by decide) ?_
  refine kd_mr1 (i := 25) hx hb hK hP hD hS (kd_ix_n (j := 25) (by omega) (by omega)) rfl dX1_init_191 (fun H locs hP hD hS => ?_)
  refine lv_dup hx hb dX1_init_192 rfl ?_
  refine lv_bipush (v := 26) hx hb dX1_init_193 (by decide) ?_
  refine lv_iconst (v := 0) hx hb dX1_init_195 (by decide) ?_
  refine kd_mr1 (i := 26) hx hb hK hP hD hS (kd_ix_n (j := 26) (by omega) (by omega)) rfl dX1_init_196 (fun H locs hP hD hS => ?_)
  refine lv_dup hx hb dX1_init_197 rfl ?_
  refine lv_bipush (v := 27) hx hb dX1_init_198 (by decide) ?_
  refine lv_iconst (v := 2) hx hb dX1_init_200 (by decide) ?_
  refine kd_mr1 (i := 27) hx hb hK hP hD hS (kd_ix_n (j := 27) (by omega) (by omega)) rfl dX1_init_201 (fun H locs hP hD hS => ?_)
  refine lv_dup hx hb dX1_init_202 rfl ?_
  refine lv_bipush (v := 28) hx hb dX1_init_203 (by decide) ?_
  refine lv_bipush (v := 11) hx hb dX1_init_205 (by decide) ?_
  refine kd_mr1 (i := 28) hx hb hK hP hD hS (kd_ix_n (j := 28) (by omega) (by omega)) rfl dX1_init_207 (fun H locs hP hD hS => ?_)
  refine lv_dup hx hb dX1_init_208 rfl ?_
  refine lv_bipush (v := 29) hx hb dX1_init_209 (by decide) ?_
  refine lv_bipush (v := 7) hx hb dX1_init_211 (by decide) ?_
  refine kd_mr1 (i := 29) hx hb hK hP hD hS (kd_ix_n (j := 29) (by omega) (by omega)) rfl dX1_init_213 (fun H locs hP hD hS => ?_)
  refine lv_dup hx hb dX1_init_214 rfl ?_
  refine lv_bipush (v := 30) hx hb dX1_init_215 (by decide) ?_
  refine lv_iconst (v := 5) hx hb dX1_init_217 (by decide) ?_
  refine kd_mr1 (i := 30) hx hb hK hP hD hS (kd_ix_n (j := 30) (by omega) (by omega)) rfl dX1_init_218 (fun H locs hP hD hS => ?_)
  refine lv_dup hx hb dX1_init_219 rfl ?_
  refine lv_bipush (v := 31) hx hb dX1_init_220 (by decide) ?_
  refine lv_iconst (v := 3) hx hb dX1_init_222 (by decide) ?_
  refine kd_mr1 (i := 31) hx hb hK hP hD hS (kd_ix_n (j := 31) (by omega) (by omega)) rfl dX1_init_223 (fun H locs hP hD hS => ?_)
  exact kx H locs hP hD hS
set_option maxHeartbeats 4000000 in
theorem kd_Mr2 {H : Heap} {locs : List Loc} {ls : Array Slot} (hx : p.tables.exec = Jvm.exec) (hb : c.code = cX1_init) (hK : va_K D vwCl (tyL cB cI) s) (hP : va_P D vwCl (mwp o b1 b2 b3 b4 b5 b6 cI (kd_rf 32)) H) (hD : va_D A (mwp o b1 b2 b3 b4 b5 b6 cI (kd_rf 32))) (hS : va_S A H0 H locs)
    (kx : ∀ (H : Heap) (locs : List Loc), va_P D vwCl (mwp o b1 b2 b3 b4 b5 b6 cI (kd_rf 48)) H → va_D A (mwp o b1 b2 b3 b4 b5 b6 cI (kd_rf 48)) → va_S A H0 H locs → W p l e R s m args below meth c H locs cells slots Q (F0 m 314 ls [.ref b6, .ref o])) : W p l e R s m args below meth c H locs cells slots Q (F0 m 224 ls [.ref b6, .ref o]) := by
  refine lv_dup hx hb dX1_init_224 rfl ?_
  refine lv_bipush (v := 32) hx hb dX1_init_225 (by decide) ?_
  refine lv_bipush (v := 11) hx hb dX1_init_227 (by decide) ?_
  refine kd_mr1 (i := 32) hx hb hK hP hD hS (kd_ix_n (j := 32) (by omega) (by omega)) rfl dX1_init_229 (fun H locs hP hD hS => ?_)
  refine lv_dup hx hb dX1_init_230 rfl ?_
  refine lv_bipush (v := 33) hx hb dX1_init_231 (by decide) ?_
  refine lv_bipush (v := 8) hx hb dX1_init_233 (by decide) ?_
  refine kd_mr1 (i := 33) hx hb hK hP hD hS (kd_ix_n (j := 33) (by omega) (by omega)) rfl dX1_init_235 (fun H locs hP hD hS => ?_)
  refine lv_dup hx hb dX1_init_236 rfl ?_
  refine lv_bipush (v := 34) hx hb dX1_init_237 (by decide) ?_
  refine lv_bipush (v := 12) hx hb dX1_init_239 (by decide) ?_
  refine kd_mr1 (i := 34) hx hb hK hP hD hS (kd_ix_n (j := 34) (by omega) (by omega)) rfl dX1_init_241 (fun H locs hP hD hS => ?_)
  refine lv_dup hx hb dX1_init_242 rfl ?_
  refine lv_bipush (v := 35) hx hb dX1_init_243 (by decide) ?_
  refine lv_iconst (v := 0) hx hb dX1_init_245 (by decide) ?_
  refine kd_mr1 (i := 35) hx hb hK hP hD hS (kd_ix_n (j := 35) (by omega) (by omega)) rfl dX1_init_246 (fun H locs hP hD hS => ?_)
  refine lv_dup hx hb dX1_init_247 rfl ?_
  refine lv_bipush (v := 36) hx hb dX1_init_248 (by decide) ?_
  refine lv_iconst (v := 5) hx hb dX1_init_250 (by decide) ?_
  refine kd_mr1 (i := 36) hx hb hK hP hD hS (kd_ix_n (j := 36) (by omega) (by omega)) rfl dX1_init_251 (fun H locs hP hD hS => ?_)
  refine lv_dup hx hb dX1_init_252 rfl ?_
  refine lv_bipush (v := 37) hx hb dX1_init_253 (by decide) ?_
  refine lv_iconst (v := 2) hx hb dX1_init_255 (by decide) ?_
  refine kd_mr1 (i := 37) hx hb hK hP hD hS (kd_ix_n (j := 37) (by omega) (by omega)) rfl dX1_init_256 (fun H locs hP hD hS => ?_)
  refine lv_dup hx hb dX1_init_257 rfl ?_
  refine lv_bipush (v := 38) hx hb dX1_init_258 (by decide) ?_
  refine lv_bipush (v := 15) hx hb dX1_init_260 (by decide) ?_
  refine kd_mr1 (i := 38) hx hb hK hP hD hS (kd_ix_n (j := 38) (by omega) (by omega)) rfl dX1_init_262 (fun H locs hP hD hS => ?_)
  refine lv_dup hx hb dX1_init_263 rfl ?_
  refine lv_bipush (v := 39) hx hb dX1_init_264 (by decide) ?_
  refine lv_bipush (v := 13) hx hb dX1_init_266 (by decide) ?_
  refine kd_mr1 (i := 39) hx hb hK hP hD hS (kd_ix_n (j := 39) (by omega) (by omega)) rfl dX1_init_268 (fun H locs hP hD hS => ?_)
  refine lv_dup hx hb dX1_init_269 rfl ?_
  refine lv_bipush (v := 40) hx hb dX1_init_270 (by decide) ?_
  refine lv_bipush (v := 10) hx hb dX1_init_272 (by decide) ?_
  refine kd_mr1 (i := 40) hx hb hK hP hD hS (kd_ix_n (j := 40) (by omega) (by omega)) rfl dX1_init_274 (fun H locs hP hD hS => ?_)
  refine lv_dup hx hb dX1_init_275 rfl ?_
  refine lv_bipush (v := 41) hx hb dX1_init_276 (by decide) ?_
  refine lv_bipush (v := 14) hx hb dX1_init_278 (by decide) ?_
  refine kd_mr1 (i := 41) hx hb hK hP hD hS (kd_ix_n (j := 41) (by omega) (by omega)) rfl dX1_init_280 (fun H locs hP hD hS => ?_)
  refine lv_dup hx hb dX1_init_281 rfl ?_
  refine lv_bipush (v := 42) hx hb dX1_init_282 (by decide) ?_
  refine lv_iconst (v := 3) hx hb dX1_init_284 (by decide) ?_
  refine kd_mr1 (i := 42) hx hb hK hP hD hS (kd_ix_n (j := 42) (by omega) (by omega)) rfl dX1_init_285 (fun H locs hP hD hS => ?_)
  refine lv_dup hx hb dX1_init_286 rfl ?_
  refine lv_bipush (v := 43) hx hb dX1_init_287 (by decide) ?_
  refine lv_bipush (v := 6) hx hb dX1_init_289 (by decide) ?_
  refine kd_mr1 (i := 43) hx hb hK hP hD hS (kd_ix_n (j := 43) (by omega) (by omega)) rfl dX1_init_291 (fun H locs hP hD hS => ?_)
  refine lv_dup hx hb dX1_init_292 rfl ?_
  refine lv_bipush (v := 44) hx hb dX1_init_293 (by decide) ?_
  refine lv_bipush (v := 7) hx hb dX1_init_295 (by decide) ?_
  refine kd_mr1 (i := 44) hx hb hK hP hD hS (kd_ix_n (j := 44) (by omega) (by omega)) rfl dX1_init_297 (fun H locs hP hD hS => ?_)
  refine lv_dup hx hb dX1_init_298 rfl ?_
  refine lv_bipush (v := 45) hx hb dX1_init_299 (by decide) ?_
  refine lv_iconst (v := 1) hx hb dX1_init_301 (by decide) ?_
  refine kd_mr1 (i := 45) hx hb hK hP hD hS (kd_ix_n (j := 45) (by omega) (by omega)) rfl dX1_init_302 (fun H locs hP hD hS => ?_)
  refine lv_dup hx hb dX1_init_303 rfl ?_
  refine lv_bipush (v := 46) hx hb dX1_init_304 (by decide) ?_
  refine lv_bipush (v := 9) hx hb dX1_init_306 (by decide) ?_
  refine kd_mr1 (i := 46) hx hb hK hP hD hS (kd_ix_n (j := 46) (by omega) (by omega)) rfl dX1_init_308 (fun H locs hP hD hS => ?_)
  refine lv_dup hx hb dX1_init_309 rfl ?_
  refine lv_bipush (v := 47) hx hb dX1_init_310 (by decide) ?_
  refine lv_iconst (v := 4) hx hb dX1_init_312 (by decide) ?_
  refine kd_mr1 (i := 47) hx hb hK hP hD hS (kd_ix_n (j := 47) (by omega) (by omega)) rfl dX1_init_313 (fun H locs hP hD hS => ?_)
  exact kx H locs hP hD hS
set_option maxHeartbeats 4000000 in
theorem kd_Mr3 {H : Heap} {locs : List Loc} {ls : Array Slot} (hx : p.tables.exec = Jvm.exec) (hb : c.code = cX1_init) (hK : va_K D vwCl (tyL cB cI) s) (hP : va_P D vwCl (mwp o b1 b2 b3 b4 b5 b6 cI (kd_rf 48)) H) (hD : va_D A (mwp o b1 b2 b3 b4 b5 b6 cI (kd_rf 48))) (hS : va_S A H0 H locs)
    (kx : ∀ (H : Heap) (locs : List Loc), va_P D vwCl (mwp o b1 b2 b3 b4 b5 b6 cI (kd_rf 64)) H → va_D A (mwp o b1 b2 b3 b4 b5 b6 cI (kd_rf 64)) → va_S A H0 H locs → W p l e R s m args below meth c H locs cells slots Q (F0 m 404 ls [.ref b6, .ref o])) : W p l e R s m args below meth c H locs cells slots Q (F0 m 314 ls [.ref b6, .ref o]) := by
  refine lv_dup hx hb dX1_init_314 rfl ?_
  refine lv_bipush (v := 48) hx hb dX1_init_315 (by decide) ?_
  refine lv_bipush (v := 7) hx hb dX1_init_317 (by decide) ?_
  refine kd_mr1 (i := 48) hx hb hK hP hD hS (kd_ix_n (j := 48) (by omega) (by omega)) rfl dX1_init_319 (fun H locs hP hD hS => ?_)
  refine lv_dup hx hb dX1_init_320 rfl ?_
  refine lv_bipush (v := 49) hx hb dX1_init_321 (by decide) ?_
  refine lv_bipush (v := 9) hx hb dX1_init_323 (by decide) ?_
  refine kd_mr1 (i := 49) hx hb hK hP hD hS (kd_ix_n (j := 49) (by omega) (by omega)) rfl dX1_init_325 (fun H locs hP hD hS => ?_)
  refine lv_dup hx hb dX1_init_326 rfl ?_
  refine lv_bipush (v := 50) hx hb dX1_init_327 (by decide) ?_
  refine lv_iconst (v := 3) hx hb dX1_init_329 (by decide) ?_
  refine kd_mr1 (i := 50) hx hb hK hP hD hS (kd_ix_n (j := 50) (by omega) (by omega)) rfl dX1_init_330 (fun H locs hP hD hS => ?_)
  refine lv_dup hx hb dX1_init_331 rfl ?_
  refine lv_bipush (v := 51) hx hb dX1_init_332 (by decide) ?_
  refine lv_iconst (v := 1) hx hb dX1_init_334 (by decide) ?_
  refine kd_mr1 (i := 51) hx hb hK hP hD hS (kd_ix_n (j := 51) (by omega) (by omega)) rfl dX1_init_335 (fun H locs hP hD hS => ?_)
  refine lv_dup hx hb dX1_init_336 rfl ?_
  refine lv_bipush (v := 52) hx hb dX1_init_337 (by decide) ?_
  refine lv_bipush (v := 13) hx hb dX1_init_339 (by decide) ?_
  refine kd_mr1 (i := 52) hx hb hK hP hD hS (kd_ix_n (j := 52) (by omega) (by omega)) rfl dX1_init_341 (fun H locs hP hD hS => ?_)
  refine lv_dup hx hb dX1_init_342 rfl ?_
  refine lv_bipush (v := 53) hx hb dX1_init_343 (by decide) ?_
  refine lv_bipush (v := 12) hx hb dX1_init_345 (by decide) ?_
  refine kd_mr1 (i := 53) hx hb hK hP hD hS (kd_ix_n (j := 53) (by omega) (by omega)) rfl dX1_init_347 (fun H locs hP hD hS => ?_)
  refine lv_dup hx hb dX1_init_348 rfl ?_
  refine lv_bipush (v := 54) hx hb dX1_init_349 (by decide) ?_
  refine lv_bipush (v := 11) hx hb dX1_init_351 (by decide) ?_
  refine kd_mr1 (i := 54) hx hb hK hP hD hS (kd_ix_n (j := 54) (by omega) (by omega)) rfl dX1_init_353 (fun H locs hP hD hS => ?_)
  refine lv_dup hx hb dX1_init_354 rfl ?_
  refine lv_bipush (v := 55) hx hb dX1_init_355 (by decide) ?_
  refine lv_bipush (v := 14) hx hb dX1_init_357 (by decide) ?_
  refine kd_mr1 (i := 55) hx hb hK hP hD hS (kd_ix_n (j := 55) (by omega) (by omega)) rfl dX1_init_359 (fun H locs hP hD hS => ?_)
  refine lv_dup hx hb dX1_init_360 rfl ?_
  refine lv_bipush (v := 56) hx hb dX1_init_361 (by decide) ?_
  refine lv_iconst (v := 2) hx hb dX1_init_363 (by decide) ?_
  refine kd_mr1 (i := 56) hx hb hK hP hD hS (kd_ix_n (j := 56) (by omega) (by omega)) rfl dX1_init_364 (fun H locs hP hD hS => ?_)
  refine lv_dup hx hb dX1_init_365 rfl ?_
  refine lv_bipush (v := 57) hx hb dX1_init_366 (by decide) ?_
  refine lv_bipush (v := 6) hx hb dX1_init_368 (by decide) ?_
  refine kd_mr1 (i := 57) hx hb hK hP hD hS (kd_ix_n (j := 57) (by omega) (by omega)) rfl dX1_init_370 (fun H locs hP hD hS => ?_)
  refine lv_dup hx hb dX1_init_371 rfl ?_
  refine lv_bipush (v := 58) hx hb dX1_init_372 (by decide) ?_
  refine lv_iconst (v := 5) hx hb dX1_init_374 (by decide) ?_
  refine kd_mr1 (i := 58) hx hb hK hP hD hS (kd_ix_n (j := 58) (by omega) (by omega)) rfl dX1_init_375 (fun H locs hP hD hS => ?_)
  refine lv_dup hx hb dX1_init_376 rfl ?_
  refine lv_bipush (v := 59) hx hb dX1_init_377 (by decide) ?_
  refine lv_bipush (v := 10) hx hb dX1_init_379 (by decide) ?_
  refine kd_mr1 (i := 59) hx hb hK hP hD hS (kd_ix_n (j := 59) (by omega) (by omega)) rfl dX1_init_381 (fun H locs hP hD hS => ?_)
  refine lv_dup hx hb dX1_init_382 rfl ?_
  refine lv_bipush (v := 60) hx hb dX1_init_383 (by decide) ?_
  refine lv_iconst (v := 4) hx hb dX1_init_385 (by decide) ?_
  refine kd_mr1 (i := 60) hx hb hK hP hD hS (kd_ix_n (j := 60) (by omega) (by omega)) rfl dX1_init_386 (fun H locs hP hD hS => ?_)
  refine lv_dup hx hb dX1_init_387 rfl ?_
  refine lv_bipush (v := 61) hx hb dX1_init_388 (by decide) ?_
  refine lv_iconst (v := 0) hx hb dX1_init_390 (by decide) ?_
  refine kd_mr1 (i := 61) hx hb hK hP hD hS (kd_ix_n (j := 61) (by omega) (by omega)) rfl dX1_init_391 (fun H locs hP hD hS => ?_)
  refine lv_dup hx hb dX1_init_392 rfl ?_
  refine lv_bipush (v := 62) hx hb dX1_init_393 (by decide) ?_
  refine lv_bipush (v := 15) hx hb dX1_init_395 (by decide) ?_
  refine kd_mr1 (i := 62) hx hb hK hP hD hS (kd_ix_n (j := 62) (by omega) (by omega)) rfl dX1_init_397 (fun H locs hP hD hS => ?_)
  refine lv_dup hx hb dX1_init_398 rfl ?_
  refine lv_bipush (v := 63) hx hb dX1_init_399 (by decide) ?_
  refine lv_bipush (v := 8) hx hb dX1_init_401 (by decide) ?_
  refine kd_mr1 (i := 63) hx hb hK hP hD hS (kd_ix_n (j := 63) (by omega) (by omega)) rfl dX1_init_403 (fun H locs hP hD hS => ?_)
  exact kx H locs hP hD hS
set_option maxHeartbeats 4000000 in
theorem kd_Mr4 {H : Heap} {locs : List Loc} {ls : Array Slot} (hx : p.tables.exec = Jvm.exec) (hb : c.code = cX1_init) (hK : va_K D vwCl (tyL cB cI) s) (hP : va_P D vwCl (mwp o b1 b2 b3 b4 b5 b6 cI (kd_rf 64)) H) (hD : va_D A (mwp o b1 b2 b3 b4 b5 b6 cI (kd_rf 64))) (hS : va_S A H0 H locs)
    (kx : ∀ (H : Heap) (locs : List Loc), va_P D vwCl (mwp o b1 b2 b3 b4 b5 b6 cI (kd_rf 80)) H → va_D A (mwp o b1 b2 b3 b4 b5 b6 cI (kd_rf 80)) → va_S A H0 H locs → W p l e R s m args below meth c H locs cells slots Q (F0 m 494 ls [.ref b6, .ref o])) : W p l e R s m args below meth c H locs cells slots Q (F0 m 404 ls [.ref b6, .ref o]) := by
  refine lv_dup hx hb dX1_init_404 rfl ?_
  refine lv_bipush (v := 64) hx hb dX1_init_405 (by decide) ?_
  refine lv_bipush (v := 9) hx hb dX1_init_407 (by decide) ?_
  refine kd_mr1 (i := 64) hx hb hK hP hD hS (kd_ix_n (j := 64) (by omega) (by omega)) rfl dX1_init_409 (fun H locs hP hD hS => ?_)
  refine lv_dup hx hb dX1_init_410 rfl ?_
  refine lv_bipush (v := 65) hx hb dX1_init_411 (by decide) ?_
  refine lv_iconst (v := 0) hx hb dX1_init_413 (by decide) ?_
  refine kd_mr1 (i := 65) hx hb hK hP hD hS (kd_ix_n (j := 65) (by omega) (by omega)) rfl dX1_init_414 (fun H locs hP hD hS => ?_)
  refine lv_dup hx hb dX1_init_415 rfl ?_
  refine lv_bipush (v := 66) hx hb dX1_init_416 (by decide) ?_
  refine lv_iconst (v := 5) hx hb dX1_init_418 (by decide) ?_
  refine kd_mr1 (i := 66) hx hb hK hP hD hS (kd_ix_n (j := 66) (by omega) (by omega)) rfl dX1_init_419 (fun H locs hP hD hS => ?_)
  refine lv_dup hx hb dX1_init_420 rfl ?_
  refine lv_bipush (v := 67) hx hb dX1_init_421 (by decide) ?_
  refine lv_bipush (v := 7) hx hb dX1_init_423 (by decide) ?_
  refine kd_mr1 (i := 67) hx hb hK hP hD hS (kd_ix_n (j := 67) (by omega) (by omega)) rfl dX1_init_425 (fun H locs hP hD hS => ?_)
  refine lv_dup hx hb dX1_init_426 rfl ?_
  refine lv_bipush (v := 68) hx hb dX1_init_427 (by decide) ?_
  refine lv_iconst (v := 2) hx hb dX1_init_429 (by decide) ?_
  refine kd_mr1 (i := 68) hx hb hK hP hD hS (kd_ix_n (j := 68) (by omega) (by omega)) rfl dX1_init_430 (fun H locs hP hD hS => ?_)
  refine lv_dup hx hb dX1_init_431 rfl ?_
  refine lv_bipush (v := 69) hx hb dX1_init_432 (by decide) ?_
  refine lv_iconst (v := 4) hx hb dX1_init_434 (by decide) ?_
  refine kd_mr1 (i := 69) hx hb hK hP hD hS (kd_ix_n (j := 69) (by omega) (by omega)) rfl dX1_init_435 (fun H locs hP hD hS => ?_)
  refine lv_dup hx hb dX1_init_436 rfl ?_
  refine lv_bipush (v := 70) hx hb dX1_init_437 (by decide) ?_
  refine lv_bipush (v := 10) hx hb dX1_init_439 (by decide) ?_
  refine kd_mr1 (i := 70) hx hb hK hP hD hS (kd_ix_n (j := 70) (by omega) (by omega)) rfl dX1_init_441 (fun H locs hP hD hS => ?_)
  refine lv_dup hx hb dX1_init_442 rfl ?_
  refine lv_bipush (v := 71) hx hb dX1_init_443 (by decide) ?_
  refine lv_bipush (v := 15) hx hb dX1_init_445 (by decide) ?_
  refine kd_mr1 (i := 71) hx hb hK hP hD hS (kd_ix_n (j := 71) (by omega) (by omega)) rfl dX1_init_447 (fun H locs hP hD hS => ?_)
  refine lv_dup hx hb dX1_init_448 rfl ?_
  refine lv_bipush (v := 72) hx hb dX1_init_449 (by decide) ?_
  refine lv_bipush (v := 14) hx hb dX1_init_451 (by decide) ?_
  refine kd_mr1 (i := 72) hx hb hK hP hD hS (kd_ix_n (j := 72) (by omega) (by omega)) rfl dX1_init_453 (fun H locs hP hD hS => ?_)
  refine lv_dup hx hb dX1_init_454 rfl ?_
  refine lv_bipush (v := 73) hx hb dX1_init_455 (by decide) ?_
  refine lv_iconst (v := 1) hx hb dX1_init_457 (by decide) ?_
  refine kd_mr1 (i := 73) hx hb hK hP hD hS (kd_ix_n (j := 73) (by omega) (by omega)) rfl dX1_init_458 (fun H locs hP hD hS => ?_)
  refine lv_dup hx hb dX1_init_459 rfl ?_
  refine lv_bipush (v := 74) hx hb dX1_init_460 (by decide) ?_
  refine lv_bipush (v := 11) hx hb dX1_init_462 (by decide) ?_
  refine kd_mr1 (i := 74) hx hb hK hP hD hS (kd_ix_n (j := 74) (by omega) (by omega)) rfl dX1_init_464 (fun H locs hP hD hS => ?_)
  refine lv_dup hx hb dX1_init_465 rfl ?_
  refine lv_bipush (v := 75) hx hb dX1_init_466 (by decide) ?_
  refine lv_bipush (v := 12) hx hb dX1_init_468 (by decide) ?_
  refine kd_mr1 (i := 75) hx hb hK hP hD hS (kd_ix_n (j := 75) (by omega) (by omega)) rfl dX1_init_470 (fun H locs hP hD hS => ?_)
  refine lv_dup hx hb dX1_init_471 rfl ?_
  refine lv_bipush (v := 76) hx hb dX1_init_472 (by decide) ?_
  refine lv_bipush (v := 6) hx hb dX1_init_474 (by decide) ?_
  refine kd_mr1 (i := 76) hx hb hK hP hD hS (kd_ix_n (j := 76) (by omega) (by omega)) rfl dX1_init_476 (fun H locs hP hD hS => ?_)
  refine lv_dup hx hb dX1_init_477 rfl ?_
  refine lv_bipush (v := 77) hx hb dX1_init_478 (by decide) ?_
  refine lv_bipush (v := 8) hx hb dX1_init_480 (by decide) ?_
  refine kd_mr1 (i := 77) hx hb hK hP hD hS (kd_ix_n (j := 77) (by omega) (by omega)) rfl dX1_init_482 (fun H locs hP hD hS => ?_)
  refine lv_dup hx hb dX1_init_483 rfl ?_
  refine lv_bipush (v := 78) hx hb dX1_init_484 (by decide) ?_
  refine lv_iconst (v := 3) hx hb dX1_init_486 (by decide) ?_
  refine kd_mr1 (i := 78) hx hb hK hP hD hS (kd_ix_n (j := 78) (by omega) (by omega)) rfl dX1_init_487 (fun H locs hP hD hS => ?_)
  refine lv_dup hx hb dX1_init_488 rfl ?_
  refine lv_bipush (v := 79) hx hb dX1_init_489 (by decide) ?_
  refine lv_bipush (v := 13) hx hb dX1_init_491 (by decide) ?_
  refine kd_mr1 (i := 79) hx hb hK hP hD hS (kd_ix_n (j := 79) (by omega) (by omega)) rfl dX1_init_493 (fun H locs hP hD hS => ?_)
  exact kx H locs hP hD hS
set_option maxHeartbeats 4000000 in
theorem kd_Mr5 {H : Heap} {locs : List Loc} {ls : Array Slot} (hx : p.tables.exec = Jvm.exec) (hb : c.code = cX1_init) (hK : va_K D vwCl (tyL cB cI) s) (hP : va_P D vwCl (mwp o b1 b2 b3 b4 b5 b6 cI (kd_rf 80)) H) (hD : va_D A (mwp o b1 b2 b3 b4 b5 b6 cI (kd_rf 80))) (hS : va_S A H0 H locs)
    (kx : ∀ (H : Heap) (locs : List Loc), va_P D vwCl (mwp o b1 b2 b3 b4 b5 b6 cI (kd_rf 96)) H → va_D A (mwp o b1 b2 b3 b4 b5 b6 cI (kd_rf 96)) → va_S A H0 H locs → W p l e R s m args below meth c H locs cells slots Q (F0 m 584 ls [.ref b6, .ref o])) : W p l e R s m args below meth c H locs cells slots Q (F0 m 494 ls [.ref b6, .ref o]) := by
  refine lv_dup hx hb dX1_init_494 rfl ?_
  refine lv_bipush (v := 80) hx hb dX1_init_495 (by decide) ?_
  refine lv_iconst (v := 2) hx hb dX1_init_497 (by decide) ?_
  refine kd_mr1 (i := 80) hx hb hK hP hD hS (kd_ix_n (j := 80) (by omega) (by omega)) rfl dX1_init_498 (fun H locs hP hD hS => ?_)
  refine lv_dup hx hb dX1_init_499 rfl ?_
  refine lv_bipush (v := 81) hx hb dX1_init_500 (by decide) ?_
  refine lv_bipush (v := 12) hx hb dX1_init_502 (by decide) ?_
  refine kd_mr1 (i := 81) hx hb hK hP hD hS (kd_ix_n (j := 81) (by omega) (by omega)) rfl dX1_init_504 (fun H locs hP hD hS => ?_)
  refine lv_dup hx hb dX1_init_505 rfl ?_
  refine lv_bipush (v := 82) hx hb dX1_init_506 (by decide) ?_
  refine lv_bipush (v := 6) hx hb dX1_init_508 (by decide) ?_
  refine kd_mr1 (i := 82) hx hb hK hP hD hS (kd_ix_n (j := 82) (by omega) (by omega)) rfl dX1_init_510 (fun H locs hP hD hS => ?_)
  refine lv_dup hx hb dX1_init_511 rfl ?_
  refine lv_bipush (v := 83) hx hb dX1_init_512 (by decide) ?_
  refine lv_bipush (v := 10) hx hb dX1_init_514 (by decide) ?_
  refine kd_mr1 (i := 83) hx hb hK hP hD hS (kd_ix_n (j := 83) (by omega) (by omega)) rfl dX1_init_516 (fun H locs hP hD hS => ?_)
  refine lv_dup hx hb dX1_init_517 rfl ?_
  refine lv_bipush (v := 84) hx hb dX1_init_518 (by decide) ?_
  refine lv_iconst (v := 0) hx hb dX1_init_520 (by decide) ?_
  refine kd_mr1 (i := 84) hx hb hK hP hD hS (kd_ix_n (j := 84) (by omega) (by omega)) rfl dX1_init_521 (fun H locs hP hD hS => ?_)
  refine lv_dup hx hb dX1_init_522 rfl ?_
  refine lv_bipush (v := 85) hx hb dX1_init_523 (by decide) ?_
  refine lv_bipush (v := 11) hx hb dX1_init_525 (by decide) ?_
  refine kd_mr1 (i := 85) hx hb hK hP hD hS (kd_ix_n (j := 85) (by omega) (by omega)) rfl dX1_init_527 (fun H locs hP hD hS => ?_)
  refine lv_dup hx hb dX1_init_528 rfl ?_
  refine lv_bipush (v := 86) hx hb dX1_init_529 (by decide) ?_
  refine lv_bipush (v := 8) hx hb dX1_init_531 (by decide) ?_
  refine kd_mr1 (i := 86) hx hb hK hP hD hS (kd_ix_n (j := 86) (by omega) (by omega)) rfl dX1_init_533 (fun H locs hP hD hS => ?_)
  refine lv_dup hx hb dX1_init_534 rfl ?_
  refine lv_bipush (v := 87) hx hb dX1_init_535 (by decide) ?_
  refine lv_iconst (v := 3) hx hb dX1_init_537 (by decide) ?_
  refine kd_mr1 (i := 87) hx hb hK hP hD hS (kd_ix_n (j := 87) (by omega) (by omega)) rfl dX1_init_538 (fun H locs hP hD hS => ?_)
  refine lv_dup hx hb dX1_init_539 rfl ?_
  refine lv_bipush (v := 88) hx hb dX1_init_540 (by decide) ?_
  refine lv_iconst (v := 4) hx hb dX1_init_542 (by decide) ?_
  refine kd_mr1 (i := 88) hx hb hK hP hD hS (kd_ix_n (j := 88) (by omega) (by omega)) rfl dX1_init_543 (fun H locs hP hD hS => ?_)
  refine lv_dup hx hb dX1_init_544 rfl ?_
  refine lv_bipush (v := 89) hx hb dX1_init_545 (by decide) ?_
  refine lv_bipush (v := 13) hx hb dX1_init_547 (by decide) ?_
  refine kd_mr1 (i := 89) hx hb hK hP hD hS (kd_ix_n (j := 89) (by omega) (by omega)) rfl dX1_init_549 (fun H locs hP hD hS => ?_)
  refine lv_dup hx hb dX1_init_550 rfl ?_
  refine lv_bipush (v := 90) hx hb dX1_init_551 (by decide) ?_
  refine lv_bipush (v := 7) hx hb dX1_init_553 (by decide) ?_
  refine kd_mr1 (i := 90) hx hb hK hP hD hS (kd_ix_n (j := 90) (by omega) (by omega)) rfl dX1_init_555 (fun H locs hP hD hS => ?_)
  refine lv_dup hx hb dX1_init_556 rfl ?_
  refine lv_bipush (v := 91) hx hb dX1_init_557 (by decide) ?_
  refine lv_iconst (v := 5) hx hb dX1_init_559 (by decide) ?_
  refine kd_mr1 (i := 91) hx hb hK hP hD hS (kd_ix_n (j := 91) (by omega) (by omega)) rfl dX1_init_560 (fun H locs hP hD hS => ?_)
  refine lv_dup hx hb dX1_init_561 rfl ?_
  refine lv_bipush (v := 92) hx hb dX1_init_562 (by decide) ?_
  refine lv_bipush (v := 15) hx hb dX1_init_564 (by decide) ?_
  refine kd_mr1 (i := 92) hx hb hK hP hD hS (kd_ix_n (j := 92) (by omega) (by omega)) rfl dX1_init_566 (fun H locs hP hD hS => ?_)
  refine lv_dup hx hb dX1_init_567 rfl ?_
  refine lv_bipush (v := 93) hx hb dX1_init_568 (by decide) ?_
  refine lv_bipush (v := 14) hx hb dX1_init_570 (by decide) ?_
  refine kd_mr1 (i := 93) hx hb hK hP hD hS (kd_ix_n (j := 93) (by omega) (by omega)) rfl dX1_init_572 (fun H locs hP hD hS => ?_)
  refine lv_dup hx hb dX1_init_573 rfl ?_
  refine lv_bipush (v := 94) hx hb dX1_init_574 (by decide) ?_
  refine lv_iconst (v := 1) hx hb dX1_init_576 (by decide) ?_
  refine kd_mr1 (i := 94) hx hb hK hP hD hS (kd_ix_n (j := 94) (by omega) (by omega)) rfl dX1_init_577 (fun H locs hP hD hS => ?_)
  refine lv_dup hx hb dX1_init_578 rfl ?_
  refine lv_bipush (v := 95) hx hb dX1_init_579 (by decide) ?_
  refine lv_bipush (v := 9) hx hb dX1_init_581 (by decide) ?_
  refine kd_mr1 (i := 95) hx hb hK hP hD hS (kd_ix_n (j := 95) (by omega) (by omega)) rfl dX1_init_583 (fun H locs hP hD hS => ?_)
  exact kx H locs hP hD hS
set_option maxHeartbeats 4000000 in
theorem kd_Mr6 {H : Heap} {locs : List Loc} {ls : Array Slot} (hx : p.tables.exec = Jvm.exec) (hb : c.code = cX1_init) (hK : va_K D vwCl (tyL cB cI) s) (hP : va_P D vwCl (mwp o b1 b2 b3 b4 b5 b6 cI (kd_rf 96)) H) (hD : va_D A (mwp o b1 b2 b3 b4 b5 b6 cI (kd_rf 96))) (hS : va_S A H0 H locs)
    (kx : ∀ (H : Heap) (locs : List Loc), va_P D vwCl (mwp o b1 b2 b3 b4 b5 b6 cI (kd_rf 112)) H → va_D A (mwp o b1 b2 b3 b4 b5 b6 cI (kd_rf 112)) → va_S A H0 H locs → W p l e R s m args below meth c H locs cells slots Q (F0 m 674 ls [.ref b6, .ref o])) : W p l e R s m args below meth c H locs cells slots Q (F0 m 584 ls [.ref b6, .ref o]) := by
  refine lv_dup hx hb dX1_init_584 rfl ?_
  refine lv_bipush (v := 96) hx hb dX1_init_585 (by decide) ?_
  refine lv_bipush (v := 12) hx hb dX1_init_587 (by decide) ?_
  refine kd_mr1 (i := 96) hx hb hK hP hD hS (kd_ix_n (j := 96) (by omega) (by omega)) rfl dX1_init_589 (fun H locs hP hD hS => ?_)
  refine lv_dup hx hb dX1_init_590 rfl ?_
  refine lv_bipush (v := 97) hx hb dX1_init_591 (by decide) ?_
  refine lv_iconst (v := 5) hx hb dX1_init_593 (by decide) ?_
  refine kd_mr1 (i := 97) hx hb hK hP hD hS (kd_ix_n (j := 97) (by omega) (by omega)) rfl dX1_init_594 (fun H locs hP hD hS => ?_)
  refine lv_dup hx hb dX1_init_595 rfl ?_
  refine lv_bipush (v := 98) hx hb dX1_init_596 (by decide) ?_
  refine lv_iconst (v := 1) hx hb dX1_init_598 (by decide) ?_
  refine kd_mr1 (i := 98) hx hb hK hP hD hS (kd_ix_n (j := 98) (by omega) (by omega)) rfl dX1_init_599 (fun H locs hP hD hS => ?_)
  refine lv_dup hx hb dX1_init_600 rfl ?_
  refine lv_bipush (v := 99) hx hb dX1_init_601 (by decide) ?_
  refine lv_bipush (v := 15) hx hb dX1_init_603 (by decide) ?_
  refine kd_mr1 (i := 99) hx hb hK hP hD hS (kd_ix_n (j := 99) (by omega) (by omega)) rfl dX1_init_605 (fun H locs hP hD hS => ?_)
  refine lv_dup hx hb dX1_init_606 rfl ?_
  refine lv_bipush (v := 100) hx hb dX1_init_607 (by decide) ?_
  refine lv_bipush (v := 14) hx hb dX1_init_609 (by decide) ?_
  refine kd_mr1 (i := 100) hx hb hK hP hD hS (kd_ix_n (j := 100) (by omega) (by omega)) rfl dX1_init_611 (fun H locs hP hD hS => ?_)
  refine lv_dup hx hb dX1_init_612 rfl ?_
  refine lv_bipush (v := 101) hx hb dX1_init_613 (by decide) ?_
  refine lv_bipush (v := 13) hx hb dX1_init_615 (by decide) ?_
  refine kd_mr1 (i := 101) hx hb hK hP hD hS (kd_ix_n (j := 101) (by omega) (by omega)) rfl dX1_init_617 (fun H locs hP hD hS => ?_)
  refine lv_dup hx hb dX1_init_618 rfl ?_
  refine lv_bipush (v := 102) hx hb dX1_init_619 (by decide) ?_
  refine lv_iconst (v := 4) hx hb dX1_init_621 (by decide) ?_
  refine kd_mr1 (i := 102) hx hb hK hP hD hS (kd_ix_n (j := 102) (by omega) (by omega)) rfl dX1_init_622 (fun H locs hP hD hS => ?_)
  refine lv_dup hx hb dX1_init_623 rfl ?_
  refine lv_bipush (v := 103) hx hb dX1_init_624 (by decide) ?_
  refine lv_bipush (v := 10) hx hb dX1_init_626 (by decide) ?_
  refine kd_mr1 (i := 103) hx hb hK hP hD hS (kd_ix_n (j := 103) (by omega) (by omega)) rfl dX1_init_628 (fun H locs hP hD hS => ?_)
  refine lv_dup hx hb dX1_init_629 rfl ?_
  refine lv_bipush (v := 104) hx hb dX1_init_630 (by decide) ?_
  refine lv_iconst (v := 0) hx hb dX1_init_632 (by decide) ?_
  refine kd_mr1 (i := 104) hx hb hK hP hD hS (kd_ix_n (j := 104) (by omega) (by omega)) rfl dX1_init_633 (fun H locs hP hD hS => ?_)
  refine lv_dup hx hb dX1_init_634 rfl ?_
  refine lv_bipush (v := 105) hx hb dX1_init_635 (by decide) ?_
  refine lv_bipush (v := 7) hx hb dX1_init_637 (by decide) ?_
  refine kd_mr1 (i := 105) hx hb hK hP hD hS (kd_ix_n (j := 105) (by omega) (by omega)) rfl dX1_init_639 (fun H locs hP hD hS => ?_)
  refine lv_dup hx hb dX1_init_640 rfl ?_
  refine lv_bipush (v := 106) hx hb dX1_init_641 (by decide) ?_
  refine lv_bipush (v := 6) hx hb dX1_init_643 (by decide) ?_
  refine kd_mr1 (i := 106) hx hb hK hP hD hS (kd_ix_n (j := 106) (by omega) (by omega)) rfl dX1_init_645 (fun H locs hP hD hS => ?_)
  refine lv_dup hx hb dX1_init_646 rfl ?_
  refine lv_bipush (v := 107) hx hb dX1_init_647 (by decide) ?_
  refine lv_iconst (v := 3) hx hb dX1_init_649 (by decide) ?_
  refine kd_mr1 (i := 107) hx hb hK hP hD hS (kd_ix_n (j := 107) (by omega) (by omega)) rfl dX1_init_650 (fun H locs hP hD hS => ?_)
  refine lv_dup hx hb dX1_init_651 rfl ?_
  refine lv_bipush (v := 108) hx hb dX1_init_652 (by decide) ?_
  refine lv_bipush (v := 9) hx hb dX1_init_654 (by decide) ?_
  refine kd_mr1 (i := 108) hx hb hK hP hD hS (kd_ix_n (j := 108) (by omega) (by omega)) rfl dX1_init_656 (fun H locs hP hD hS => ?_)
  refine lv_dup hx hb dX1_init_657 rfl ?_
  refine lv_bipush (v := 109) hx hb dX1_init_658 (by decide) ?_
  refine lv_iconst (v := 2) hx hb dX1_init_660 (by decide) ?_
  refine kd_mr1 (i := 109) hx hb hK hP hD hS (kd_ix_n (j := 109) (by omega) (by omega)) rfl dX1_init_661 (fun H locs hP hD hS => ?_)
  refine lv_dup hx hb dX1_init_662 rfl ?_
  refine lv_bipush (v := 110) hx hb dX1_init_663 (by decide) ?_
  refine lv_bipush (v := 8) hx hb dX1_init_665 (by decide) ?_
  refine kd_mr1 (i := 110) hx hb hK hP hD hS (kd_ix_n (j := 110) (by omega) (by omega)) rfl dX1_init_667 (fun H locs hP hD hS => ?_)
  refine lv_dup hx hb dX1_init_668 rfl ?_
  refine lv_bipush (v := 111) hx hb dX1_init_669 (by decide) ?_
  refine lv_bipush (v := 11) hx hb dX1_init_671 (by decide) ?_
  refine kd_mr1 (i := 111) hx hb hK hP hD hS (kd_ix_n (j := 111) (by omega) (by omega)) rfl dX1_init_673 (fun H locs hP hD hS => ?_)
  exact kx H locs hP hD hS
set_option maxHeartbeats 4000000 in
theorem kd_Mr7 {H : Heap} {locs : List Loc} {ls : Array Slot} (hx : p.tables.exec = Jvm.exec) (hb : c.code = cX1_init) (hK : va_K D vwCl (tyL cB cI) s) (hP : va_P D vwCl (mwp o b1 b2 b3 b4 b5 b6 cI (kd_rf 112)) H) (hD : va_D A (mwp o b1 b2 b3 b4 b5 b6 cI (kd_rf 112))) (hS : va_S A H0 H locs)
    (kx : ∀ (H : Heap) (locs : List Loc), va_P D vwCl (mwp o b1 b2 b3 b4 b5 b6 cI (kd_rf 128)) H → va_D A (mwp o b1 b2 b3 b4 b5 b6 cI (kd_rf 128)) → va_S A H0 H locs → W p l e R s m args below meth c H locs cells slots Q (F0 m 764 ls [.ref b6, .ref o])) : W p l e R s m args below meth c H locs cells slots Q (F0 m 674 ls [.ref b6, .ref o]) := by
  refine lv_dup hx hb dX1_init_674 rfl ?_
  refine lv_bipush (v := 112) hx hb dX1_init_675 (by decide) ?_
  refine lv_bipush (v := 13) hx hb dX1_init_677 (by decide) ?_
  refine kd_mr1 (i := 112) hx hb hK hP hD hS (kd_ix_n (j := 112) (by omega) (by omega)) rfl dX1_init_679 (fun H locs hP hD hS => ?_)
  refine lv_dup hx hb dX1_init_680 rfl ?_
  refine lv_bipush (v := 113) hx hb dX1_init_681 (by decide) ?_
  refine lv_bipush (v := 11) hx hb dX1_init_683 (by decide) ?_
  refine kd_mr1 (i := 113) hx hb hK hP hD hS (kd_ix_n (j := 113) (by omega) (by omega)) rfl dX1_init_685 (fun H locs hP hD hS => ?_)
  refine lv_dup hx hb dX1_init_686 rfl ?_
  refine lv_bipush (v := 114) hx hb dX1_init_687 (by decide) ?_
  refine lv_bipush (v := 7) hx hb dX1_init_689 (by decide) ?_
  refine kd_mr1 (i := 114) hx hb hK hP hD hS (kd_ix_n (j := 114) (by omega) (by omega)) rfl dX1_init_691 (fun H locs hP hD hS => ?_)
  refine lv_dup hx hb dX1_init_692 rfl ?_
  refine lv_bipush (v := 115) hx hb dX1_init_693 (by decide) ?_
  refine lv_bipush (v := 14) hx hb dX1_init_695 (by decide) ?_
  refine kd_mr1 (i := 115) hx hb hK hP hD hS (kd_ix_n (j := 115) (by omega) (by omega)) rfl dX1_init_697 (fun H locs hP hD hS => ?_)
  refine lv_dup hx hb dX1_init_698 rfl ?_
  refine lv_bipush (v := 116) hx hb dX1_init_699 (by decide) ?_
  refine lv_bipush (v := 12) hx hb dX1_init_701 (by decide) ?_
  refine kd_mr1 (i := 116) hx hb hK hP hD hS (kd_ix_n (j := 116) (by omega) (by omega)) rfl dX1_init_703 (fun H locs hP hD hS => ?_)
  refine lv_dup hx hb dX1_init_704 rfl ?_
  refine lv_bipush (v := 117) hx hb dX1_init_705 (by decide) ?_
  refine lv_iconst (v := 1) hx hb dX1_init_707 (by decide) ?_
  refine kd_mr1 (i := 117) hx hb hK hP hD hS (kd_ix_n (j := 117) (by omega) (by omega)) rfl dX1_init_708 (fun H locs hP hD hS => ?_)
  refine lv_dup hx hb dX1_init_709 rfl ?_
  refine lv_bipush (v := 118) hx hb dX1_init_710 (by decide) ?_
  refine lv_iconst (v := 3) hx hb dX1_init_712 (by decide) ?_
  refine kd_mr1 (i := 118) hx hb hK hP hD hS (kd_ix_n (j := 118) (by omega) (by omega)) rfl dX1_init_713 (fun H locs hP hD hS => ?_)
  refine lv_dup hx hb dX1_init_714 rfl ?_
  refine lv_bipush (v := 119) hx hb dX1_init_715 (by decide) ?_
  refine lv_bipush (v := 9) hx hb dX1_init_717 (by decide) ?_
  refine kd_mr1 (i := 119) hx hb hK hP hD hS (kd_ix_n (j := 119) (by omega) (by omega)) rfl dX1_init_719 (fun H locs hP hD hS => ?_)
  refine lv_dup hx hb dX1_init_720 rfl ?_
  refine lv_bipush (v := 120) hx hb dX1_init_721 (by decide) ?_
  refine lv_iconst (v := 5) hx hb dX1_init_723 (by decide) ?_
  refine kd_mr1 (i := 120) hx hb hK hP hD hS (kd_ix_n (j := 120) (by omega) (by omega)) rfl dX1_init_724 (fun H locs hP hD hS => ?_)
  refine lv_dup hx hb dX1_init_725 rfl ?_
  refine lv_bipush (v := 121) hx hb dX1_init_726 (by decide) ?_
  refine lv_iconst (v := 0) hx hb dX1_init_728 (by decide) ?_
  refine kd_mr1 (i := 121) hx hb hK hP hD hS (kd_ix_n (j := 121) (by omega) (by omega)) rfl dX1_init_729 (fun H locs hP hD hS => ?_)
  refine lv_dup hx hb dX1_init_730 rfl ?_
  refine lv_bipush (v := 122) hx hb dX1_init_731 (by decide) ?_
  refine lv_bipush (v := 15) hx hb dX1_init_733 (by decide) ?_
  refine kd_mr1 (i := 122) hx hb hK hP hD hS (kd_ix_n (j := 122) (by omega) (by omega)) rfl dX1_init_735 (fun H locs hP hD hS => ?_)
  refine lv_dup hx hb dX1_init_736 rfl ?_
  refine lv_bipush (v := 123) hx hb dX1_init_737 (by decide) ?_
  refine lv_iconst (v := 4) hx hb dX1_init_739 (by decide) ?_
  refine kd_mr1 (i := 123) hx hb hK hP hD hS (kd_ix_n (j := 123) (by omega) (by omega)) rfl dX1_init_740 (fun H locs hP hD hS => ?_)
  refine lv_dup hx hb dX1_init_741 rfl ?_
  refine lv_bipush (v := 124) hx hb dX1_init_742 (by decide) ?_
  refine lv_bipush (v := 8) hx hb dX1_init_744 (by decide) ?_
  refine kd_mr1 (i := 124) hx hb hK hP hD hS (kd_ix_n (j := 124) (by omega) (by omega)) rfl dX1_init_746 (fun H locs hP hD hS => ?_)
  refine lv_dup hx hb dX1_init_747 rfl ?_
  refine lv_bipush (v := 125) hx hb dX1_init_748 (by decide) ?_
  refine lv_bipush (v := 6) hx hb dX1_init_750 (by decide) ?_
  refine kd_mr1 (i := 125) hx hb hK hP hD hS (kd_ix_n (j := 125) (by omega) (by omega)) rfl dX1_init_752 (fun H locs hP hD hS => ?_)
  refine lv_dup hx hb dX1_init_753 rfl ?_
  refine lv_bipush (v := 126) hx hb dX1_init_754 (by decide) ?_
  refine lv_iconst (v := 2) hx hb dX1_init_756 (by decide) ?_
  refine kd_mr1 (i := 126) hx hb hK hP hD hS (kd_ix_n (j := 126) (by omega) (by omega)) rfl dX1_init_757 (fun H locs hP hD hS => ?_)
  refine lv_dup hx hb dX1_init_758 rfl ?_
  refine lv_bipush (v := 127) hx hb dX1_init_759 (by decide) ?_
  refine lv_bipush (v := 10) hx hb dX1_init_761 (by decide) ?_
  refine kd_mr1 (i := 127) hx hb hK hP hD hS (kd_ix_n (j := 127) (by omega) (by omega)) rfl dX1_init_763 (fun H locs hP hD hS => ?_)
  exact kx H locs hP hD hS
set_option maxHeartbeats 4000000 in
theorem kd_Mr8 {H : Heap} {locs : List Loc} {ls : Array Slot} (hx : p.tables.exec = Jvm.exec) (hb : c.code = cX1_init) (hK : va_K D vwCl (tyL cB cI) s) (hP : va_P D vwCl (mwp o b1 b2 b3 b4 b5 b6 cI (kd_rf 128)) H) (hD : va_D A (mwp o b1 b2 b3 b4 b5 b6 cI (kd_rf 128))) (hS : va_S A H0 H locs)
    (kx : ∀ (H : Heap) (locs : List Loc), va_P D vwCl (mwp o b1 b2 b3 b4 b5 b6 cI (kd_rf 144)) H → va_D A (mwp o b1 b2 b3 b4 b5 b6 cI (kd_rf 144)) → va_S A H0 H locs → W p l e R s m args below meth c H locs cells slots Q (F0 m 870 ls [.ref b6, .ref o])) : W p l e R s m args below meth c H locs cells slots Q (F0 m 764 ls [.ref b6, .ref o]) := by
  refine lv_dup hx hb dX1_init_764 rfl ?_
  refine lv_sipush (v := 128) hx hb dX1_init_765 (by decide) ?_
  refine lv_bipush (v := 6) hx hb dX1_init_768 (by decide) ?_
  refine kd_mr1 (i := 128) hx hb hK hP hD hS (kd_ix_n (j := 128) (by omega) (by omega)) rfl dX1_init_770 (fun H locs hP hD hS => ?_)
  refine lv_dup hx hb dX1_init_771 rfl ?_
  refine lv_sipush (v := 129) hx hb dX1_init_772 (by decide) ?_
  refine lv_bipush (v := 15) hx hb dX1_init_775 (by decide) ?_
  refine kd_mr1 (i := 129) hx hb hK hP hD hS (kd_ix_n (j := 129) (by omega) (by omega)) rfl dX1_init_777 (fun H locs hP hD hS => ?_)
  refine lv_dup hx hb dX1_init_778 rfl ?_
  refine lv_sipush (v := 130) hx hb dX1_init_779 (by decide) ?_
  refine lv_bipush (v := 14) hx hb dX1_init_782 (by decide) ?_
  refine kd_mr1 (i := 130) hx hb hK hP hD hS (kd_ix_n (j := 130) (by omega) (by omega)) rfl dX1_init_784 (fun H locs hP hD hS => ?_)
  refine lv_dup hx hb dX1_init_785 rfl ?_
  refine lv_sipush (v := 131) hx hb dX1_init_786 (by decide) ?_
  refine lv_bipush (v := 9) hx hb dX1_init_789 (by decide) ?_
  refine kd_mr1 (i := 131) hx hb hK hP hD hS (kd_ix_n (j := 131) (by omega) (by omega)) rfl dX1_init_791 (fun H locs hP hD hS => ?_)
  refine lv_dup hx hb dX1_init_792 rfl ?_
  refine lv_sipush (v := 132) hx hb dX1_init_793 (by decide) ?_
  refine lv_bipush (v := 11) hx hb dX1_init_796 (by decide) ?_
  refine kd_mr1 (i := 132) hx hb hK hP hD hS (kd_ix_n (j := 132) (by omega) (by omega)) rfl dX1_init_798 (fun H locs hP hD hS => ?_)
  refine lv_dup hx hb dX1_init_799 rfl ?_
  refine lv_sipush (v := 133) hx hb dX1_init_800 (by decide) ?_
  refine lv_iconst (v := 3) hx hb dX1_init_803 (by decide) ?_
  refine kd_mr1 (i := 133) hx hb hK hP hD hS (kd_ix_n (j := 133) (by omega) (by omega)) rfl dX1_init_804 (fun H locs hP hD hS => ?_)
  refine lv_dup hx hb dX1_init_805 rfl ?_
  refine lv_sipush (v := 134) hx hb dX1_init_806 (by decide) ?_
  refine lv_iconst (v := 0) hx hb dX1_init_809 (by decide) ?_
  refine kd_mr1 (i := 134) hx hb hK hP hD hS (kd_ix_n (j := 134) (by omega) (by omega)) rfl dX1_init_810 (fun H locs hP hD hS => ?_)
  refine lv_dup hx hb dX1_init_811 rfl ?_
  refine lv_sipush (v := 135) hx hb dX1_init_812 (by decide) ?_
  refine lv_bipush (v := 8) hx hb dX1_init_815 (by decide) ?_
  refine kd_mr1 (i := 135) hx hb hK hP hD hS (kd_ix_n (j := 135) (by omega) (by omega)) rfl dX1_init_817 (fun H locs hP hD hS => ?_)
  refine lv_dup hx hb dX1_init_818 rfl ?_
  refine lv_sipush (v := 136) hx hb dX1_init_819 (by decide) ?_
  refine lv_bipush (v := 12) hx hb dX1_init_822 (by decide) ?_
  refine kd_mr1 (i := 136) hx hb hK hP hD hS (kd_ix_n (j := 136) (by omega) (by omega)) rfl dX1_init_824 (fun H locs hP hD hS => ?_)
  refine lv_dup hx hb dX1_init_825 rfl ?_
  refine lv_sipush (v := 137) hx hb dX1_init_826 (by decide) ?_
  refine lv_iconst (v := 2) hx hb dX1_init_829 (by decide) ?_
  refine kd_mr1 (i := 137) hx hb hK hP hD hS (kd_ix_n (j := 137) (by omega) (by omega)) rfl dX1_init_830 (fun H locs hP hD hS => ?_)
  refine lv_dup hx hb dX1_init_831 rfl ?_
  refine lv_sipush (v := 138) hx hb dX1_init_832 (by decide) ?_
  refine lv_bipush (v := 13) hx hb dX1_init_835 (by decide) ?_
  refine kd_mr1 (i := 138) hx hb hK hP hD hS (kd_ix_n (j := 138) (by omega) (by omega)) rfl dX1_init_837 (fun H locs hP hD hS => ?_)
  refine lv_dup hx hb dX1_init_838 rfl ?_
  refine lv_sipush (v := 139) hx hb dX1_init_839 (by decide) ?_
  refine lv_bipush (v := 7) hx hb dX1_init_842 (by decide) ?_
  refine kd_mr1 (i := 139) hx hb hK hP hD hS (kd_ix_n (j := 139) (by omega) (by omega)) rfl dX1_init_844 (fun H locs hP hD hS => ?_)
  refine lv_dup hx hb dX1_init_845 rfl ?_
  refine lv_sipush (v := 140) hx hb dX1_init_846 (by decide) ?_
  refine lv_iconst (v := 1) hx hb dX1_init_849 (by decide) ?_
  refine kd_mr1 (i := 140) hx hb hK hP hD hS (kd_ix_n (j := 140) (by omega) (by omega)) rfl dX1_init_850 (fun H locs hP hD hS => ?_)
  refine lv_dup hx hb dX1_init_851 rfl ?_
  refine lv_sipush (v := 141) hx hb dX1_init_852 (by decide) ?_
  refine lv_iconst (v := 4) hx hb dX1_init_855 (by decide) ?_
  refine kd_mr1 (i := 141) hx hb hK hP hD hS (kd_ix_n (j := 141) (by omega) (by omega)) rfl dX1_init_856 (fun H locs hP hD hS => ?_)
  refine lv_dup hx hb dX1_init_857 rfl ?_
  refine lv_sipush (v := 142) hx hb dX1_init_858 (by decide) ?_
  refine lv_bipush (v := 10) hx hb dX1_init_861 (by decide) ?_
  refine kd_mr1 (i := 142) hx hb hK hP hD hS (kd_ix_n (j := 142) (by omega) (by omega)) rfl dX1_init_863 (fun H locs hP hD hS => ?_)
  refine lv_dup hx hb dX1_init_864 rfl ?_
  refine lv_sipush (v := 143) hx hb dX1_init_865 (by decide) ?_
  refine lv_iconst (v := 5) hx hb dX1_init_868 (by decide) ?_
  refine kd_mr1 (i := 143) hx hb hK hP hD hS (kd_ix_n (j := 143) (by omega) (by omega)) rfl dX1_init_869 (fun H locs hP hD hS => ?_)
  exact kx H locs hP hD hS
set_option maxHeartbeats 4000000 in
theorem kd_Mr9 {H : Heap} {locs : List Loc} {ls : Array Slot} (hx : p.tables.exec = Jvm.exec) (hb : c.code = cX1_init) (hK : va_K D vwCl (tyL cB cI) s) (hP : va_P D vwCl (mwp o b1 b2 b3 b4 b5 b6 cI (kd_rf 144)) H) (hD : va_D A (mwp o b1 b2 b3 b4 b5 b6 cI (kd_rf 144))) (hS : va_S A H0 H locs)
    (kx : ∀ (H : Heap) (locs : List Loc), va_P D vwCl (mwp o b1 b2 b3 b4 b5 b6 cI (kd_rf 160)) H → va_D A (mwp o b1 b2 b3 b4 b5 b6 cI (kd_rf 160)) → va_S A H0 H locs → W p l e R s m args below meth c H locs cells slots Q (F0 m 976 ls [.ref b6, .ref o])) : W p l e R s m args below meth c H locs cells slots Q (F0 m 870 ls [.ref b6, .ref o]) := by
  refine lv_dup hx hb dX1_init_870 rfl ?_
  refine lv_sipush (v := 144) hx hb dX1_init_871 (by decide) ?_
  refine lv_bipush (v := 10) hx hb dX1_init_874 (by decide) ?_
  refine kd_mr1 (i := 144) hx hb hK hP hD hS (kd_ix_n (j := 144) (by omega) (by omega)) rfl dX1_init_876 (fun H locs hP hD hS => ?_)
  refine lv_dup hx hb dX1_init_877 rfl ?_
  refine lv_sipush (v := 145) hx hb dX1_init_878 (by decide) ?_
  refine lv_iconst (v := 2) hx hb dX1_init_881 (by decide) ?_
  refine kd_mr1 (i := 145) hx hb hK hP hD hS (kd_ix_n (j := 145) (by omega) (by omega)) rfl dX1_init_882 (fun H locs hP hD hS => ?_)
  refine lv_dup hx hb dX1_init_883 rfl ?_
  refine lv_sipush (v := 146) hx hb dX1_init_884 (by decide) ?_
  refine lv_bipush (v := 8) hx hb dX1_init_887 (by decide) ?_
  refine kd_mr1 (i := 146) hx hb hK hP hD hS (kd_ix_n (j := 146) (by omega) (by omega)) rfl dX1_init_889 (fun H locs hP hD hS => ?_)
  refine lv_dup hx hb dX1_init_890 rfl ?_
  refine lv_sipush (v := 147) hx hb dX1_init_891 (by decide) ?_
  refine lv_iconst (v := 4) hx hb dX1_init_894 (by decide) ?_
  refine kd_mr1 (i := 147) hx hb hK hP hD hS (kd_ix_n (j := 147) (by omega) (by omega)) rfl dX1_init_895 (fun H locs hP hD hS => ?_)
  refine lv_dup hx hb dX1_init_896 rfl ?_
  refine lv_sipush (v := 148) hx hb dX1_init_897 (by decide) ?_
  refine lv_bipush (v := 7) hx hb dX1_init_900 (by decide) ?_
  refine kd_mr1 (i := 148) hx hb hK hP hD hS (kd_ix_n (j := 148) (by omega) (by omega)) rfl dX1_init_902 (fun H locs hP hD hS => ?_)
  refine lv_dup hx hb dX1_init_903 rfl ?_
  refine lv_sipush (v := 149) hx hb dX1_init_904 (by decide) ?_
  refine lv_bipush (v := 6) hx hb dX1_init_907 (by decide) ?_
  refine kd_mr1 (i := 149) hx hb hK hP hD hS (kd_ix_n (j := 149) (by omega) (by omega)) rfl dX1_init_909 (fun H locs hP hD hS => ?_)
  refine lv_dup hx hb dX1_init_910 rfl ?_
  refine lv_sipush (v := 150) hx hb dX1_init_911 (by decide) ?_
  refine lv_iconst (v := 1) hx hb dX1_init_914 (by decide) ?_
  refine kd_mr1 (i := 150) hx hb hK hP hD hS (kd_ix_n (j := 150) (by omega) (by omega)) rfl dX1_init_915 (fun H locs hP hD hS => ?_)
  refine lv_dup hx hb dX1_init_916 rfl ?_
  refine lv_sipush (v := 151) hx hb dX1_init_917 (by decide) ?_
  refine lv_iconst (v := 5) hx hb dX1_init_920 (by decide) ?_
  refine kd_mr1 (i := 151) hx hb hK hP hD hS (kd_ix_n (j := 151) (by omega) (by omega)) rfl dX1_init_921 (fun H locs hP hD hS => ?_)
  refine lv_dup hx hb dX1_init_922 rfl ?_
  refine lv_sipush (v := 152) hx hb dX1_init_923 (by decide) ?_
  refine lv_bipush (v := 15) hx hb dX1_init_926 (by decide) ?_
  refine kd_mr1 (i := 152) hx hb hK hP hD hS (kd_ix_n (j := 152) (by omega) (by omega)) rfl dX1_init_928 (fun H locs hP hD hS => ?_)
  refine lv_dup hx hb dX1_init_929 rfl ?_
  refine lv_sipush (v := 153) hx hb dX1_init_930 (by decide) ?_
  refine lv_bipush (v := 11) hx hb dX1_init_933 (by decide) ?_
  refine kd_mr1 (i := 153) hx hb hK hP hD hS (kd_ix_n (j := 153) (by omega) (by omega)) rfl dX1_init_935 (fun H locs hP hD hS => ?_)
  refine lv_dup hx hb dX1_init_936 rfl ?_
  refine lv_sipush (v := 154) hx hb dX1_init_937 (by decide) ?_
  refine lv_bipush (v := 9) hx hb dX1_init_940 (by decide) ?_
  refine kd_mr1 (i := 154) hx hb hK hP hD hS (kd_ix_n (j := 154) (by omega) (by omega)) rfl dX1_init_942 (fun H locs hP hD hS => ?_)
  refine lv_dup hx hb dX1_init_943 rfl ?_
  refine lv_sipush (v := 155) hx hb dX1_init_944 (by decide) ?_
  refine lv_bipush (v := 14) hx hb dX1_init_947 (by decide) ?_
  refine kd_mr1 (i := 155) hx hb hK hP hD hS (kd_ix_n (j := 155) (by omega) (by omega)) rfl dX1_init_949 (fun H locs hP hD hS => ?_)
  refine lv_dup hx hb dX1_init_950 rfl ?_
  refine lv_sipush (v := 156) hx hb dX1_init_951 (by decide) ?_
  refine lv_iconst (v := 3) hx hb dX1_init_954 (by decide) ?_
  refine kd_mr1 (i := 156) hx hb hK hP hD hS (kd_ix_n (j := 156) (by omega) (by omega)) rfl dX1_init_955 (fun H locs hP hD hS => ?_)
  refine lv_dup hx hb dX1_init_956 rfl ?_
  refine lv_sipush (v := 157) hx hb dX1_init_957 (by decide) ?_
  refine lv_bipush (v := 12) hx hb dX1_init_960 (by decide) ?_
  refine kd_mr1 (i := 157) hx hb hK hP hD hS (kd_ix_n (j := 157) (by omega) (by omega)) rfl dX1_init_962 (fun H locs hP hD hS => ?_)
  refine lv_dup hx hb dX1_init_963 rfl ?_
  refine lv_sipush (v := 158) hx hb dX1_init_964 (by decide) ?_
  refine lv_bipush (v := 13) hx hb dX1_init_967 (by decide) ?_
  refine kd_mr1 (i := 158) hx hb hK hP hD hS (kd_ix_n (j := 158) (by omega) (by omega)) rfl dX1_init_969 (fun H locs hP hD hS => ?_)
  refine lv_dup hx hb dX1_init_970 rfl ?_
  refine lv_sipush (v := 159) hx hb dX1_init_971 (by decide) ?_
  refine lv_iconst (v := 0) hx hb dX1_init_974 (by decide) ?_
  refine kd_mr1 (i := 159) hx hb hK hP hD hS (kd_ix_n (j := 159) (by omega) (by omega)) rfl dX1_init_975 (fun H locs hP hD hS => ?_)
  exact kx H locs hP hD hS
end MCT
set_option maxHeartbeats 4000000 in
/-- KeyedDigestModel(): six arrays, the rows of places filled -/
theorem metX1_init (l : Launch) (D : va_G) (o sz : Nat) (cB cI : ClassId) : kd_MN l yX1_init cX1_init ({ frames := 1, cells := 6, slots := 296, locals := 12 } : Room) o D (tyL cB cI) [(o, .inr (1, [.int 0, .int 0, .int 0, .null, .null, .null, .null, .null, .int 0, .long 0, .int 0, .int 0, .null]))] sz 6 296 (fun w => w.1 = cB ∧ w.2.1 = cI ∧ ∃ b1 b2 b3 b4 b5 b6 : Nat, w.2.2 = mw o b1 b2 b3 b4 b5 b6 cI 0 0 0 (fun _ => 0) (fun _ => 0) (fun _ => 0) (fun _ => 0) (fun _ => 0) 0 0 0 0 kd_tbl) := by
  refine kd_mn (by decide) ?_
  intro p e s m below meth c ls A S hr hlk hnm hA hP hK hD hS hl
  have S : CallFix p m c cX1_init 1 s _ lw_all RX1 := S
  have hx := S.1
  have hb := S.2.1
  have hown := S.2.2.2.1
  have hts := S.2.2.2.2
  refine lv_aload_n hx hb dX1_init_0 rfl (lv_at hl 0 rfl) ?_
  refine W.objInit hx hb hown (hts _ q153) (hts _ q17) (hts _ q18) rfl (by rw [S.2.2.1]; exact hl.1) rfl dX1_init_1 (Nat.le_of_ble_eq_true rfl) (Nat.le_of_ble_eq_true rfl) ?_
  refine W.eq (g2 := F0 m 4 ls []) rfl ?_
  refine lv_aload_n hx hb dX1_init_4 rfl (lv_at hl 0 rfl) ?_
  refine lv_bipush (v := 32) hx hb dX1_init_5 (by decide) ?_
  refine va_newa (atype := .int) (ty := .int) (N' := 32) (a0 := (32, .inl (fun _ => 0))) hx hb (hts _ q60) rfl hK hP hD hS hA (fun _ => rfl) (by decide) (by decide) (by decide) (Nat.le_of_ble_eq_true rfl) (Nat.le_of_ble_eq_true rfl) dX1_init_7 (fun b1 c1 H hK hP hD hS => ?_)
  have hK : va_K D vwCl [(cB, .byte), (cI, .int), (c1, .int)] s := hK
  have hP : va_P D vwCl [(o, .inr (1, [.int 0, .int 0, .int 0, .null, .null, .null, .null, .null, .int 0, .long 0, .int 0, .int 0, .null])), (b1, .inl (c1, 32, .inl (fun _ => 0)))] H := hP
  have hD : va_D A [(o, .inr (1, [.int 0, .int 0, .int 0, .null, .null, .null, .null, .null, .int 0, .long 0, .int 0, .int 0, .null])), (b1, .inl (c1, 32, .inl (fun _ => 0)))] := hD
  have ec : c1 = cI := kd_one hK 2 1 rfl rfl (Or.inr rfl)
  rw [ec] at hP hD
  have hK := hK.sub (tys' := tyL cB cI) [0, 1] rfl
  refine va_putF (D := D) (ci := 1) (v := .ref b1) (ty := .array .int) (C := RX1) (T := TX1) (N := 13) hx hb hts in_X1 tyX1 tyX1_ok nmX1 hown hK hP hD hS 0 rfl rfl 3 (by decide) (hts _ q157) (fun _ h9 => h9) rfl hnm rfl (by decide +kernel) rfl rfl (Nat.le_of_ble_eq_true rfl) dX1_init_9 (fun H locs hP hD hS => ?_)
  have hP : va_P D vwCl [(o, .inr (1, [.int 0, .int 0, .int 0, .ref b1, .null, .null, .null, .null, .int 0, .long 0, .int 0, .int 0, .null])), (b1, .inl (cI, 32, .inl (fun _ => 0)))] H := hP
  have hD : va_D A [(o, .inr (1, [.int 0, .int 0, .int 0, .ref b1, .null, .null, .null, .null, .int 0, .long 0, .int 0, .int 0, .null])), (b1, .inl (cI, 32, .inl (fun _ => 0)))] := hD
  refine lv_aload_n hx hb dX1_init_12 rfl (lv_at hl 0 rfl) ?_
  refine lv_bipush (v := 8) hx hb dX1_init_13 (by decide) ?_
  refine va_newa (atype := .int) (ty := .int) (N' := 8) (a0 := (8, .inl (fun _ => 0))) hx hb (hts _ q60) rfl hK hP hD hS hA (fun _ => rfl) (by decide) (by decide) (by decide) (Nat.le_of_ble_eq_true rfl) (Nat.le_of_ble_eq_true rfl) dX1_init_15 (fun b2 c1 H hK hP hD hS => ?_)
  have hK : va_K D vwCl [(cB, .byte), (cI, .int), (c1, .int)] s := hK
  have hP : va_P D vwCl [(o, .inr (1, [.int 0, .int 0, .int 0, .ref b1, .null, .null, .null, .null, .int 0, .long 0, .int 0, .int 0, .null])), (b1, .inl (cI, 32, .inl (fun _ => 0))), (b2, .inl (c1, 8, .inl (fun _ => 0)))] H := hP
  have hD : va_D A [(o, .inr (1, [.int 0, .int 0, .int 0, .ref b1, .null, .null, .null, .null, .int 0, .long 0, .int 0, .int 0, .null])), (b1, .inl (cI, 32, .inl (fun _ => 0))), (b2, .inl (c1, 8, .inl (fun _ => 0)))] := hD
  have ec : c1 = cI := kd_one hK 2 1 rfl rfl (Or.inr rfl)
  rw [ec] at hP hD
  have hK := hK.sub (tys' := tyL cB cI) [0, 1] rfl
  refine va_putF (D := D) (ci := 1) (v := .ref b2) (ty := .array .int) (C := RX1) (T := TX1) (N := 13) hx hb hts in_X1 tyX1 tyX1_ok nmX1 hown hK hP hD hS 0 rfl rfl 4 (by decide) (hts _ q158) (fun _ h9 => h9) rfl hnm rfl (by decide +kernel) rfl rfl (Nat.le_of_ble_eq_true rfl) dX1_init_17 (fun H locs hP hD hS => ?_)
  have hP : va_P D vwCl [(o, .inr (1, [.int 0, .int 0, .int 0, .ref b1, .ref b2, .null, .null, .null, .int 0, .long 0, .int 0, .int 0, .null])), (b1, .inl (cI, 32, .inl (fun _ => 0))), (b2, .inl (cI, 8, .inl (fun _ => 0)))] H := hP
  have hD : va_D A [(o, .inr (1, [.int 0, .int 0, .int 0, .ref b1, .ref b2, .null, .null, .null, .int 0, .long 0, .int 0, .int 0, .null])), (b1, .inl (cI, 32, .inl (fun _ => 0))), (b2, .inl (cI, 8, .inl (fun _ => 0)))] := hD
  refine lv_aload_n hx hb dX1_init_20 rfl (lv_at hl 0 rfl) ?_
  refine lv_bipush (v := 16) hx hb dX1_init_21 (by decide) ?_
  refine va_newa (atype := .int) (ty := .int) (N' := 16) (a0 := (16, .inl (fun _ => 0))) hx hb (hts _ q60) rfl hK hP hD hS hA (fun _ => rfl) (by decide) (by decide) (by decide) (Nat.le_of_ble_eq_true rfl) (Nat.le_of_ble_eq_true rfl) dX1_init_23 (fun b3 c1 H hK hP hD hS => ?_)
  have hK : va_K D vwCl [(cB, .byte), (cI, .int), (c1, .int)] s := hK
  have hP : va_P D vwCl [(o, .inr (1, [.int 0, .int 0, .int 0, .ref b1, .ref b2, .null, .null, .null, .int 0, .long 0, .int 0, .int 0, .null])), (b1, .inl (cI, 32, .inl (fun _ => 0))), (b2, .inl (cI, 8, .inl (fun _ => 0))), (b3, .inl (c1, 16, .inl (fun _ => 0)))] H := hP
  have hD : va_D A [(o, .inr (1, [.int 0, .int 0, .int 0, .ref b1, .ref b2, .null, .null, .null, .int 0, .long 0, .int 0, .int 0, .null])), (b1, .inl (cI, 32, .inl (fun _ => 0))), (b2, .inl (cI, 8, .inl (fun _ => 0))), (b3, .inl (c1, 16, .inl (fun _ => 0)))] := hD
  have ec : c1 = cI := kd_one hK 2 1 rfl rfl (Or.inr rfl)
  rw [ec] at hP hD
  have hK := hK.sub (tys' := tyL cB cI) [0, 1] rfl
  refine va_putF (D := D) (ci := 1) (v := .ref b3) (ty := .array .int) (C := RX1) (T := TX1) (N := 13) hx hb hts in_X1 tyX1 tyX1_ok nmX1 hown hK hP hD hS 0 rfl rfl 5 (by decide) (hts _ q159) (fun _ h9 => h9) rfl hnm rfl (by decide +kernel) rfl rfl (Nat.le_of_ble_eq_true rfl) dX1_init_25 (fun H locs hP hD hS => ?_)
  have hP : va_P D vwCl [(o, .inr (1, [.int 0, .int 0, .int 0, .ref b1, .ref b2, .ref b3, .null, .null, .int 0, .long 0, .int 0, .int 0, .null])), (b1, .inl (cI, 32, .inl (fun _ => 0))), (b2, .inl (cI, 8, .inl (fun _ => 0))), (b3, .inl (cI, 16, .inl (fun _ => 0)))] H := hP
  have hD : va_D A [(o, .inr (1, [.int 0, .int 0, .int 0, .ref b1, .ref b2, .ref b3, .null, .null, .int 0, .long 0, .int 0, .int 0, .null])), (b1, .inl (cI, 32, .inl (fun _ => 0))), (b2, .inl (cI, 8, .inl (fun _ => 0))), (b3, .inl (cI, 16, .inl (fun _ => 0)))] := hD
  refine lv_aload_n hx hb dX1_init_28 rfl (lv_at hl 0 rfl) ?_
  refine lv_bipush (v := 16) hx hb dX1_init_29 (by decide) ?_
  refine va_newa (atype := .int) (ty := .int) (N' := 16) (a0 := (16, .inl (fun _ => 0))) hx hb (hts _ q60) rfl hK hP hD hS hA (fun _ => rfl) (by decide) (by decide) (by decide) (Nat.le_of_ble_eq_true rfl) (Nat.le_of_ble_eq_true rfl) dX1_init_31 (fun b4 c1 H hK hP hD hS => ?_)
  have hK : va_K D vwCl [(cB, .byte), (cI, .int), (c1, .int)] s := hK
  have hP : va_P D vwCl [(o, .inr (1, [.int 0, .int 0, .int 0, .ref b1, .ref b2, .ref b3, .null, .null, .int 0, .long 0, .int 0, .int 0, .null])), (b1, .inl (cI, 32, .inl (fun _ => 0))), (b2, .inl (cI, 8, .inl (fun _ => 0))), (b3, .inl (cI, 16, .inl (fun _ => 0))), (b4, .inl (c1, 16, .inl (fun _ => 0)))] H := hP
  have hD : va_D A [(o, .inr (1, [.int 0, .int 0, .int 0, .ref b1, .ref b2, .ref b3, .null, .null, .int 0, .long 0, .int 0, .int 0, .null])), (b1, .inl (cI, 32, .inl (fun _ => 0))), (b2, .inl (cI, 8, .inl (fun _ => 0))), (b3, .inl (cI, 16, .inl (fun _ => 0))), (b4, .inl (c1, 16, .inl (fun _ => 0)))] := hD
  have ec : c1 = cI := kd_one hK 2 1 rfl rfl (Or.inr rfl)
  rw [ec] at hP hD
  have hK := hK.sub (tys' := tyL cB cI) [0, 1] rfl
  refine va_putF (D := D) (ci := 1) (v := .ref b4) (ty := .array .int) (C := RX1) (T := TX1) (N := 13) hx hb hts in_X1 tyX1 tyX1_ok nmX1 hown hK hP hD hS 0 rfl rfl 6 (by decide) (hts _ q160) (fun _ h9 => h9) rfl hnm rfl (by decide +kernel) rfl rfl (Nat.le_of_ble_eq_true rfl) dX1_init_33 (fun H locs hP hD hS => ?_)
  have hP : va_P D vwCl [(o, .inr (1, [.int 0, .int 0, .int 0, .ref b1, .ref b2, .ref b3, .ref b4, .null, .int 0, .long 0, .int 0, .int 0, .null])), (b1, .inl (cI, 32, .inl (fun _ => 0))), (b2, .inl (cI, 8, .inl (fun _ => 0))), (b3, .inl (cI, 16, .inl (fun _ => 0))), (b4, .inl (cI, 16, .inl (fun _ => 0)))] H := hP
  have hD : va_D A [(o, .inr (1, [.int 0, .int 0, .int 0, .ref b1, .ref b2, .ref b3, .ref b4, .null, .int 0, .long 0, .int 0, .int 0, .null])), (b1, .inl (cI, 32, .inl (fun _ => 0))), (b2, .inl (cI, 8, .inl (fun _ => 0))), (b3, .inl (cI, 16, .inl (fun _ => 0))), (b4, .inl (cI, 16, .inl (fun _ => 0)))] := hD
  refine lv_aload_n hx hb dX1_init_36 rfl (lv_at hl 0 rfl) ?_
  refine lv_bipush (v := 64) hx hb dX1_init_37 (by decide) ?_
  refine va_newa (atype := .int) (ty := .int) (N' := 64) (a0 := (64, .inl (fun _ => 0))) hx hb (hts _ q60) rfl hK hP hD hS hA (fun _ => rfl) (by decide) (by decide) (by decide) (Nat.le_of_ble_eq_true rfl) (Nat.le_of_ble_eq_true rfl) dX1_init_39 (fun b5 c1 H hK hP hD hS => ?_)
  have hK : va_K D vwCl [(cB, .byte), (cI, .int), (c1, .int)] s := hK
  have hP : va_P D vwCl [(o, .inr (1, [.int 0, .int 0, .int 0, .ref b1, .ref b2, .ref b3, .ref b4, .null, .int 0, .long 0, .int 0, .int 0, .null])), (b1, .inl (cI, 32, .inl (fun _ => 0))), (b2, .inl (cI, 8, .inl (fun _ => 0))), (b3, .inl (cI, 16, .inl (fun _ => 0))), (b4, .inl (cI, 16, .inl (fun _ => 0))), (b5, .inl (c1, 64, .inl (fun _ => 0)))] H := hP
  have hD : va_D A [(o, .inr (1, [.int 0, .int 0, .int 0, .ref b1, .ref b2, .ref b3, .ref b4, .null, .int 0, .long 0, .int 0, .int 0, .null])), (b1, .inl (cI, 32, .inl (fun _ => 0))), (b2, .inl (cI, 8, .inl (fun _ => 0))), (b3, .inl (cI, 16, .inl (fun _ => 0))), (b4, .inl (cI, 16, .inl (fun _ => 0))), (b5, .inl (c1, 64, .inl (fun _ => 0)))] := hD
  have ec : c1 = cI := kd_one hK 2 1 rfl rfl (Or.inr rfl)
  rw [ec] at hP hD
  have hK := hK.sub (tys' := tyL cB cI) [0, 1] rfl
  refine va_putF (D := D) (ci := 1) (v := .ref b5) (ty := .array .int) (C := RX1) (T := TX1) (N := 13) hx hb hts in_X1 tyX1 tyX1_ok nmX1 hown hK hP hD hS 0 rfl rfl 7 (by decide) (hts _ q161) (fun _ h9 => h9) rfl hnm rfl (by decide +kernel) rfl rfl (Nat.le_of_ble_eq_true rfl) dX1_init_41 (fun H locs hP hD hS => ?_)
  have hP : va_P D vwCl [(o, .inr (1, [.int 0, .int 0, .int 0, .ref b1, .ref b2, .ref b3, .ref b4, .ref b5, .int 0, .long 0, .int 0, .int 0, .null])), (b1, .inl (cI, 32, .inl (fun _ => 0))), (b2, .inl (cI, 8, .inl (fun _ => 0))), (b3, .inl (cI, 16, .inl (fun _ => 0))), (b4, .inl (cI, 16, .inl (fun _ => 0))), (b5, .inl (cI, 64, .inl (fun _ => 0)))] H := hP
  have hD : va_D A [(o, .inr (1, [.int 0, .int 0, .int 0, .ref b1, .ref b2, .ref b3, .ref b4, .ref b5, .int 0, .long 0, .int 0, .int 0, .null])), (b1, .inl (cI, 32, .inl (fun _ => 0))), (b2, .inl (cI, 8, .inl (fun _ => 0))), (b3, .inl (cI, 16, .inl (fun _ => 0))), (b4, .inl (cI, 16, .inl (fun _ => 0))), (b5, .inl (cI, 64, .inl (fun _ => 0)))] := hD
  refine lv_aload_n hx hb dX1_init_44 rfl (lv_at hl 0 rfl) ?_
  refine lv_sipush (v := 160) hx hb dX1_init_45 (by decide) ?_
  refine va_newa (atype := .int) (ty := .int) (N' := 160) (a0 := (160, .inl (fun _ => 0))) hx hb (hts _ q60) rfl hK hP hD hS hA (fun _ => rfl) (by decide) (by decide) (by decide) (Nat.le_of_ble_eq_true rfl) (Nat.le_of_ble_eq_true rfl) dX1_init_48 (fun b6 c1 H hK hP hD hS => ?_)
  have hK : va_K D vwCl [(cB, .byte), (cI, .int), (c1, .int)] s := hK
  have hP : va_P D vwCl [(o, .inr (1, [.int 0, .int 0, .int 0, .ref b1, .ref b2, .ref b3, .ref b4, .ref b5, .int 0, .long 0, .int 0, .int 0, .null])), (b1, .inl (cI, 32, .inl (fun _ => 0))), (b2, .inl (cI, 8, .inl (fun _ => 0))), (b3, .inl (cI, 16, .inl (fun _ => 0))), (b4, .inl (cI, 16, .inl (fun _ => 0))), (b5, .inl (cI, 64, .inl (fun _ => 0))), (b6, .inl (c1, 160, .inl (fun _ => 0)))] H := hP
  have hD : va_D A [(o, .inr (1, [.int 0, .int 0, .int 0, .ref b1, .ref b2, .ref b3, .ref b4, .ref b5, .int 0, .long 0, .int 0, .int 0, .null])), (b1, .inl (cI, 32, .inl (fun _ => 0))), (b2, .inl (cI, 8, .inl (fun _ => 0))), (b3, .inl (cI, 16, .inl (fun _ => 0))), (b4, .inl (cI, 16, .inl (fun _ => 0))), (b5, .inl (cI, 64, .inl (fun _ => 0))), (b6, .inl (c1, 160, .inl (fun _ => 0)))] := hD
  have ec : c1 = cI := kd_one hK 2 1 rfl rfl (Or.inr rfl)
  rw [ec] at hP hD
  have hK := hK.sub (tys' := tyL cB cI) [0, 1] rfl
  have hP : va_P D vwCl (mwp o b1 b2 b3 b4 b5 b6 cI (kd_rf 0)) H := by unfold kd_rf; rw [kd_fill_0]; exact hP
  have hD : va_D A (mwp o b1 b2 b3 b4 b5 b6 cI (kd_rf 0)) := by unfold kd_rf; rw [kd_fill_0]; exact hD
  refine kd_Mr0 hx hb hK hP hD hS (fun H locs hP hD hS => ?_)
  refine kd_Mr1 hx hb hK hP hD hS (fun H locs hP hD hS => ?_)
  refine kd_Mr2 hx hb hK hP hD hS (fun H locs hP hD hS => ?_)
  refine kd_Mr3 hx hb hK hP hD hS (fun H locs hP hD hS => ?_)
  refine kd_Mr4 hx hb hK hP hD hS (fun H locs hP hD hS => ?_)
  refine kd_Mr5 hx hb hK hP hD hS (fun H locs hP hD hS => ?_)
  refine kd_Mr6 hx hb hK hP hD hS (fun H locs hP hD hS => ?_)
  refine kd_Mr7 hx hb hK hP hD hS (fun H locs hP hD hS => ?_)
  refine kd_Mr8 hx hb hK hP hD hS (fun H locs hP hD hS => ?_)
  refine kd_Mr9 hx hb hK hP hD hS (fun H locs hP hD hS => ?_)
  have hP : va_P D vwCl [(o, .inr (1, [.int 0, .int 0, .int 0, .ref b1, .ref b2, .ref b3, .ref b4, .ref b5, .int 0, .long 0, .int 0, .int 0, .null])), (b1, .inl (cI, 32, .inl (fun _ => 0))), (b2, .inl (cI, 8, .inl (fun _ => 0))), (b3, .inl (cI, 16, .inl (fun _ => 0))), (b4, .inl (cI, 16, .inl (fun _ => 0))), (b5, .inl (cI, 64, .inl (fun _ => 0))), (b6, .inl (cI, 160, .inl (kd_rf 160)))] H := hP
  have hD : va_D A [(o, .inr (1, [.int 0, .int 0, .int 0, .ref b1, .ref b2, .ref b3, .ref b4, .ref b5, .int 0, .long 0, .int 0, .int 0, .null])), (b1, .inl (cI, 32, .inl (fun _ => 0))), (b2, .inl (cI, 8, .inl (fun _ => 0))), (b3, .inl (cI, 16, .inl (fun _ => 0))), (b4, .inl (cI, 16, .inl (fun _ => 0))), (b5, .inl (cI, 64, .inl (fun _ => 0))), (b6, .inl (cI, 160, .inl (kd_rf 160)))] := hD
  refine va_putF (D := D) (ci := 1) (v := .ref b6) (ty := .array .int) (C := RX1) (T := TX1) (N := 13) hx hb hts in_X1 tyX1 tyX1_ok nmX1 hown hK hP hD hS 0 rfl rfl 12 (by decide) (hts _ q166) (fun _ h9 => h9) rfl hnm rfl (by decide +kernel) rfl rfl (Nat.le_of_ble_eq_true rfl) dX1_init_976 (fun H locs hP hD hS => ?_)
  have hP : va_P D vwCl [(o, .inr (1, [.int 0, .int 0, .int 0, .ref b1, .ref b2, .ref b3, .ref b4, .ref b5, .int 0, .long 0, .int 0, .int 0, .ref b6])), (b1, .inl (cI, 32, .inl (fun _ => 0))), (b2, .inl (cI, 8, .inl (fun _ => 0))), (b3, .inl (cI, 16, .inl (fun _ => 0))), (b4, .inl (cI, 16, .inl (fun _ => 0))), (b5, .inl (cI, 64, .inl (fun _ => 0))), (b6, .inl (cI, 160, .inl (kd_rf 160)))] H := hP
  have hD : va_D A [(o, .inr (1, [.int 0, .int 0, .int 0, .ref b1, .ref b2, .ref b3, .ref b4, .ref b5, .int 0, .long 0, .int 0, .int 0, .ref b6])), (b1, .inl (cI, 32, .inl (fun _ => 0))), (b2, .inl (cI, 8, .inl (fun _ => 0))), (b3, .inl (cI, 16, .inl (fun _ => 0))), (b4, .inl (cI, 16, .inl (fun _ => 0))), (b5, .inl (cI, 64, .inl (fun _ => 0))), (b6, .inl (cI, 160, .inl (kd_rf 160)))] := hD
  have hP : va_P D vwCl (mw o b1 b2 b3 b4 b5 b6 cI 0 0 0 (fun _ => 0) (fun _ => 0) (fun _ => 0) (fun _ => 0) (fun _ => 0) 0 0 0 0 (kd_rf 160)) H := hP
  have hD : va_D A (mw o b1 b2 b3 b4 b5 b6 cI 0 0 0 (fun _ => 0) (fun _ => 0) (fun _ => 0) (fun _ => 0) (fun _ => 0) 0 0 0 0 (kd_rf 160)) := hD
  have hP := mc_rw (g := kd_tbl) hP (fun j hj => kd_fill_in hj)
  have hD : va_D A (mw o b1 b2 b3 b4 b5 b6 cI 0 0 0 (fun _ => 0) (fun _ => 0) (fun _ => 0) (fun _ => 0) (fun _ => 0) 0 0 0 0 kd_tbl) := m_D hD
  refine lv_aload_n hx hb dX1_init_979 rfl (lv_at hl 0 rfl) ?_
  refine lv_iconst (v := 0) hx hb dX1_init_980 (by decide) ?_
  refine mp_rd (x := 0) S hK hP hD hS rfl rfl dX1_init_981 (fun H locs hP hD hS => ?_)
  refine W.widen (k := 6) (n := 296) (by decide) (by decide) ?_
  exact kd_nend (cB := cB) (cI := cI) S hr hlk hK hP hD hS ⟨rfl, rfl, b1, b2, b3, b4, b5, b6, rfl⟩ dX1_init_984
end
section
set_option maxRecDepth 100000
/-! THE CLAIM OUT OF ONE WALK OF THE LAW'S BODY. Your part is whole_start (and what it stands on); all else here is the same for every law, but numbers. -/
def R_law : String := "KeyedDigestLaw"
def lw_P (b : Addr) (xs : List Int32) (args : Array Value) (s : State) : Prop := args = #[.ref b] ∧ s.IntsAt b xs ∧ xs.length ≤ 384 ∧ (Jvm.Cond.and given_1 narrow_1).before args s = true
def lw_Q (_ : Array Value) (s : State) (o : Outcome) (t : State) : Prop := o = .returned (some (.int 1)) ∧ Framed s o t [] 600000 7290000
def lw_Z (below : List Frame) (a : Array Value) (s : State) : State → Prop := fun t => ∃ o, t.status = .running ∧ Ended t below o ∧ lw_Q a s o t
/-- the law's own end, with 1 on the stack, nothing written that was there before, its room as the claim has it -/
theorem lw_ret {p : Program} {l : Launch} {e : Env} {s : State} {m : MethodId} {below : List Frame} {meth : Method} {c : Code} {b : Nat} (hx : p.tables.exec = Jvm.exec) (hb : c.code = code) (hr : meth.sig.returnType = ret) (hlocks : meth.locks = false) {pc : Nat} {H : Heap} {ls : Array Slot} (hdg : decode code pc = .ok (.ireturn, 1)) : W p l e room_1 s m #[Value.ref b] below meth c H [] 600000 7290000 (lw_Z below #[Value.ref b] s) (F0 m pc ls [.int 1]) := by
  intro T hT X
  obtain ⟨fs, hret, hrun, hended, hW, hframe⟩ := X.leave (v := some (.int 1)) (hlocks := hlocks) (fun h => by rw [hr] at h; cases h)
  have hmeth' : T.vm.method? m = some meth := X.method'
  refine ⟨T.setFrames fs, ?_, .returned (some (.int 1)), hrun, hended, rfl, ⟨_, rfl⟩, hW, hframe⟩
  jvm_step X.here [X.here.top, hx, hb, hdg, hmeth', hr, ret, narrow_b1]
  (try refine ⟨rfl, ?_⟩); (try refine ⟨rfl, ?_⟩)
  first | (intro acts; rw [hret _ acts rfl rfl rfl]) | rw [hret _ _ rfl rfl rfl]
  exact Steps.refl _
/-- what holds at the law's entry: the machine, the code, the tables' words (any of lw_tbl by 'hts w (by decide +kernel)'), the script of L ints xs at the cell b, what the Statement gives of the start (any of its parts by flat_of_before) -/
def lw_At (p : Program) (s : State) (m : MethodId) (meth : Method) (c : Code) (b L : Nat) (xs : Nat → Int32) : Prop :=
  p.tables.exec = Jvm.exec ∧ c.code = code ∧ meth.sig.returnType = ret ∧ c.maxLocals = 4 ∧ s.vm.findClass R_law = some m.cls ∧ (∀ w ∈ lw_tbl, w.before #[Value.ref b] s = true) ∧ va_X b L xs s s.heap ∧ b < s.heap.size ∧ meth.locks = false ∧ (Jvm.Cond.and given_1 narrow_1).before #[Value.ref b] s = true
end
section
set_option maxRecDepth 100000
/-- what holds of the class's numbers between two calls -/
def kd_inv (rd ph : Int32) (k0 : Nat → Int32) (K : kd_C) (dg : Int32) (pl bg : Nat → Int32) : Prop := kd_ok K ∧ (∀ j, kd_by (k0 j)) ∧ (¬ rd = 0 → pl = kd_tbl ∧ bg = kd_iv) ∧ (ph = 0 ∨ ph = 1 ∨ ph = 2) ∧ (¬ ph = 0 → ¬ rd = 0) ∧ (¬ ph = 0 → dg ≤ 32)
theorem kd_ne01 {ph : Int32} (h : ph = 1) : ¬ ph = 0 := by rw [h]; decide
theorem kd_ne02 {ph : Int32} (h : ph = 2) : ¬ ph = 0 := by rw [h]; decide
theorem kd_inv_pb {rd ph : Int32} {k0 : Nat → Int32} {K : kd_C} {dg : Int32} {pl bg : Nat → Int32} (h : kd_inv rd ph k0 K dg pl bg) : ph = 1 → pl = kd_tbl ∧ bg = kd_iv := fun q => h.2.2.1 (h.2.2.2.2.1 (kd_ne01 q))
theorem kd_inv_32 {rd ph : Int32} {k0 : Nat → Int32} {K : kd_C} {dg : Int32} {pl bg : Nat → Int32} (h : kd_inv rd ph k0 K dg pl bg) : ph = 2 → dg ≤ 32 := fun q => h.2.2.2.2.2 (kd_ne02 q)
/-- both objects hold one state -/
def kd_LS (D : va_G) (H0 : Heap) (o a1 a2 a3 a4 a5 a6 a7 q0 b1 b2 b3 b4 b5 b6 : Nat) (cB cI : ClassId) (rd ph : Int32) (k0 : Nat → Int32) (K : kd_C) (dg : Int32) (ct : Int64) (H : Heap) (locs : List Loc) : Prop := ∃ pl bg mm vv mm2 vv2 : Nat → Int32, kd_inv rd ph k0 K dg pl bg ∧ va_P D vwCl (xw o a1 a2 a3 a4 a5 a6 a7 cB cI rd ph (kd_e k0) pl bg K.1 mm vv (kd_e K.2.1) (nI K.2.2.1) K.2.2.2 dg ct) H ∧ va_P D vwCl (mw q0 b1 b2 b3 b4 b5 b6 cI rd (kd_op ph) (kd_do ph) k0 K.1 vv2 mm2 K.2.1 (nI K.2.2.1) K.2.2.2 ct.toInt32 dg kd_tbl) H ∧ kd_ap (xw o a1 a2 a3 a4 a5 a6 a7 cB cI rd ph (kd_e k0) pl bg K.1 mm vv (kd_e K.2.1) (nI K.2.2.1) K.2.2.2 dg ct) (mw q0 b1 b2 b3 b4 b5 b6 cI rd (kd_op ph) (kd_do ph) k0 K.1 vv2 mm2 K.2.1 (nI K.2.2.1) K.2.2.2 ct.toInt32 dg kd_tbl) ∧ va_D (fun q : Nat => H0.size ≤ q) (xw o a1 a2 a3 a4 a5 a6 a7 cB cI rd ph (kd_e k0) pl bg K.1 mm vv (kd_e K.2.1) (nI K.2.2.1) K.2.2.2 dg ct) ∧ va_D (fun q : Nat => H0.size ≤ q) (mw q0 b1 b2 b3 b4 b5 b6 cI rd (kd_op ph) (kd_do ph) k0 K.1 vv2 mm2 K.2.1 (nI K.2.2.1) K.2.2.2 ct.toInt32 dg kd_tbl) ∧ va_S (fun q : Nat => H0.size ≤ q) H0 H locs
theorem kd_e_z : kd_e (fun _ => 0) = fun _ => 0 := funext fun _ => kd_sx_0
theorem kd_ap_of {A : Nat → Prop} {w1 w2 : va_W} (h : va_D A (w1 ++ w2)) : kd_ap w2 w1 := by
  intro i j x y hx hy he
  have hl := (List.getElem?_eq_some_iff.mp hy).1
  have h1 : (w1 ++ w2)[w1.length + i]? = some x := by
    rw [List.getElem?_append_right (by omega), Nat.add_sub_cancel_left]
    exact hx
  have h2 : (w1 ++ w2)[j]? = some y := by
    rw [List.getElem?_append_left hl]
    exact hy
  have := h.1 _ _ x y h1 h2 he
  omega
/-- the six ints of a call are there -/
theorem kd_six {L i : Nat} (hL : L ≤ 384) (hi : 6 * i ≤ 400) (h : ¬ Int32.ofNat L - 6 < nI (6 * i)) : 6 * i + 6 ≤ L := by
  rw [Int32.lt_iff_toInt_lt] at h
  have e1 : (Int32.ofNat L - 6).toInt = (L : Int) - 6 := pk_sub_toInt (a := L) (b := 6) (by omega) (by omega)
  rw [e1, nI_toInt (by omega)] at h
  omega
section LAW
variable {p : Program} {l : Launch} {e : Env} {s : State} {m : MethodId} {below : List Frame} {meth : Method} {c : Code} {b L : Nat} {xs : Nat → Int32} {D : va_G} {cB cI : ClassId} {o a1 a2 a3 a4 a5 a6 a7 q0 b1 b2 b3 b4 b5 b6 : Nat}
theorem kd_sld {H0 H : Heap} {locs : List Loc} {A : Nat → Prop} {cells slots : Nat} {Q : State → Prop} {cc : ByteArray} {pc : Nat} {ls : Array Slot} {rest : List Value} {R : Room} {args : Array Value} {i : Int32} {j : Nat} (hx : p.tables.exec = Jvm.exec) (hb : c.code = cc) (hX : va_X b L xs s H0) (hbl : b < H0.size) (hbA : ¬ A b) (hS : va_S A H0 H locs) (hi : kd_ix i j L) (hdg : decode cc pc = .ok (.iaload, 1))
    (kk : W p l e R s m args below meth c H locs cells slots Q (F0 m (pc + 1) ls (.int (xs j) :: rest))) : W p l e R s m args below meth c H locs cells slots Q (F0 m pc ls (.int i :: .ref b :: rest)) := va_sld hx hb hX hbl hbA hS hi.1 hdg (by rw [hi.2]; exact kk)
set_option maxHeartbeats 4000000 in
theorem kd_law0 (hL : L ≤ 384) (C0 : lw_At p s m meth c b L xs) (hK : va_K D vwCl (tyL cB cI) s) {i : Nat} (h6 : 6 * i + 6 ≤ L) {rd ph : Int32} {k0 : Nat → Int32} {K : kd_C} {dg : Int32} {ct : Int64} {H : Heap} {locs : List Loc} {ls : Array Slot} (hI : kd_LS D s.heap o a1 a2 a3 a4 a5 a6 a7 q0 b1 b2 b3 b4 b5 b6 cB cI rd ph k0 K dg ct H locs) (hl : lv_has ls 4 [(3, .int (nI (6 * i))), (2, .ref q0), (1, .ref o), (0, .ref b)])
    (kx : ∀ (rd ph : Int32) (k0 : Nat → Int32) (K : kd_C) (dg : Int32) (ct : Int64) (H : Heap) (locs : List Loc) (ls : Array Slot), kd_LS D s.heap o a1 a2 a3 a4 a5 a6 a7 q0 b1 b2 b3 b4 b5 b6 cB cI rd ph k0 K dg ct H locs → lv_has ls 4 [(3, .int (nI (6 * i))), (2, .ref q0), (1, .ref o), (0, .ref b)] → W p l e room_1 s m #[Value.ref b] below meth c H locs 20 700 (lw_Z below #[Value.ref b] s) (F0 m 356 ls [])) : W p l e room_1 s m #[Value.ref b] below meth c H locs 20 700 (lw_Z below #[Value.ref b] s) (F0 m 88 ls []) := by
  obtain ⟨hx, hb, hr, hml, hown, hts0, hX, hbl, hlocks, hgv⟩ := C0
  have hts : ∀ w ∈ lw_all, w.before #[Value.ref b] s = true := fun w h => hts0 w (lw_all_tbl h)
  have S : CallFix p m c cL_law 4 s #[Value.ref b] lw_all R_law := ⟨hx, hb, hml, hown, hts⟩
  have hA : ∀ q : Nat, s.heap.size ≤ q → (fun q : Nat => s.heap.size ≤ q) q := fun _ h => h
  have hbA : ¬ (fun q : Nat => s.heap.size ≤ q) b := Nat.not_le.mpr hbl
  obtain ⟨pl, bg, mm, vv, mm2, vv2, hv, hPx, hPm, hap, hDx, hDm, hS⟩ := hI
  refine lv_aload_n hx hb dL_law_88 rfl (lv_at hl 2 rfl) ?_
  refine kd_lv (rest := []) S (metX0_init_2 l D o a1 a2 a3 a4 a5 a6 a7 cB cI rd ph (kd_e k0) pl bg K.1 mm vv (kd_e K.2.1) (nI K.2.2.1) K.2.2.2 dg ct H.size) (cwV 0 hts (lw_V q61 q62 q63 q9 q64) rfl rfl rfl (by decide +kernel) ⟨Nat.le_of_ble_eq_true rfl, Nat.le_of_ble_eq_true rfl⟩) hK hPx hPm hap hDx hS hA (x_rec hK hPx) rfl hl.1 rfl (Nat.le_of_ble_eq_true rfl) dL_law_89 ⟨Nat.le_of_ble_eq_true rfl, Nat.le_of_ble_eq_true rfl⟩ (fun w H locs hw hPx hPm hap hDx hS => ?_)
  subst hw
  refine lv_aload_n hx hb dL_law_92 rfl (lv_at hl 1 rfl) ?_
  refine kd_lv (rest := []) S (metX1_init_2 l D q0 b1 b2 b3 b4 b5 b6 cB cI rd (kd_op ph) (kd_do ph) k0 K.1 vv2 mm2 K.2.1 (nI K.2.2.1) K.2.2.2 ct.toInt32 dg kd_tbl H.size) (cwV 0 hts (lw_V q194 q195 q196 q10 q197) rfl rfl rfl (by decide +kernel) ⟨Nat.le_of_ble_eq_true rfl, Nat.le_of_ble_eq_true rfl⟩) hK hPm hPx hap.symm hDm hS hA (m_rec hK hPm) rfl hl.1 rfl (Nat.le_of_ble_eq_true rfl) dL_law_93 ⟨Nat.le_of_ble_eq_true rfl, Nat.le_of_ble_eq_true rfl⟩ (fun w H locs hw hPm hPx hap hDm hS => ?_)
  subst hw
  refine lv_goto (tgt := 356) hx hb dL_law_96 (by decide) ?_
  exact kx 1 0 (fun _ => 0) K dg ct H locs ls ⟨_, _, mm, vv, mm2, vv2, ⟨hv.1, fun _ => kd_by_0, fun _ => ⟨rfl, rfl⟩, Or.inl rfl, fun z => absurd rfl z, fun z => absurd rfl z⟩, hPx, hPm, hap.symm, hDx, hDm, hS⟩ hl
set_option maxHeartbeats 4000000 in
theorem kd_law1 (hL : L ≤ 384) (C0 : lw_At p s m meth c b L xs) (hK : va_K D vwCl (tyL cB cI) s) {i : Nat} (h6 : 6 * i + 6 ≤ L) {rd ph : Int32} {k0 : Nat → Int32} {K : kd_C} {dg : Int32} {ct : Int64} {H : Heap} {locs : List Loc} {ls : Array Slot} (hI : kd_LS D s.heap o a1 a2 a3 a4 a5 a6 a7 q0 b1 b2 b3 b4 b5 b6 cB cI rd ph k0 K dg ct H locs) (hl : lv_has ls 4 [(3, .int (nI (6 * i))), (2, .ref q0), (1, .ref o), (0, .ref b)])
    (kx : ∀ (rd ph : Int32) (k0 : Nat → Int32) (K : kd_C) (dg : Int32) (ct : Int64) (H : Heap) (locs : List Loc) (ls : Array Slot), kd_LS D s.heap o a1 a2 a3 a4 a5 a6 a7 q0 b1 b2 b3 b4 b5 b6 cB cI rd ph k0 K dg ct H locs → lv_has ls 4 [(3, .int (nI (6 * i))), (2, .ref q0), (1, .ref o), (0, .ref b)] → W p l e room_1 s m #[Value.ref b] below meth c H locs 20 700 (lw_Z below #[Value.ref b] s) (F0 m 356 ls [])) : W p l e room_1 s m #[Value.ref b] below meth c H locs 20 700 (lw_Z below #[Value.ref b] s) (F0 m 99 ls []) := by
  obtain ⟨hx, hb, hr, hml, hown, hts0, hX, hbl, hlocks, hgv⟩ := C0
  have hts : ∀ w ∈ lw_all, w.before #[Value.ref b] s = true := fun w h => hts0 w (lw_all_tbl h)
  have S : CallFix p m c cL_law 4 s #[Value.ref b] lw_all R_law := ⟨hx, hb, hml, hown, hts⟩
  have hA : ∀ q : Nat, s.heap.size ≤ q → (fun q : Nat => s.heap.size ≤ q) q := fun _ h => h
  have hbA : ¬ (fun q : Nat => s.heap.size ≤ q) b := Nat.not_le.mpr hbl
  obtain ⟨pl, bg, mm, vv, mm2, vv2, hv, hPx, hPm, hap, hDx, hDm, hS⟩ := hI
  refine lv_aload_n hx hb dL_law_99 rfl (lv_at hl 2 rfl) ?_
  refine lv_aload_n hx hb dL_law_100 rfl (lv_at hl 3 rfl) ?_
  refine lv_iload_n hx hb dL_law_101 rfl (lv_at hl 0 rfl) ?_
  refine lv_iconst (v := 1) hx hb dL_law_102 (by decide) ?_
  refine lv_iadd hx hb dL_law_103 ?_
  refine kd_sld (j := 6 * i + 1) hx hb hX hbl hbA hS (kd_ix_e (nI_add (6 * i) 1) (by omega) (by omega)) dL_law_104 ?_
  refine lv_aload_n hx hb dL_law_105 rfl (lv_at hl 3 rfl) ?_
  refine lv_iload_n hx hb dL_law_106 rfl (lv_at hl 0 rfl) ?_
  refine lv_iconst (v := 2) hx hb dL_law_107 (by decide) ?_
  refine lv_iadd hx hb dL_law_108 ?_
  refine kd_sld (j := 6 * i + 2) hx hb hX hbl hbA hS (kd_ix_e (nI_add (6 * i) 2) (by omega) (by omega)) dL_law_109 ?_
  refine kd_li (rest := []) S (metX0_setKeyByte l D o a1 a2 a3 a4 a5 a6 a7 cB cI rd ph k0 pl bg K.1 mm vv (kd_e K.2.1) (nI K.2.2.1) K.2.2.2 dg ct H.size (xs (6 * i + 1)) (xs (6 * i + 2))) (cwV 2 hts (lw_V q88 q89 q90 q9 q91) rfl rfl rfl (by decide +kernel) ⟨Nat.le_of_ble_eq_true rfl, Nat.le_of_ble_eq_true rfl⟩) hK hPx hPm hap hDx hS hA (x_rec hK hPx) rfl hl.1 rfl (Nat.le_of_ble_eq_true rfl) dL_law_110 ⟨Nat.le_of_ble_eq_true rfl, Nat.le_of_ble_eq_true rfl⟩ (fun r w H locs hw hPx hPm hap hDx hS => ?_)
  refine lv_aload_n hx hb dL_law_113 rfl (lv_at hl 1 rfl) ?_
  refine lv_aload_n hx hb dL_law_114 rfl (lv_at hl 3 rfl) ?_
  refine lv_iload_n hx hb dL_law_115 rfl (lv_at hl 0 rfl) ?_
  refine lv_iconst (v := 1) hx hb dL_law_116 (by decide) ?_
  refine lv_iadd hx hb dL_law_117 ?_
  refine kd_sld (j := 6 * i + 1) hx hb hX hbl hbA hS (kd_ix_e (nI_add (6 * i) 1) (by omega) (by omega)) dL_law_118 ?_
  refine lv_aload_n hx hb dL_law_119 rfl (lv_at hl 3 rfl) ?_
  refine lv_iload_n hx hb dL_law_120 rfl (lv_at hl 0 rfl) ?_
  refine lv_iconst (v := 2) hx hb dL_law_121 (by decide) ?_
  refine lv_iadd hx hb dL_law_122 ?_
  refine kd_sld (j := 6 * i + 2) hx hb hX hbl hbA hS (kd_ix_e (nI_add (6 * i) 2) (by omega) (by omega)) dL_law_123 ?_
  refine kd_li (rest := [.int r]) S (metX1_setKeyByte l D q0 b1 b2 b3 b4 b5 b6 cB cI rd ph (kd_do ph) k0 K.1 vv2 mm2 K.2.1 (nI K.2.2.1) K.2.2.2 ct.toInt32 dg kd_tbl H.size (xs (6 * i + 1)) (xs (6 * i + 2))) (cwV 2 hts (lw_V q198 q199 q200 q10 q201) rfl rfl rfl (by decide +kernel) ⟨Nat.le_of_ble_eq_true rfl, Nat.le_of_ble_eq_true rfl⟩) hK hPm hPx hap.symm hDm hS hA (m_rec hK hPm) rfl hl.1 rfl (Nat.le_of_ble_eq_true rfl) dL_law_124 ⟨Nat.le_of_ble_eq_true rfl, Nat.le_of_ble_eq_true rfl⟩ (fun r2 w2 H locs hw2 hPm hPx hap hDm hS => ?_)
  rcases hw with ⟨hc, rfl, mm1, vv1, rfl⟩ | ⟨hc, rfl, mm1, vv1, rfl⟩
  · rcases hw2 with ⟨hc2, rfl, mm3, vv3, rfl⟩ | ⟨hc2, rfl, mm3, vv3, rfl⟩
    · refine lv_icmp_eq (tgt := 356) hx hb dL_law_127 (by decide) (fun _ => ?_) (fun z => absurd rfl z)
      exact kx rd ph _ K dg ct H locs ls ⟨_, _, mm1, vv1, mm3, vv3, ⟨hv.1, kd_by_upd hv.2.1 (kd_by_of hc.2.2.1.1 hc.2.2.1.2), hv.2.2⟩, hPx, hPm, hap.symm, hDx, hDm, hS⟩ hl
    · exact absurd hc hc2
  · rcases hw2 with ⟨hc2, rfl, mm3, vv3, rfl⟩ | ⟨hc2, rfl, mm3, vv3, rfl⟩
    · exact absurd hc2 hc
    · refine lv_icmp_eq (tgt := 356) hx hb dL_law_127 (by decide) (fun _ => ?_) (fun z => absurd rfl z)
      exact kx rd ph k0 K dg ct H locs ls ⟨_, _, mm1, vv1, mm3, vv3, hv, hPx, hPm, hap.symm, hDx, hDm, hS⟩ hl
set_option maxHeartbeats 4000000 in
theorem kd_law2 (hL : L ≤ 384) (C0 : lw_At p s m meth c b L xs) (hK : va_K D vwCl (tyL cB cI) s) {i : Nat} (h6 : 6 * i + 6 ≤ L) {rd ph : Int32} {k0 : Nat → Int32} {K : kd_C} {dg : Int32} {ct : Int64} {H : Heap} {locs : List Loc} {ls : Array Slot} (hI : kd_LS D s.heap o a1 a2 a3 a4 a5 a6 a7 q0 b1 b2 b3 b4 b5 b6 cB cI rd ph k0 K dg ct H locs) (hl : lv_has ls 4 [(3, .int (nI (6 * i))), (2, .ref q0), (1, .ref o), (0, .ref b)])
    (kx : ∀ (rd ph : Int32) (k0 : Nat → Int32) (K : kd_C) (dg : Int32) (ct : Int64) (H : Heap) (locs : List Loc) (ls : Array Slot), kd_LS D s.heap o a1 a2 a3 a4 a5 a6 a7 q0 b1 b2 b3 b4 b5 b6 cB cI rd ph k0 K dg ct H locs → lv_has ls 4 [(3, .int (nI (6 * i))), (2, .ref q0), (1, .ref o), (0, .ref b)] → W p l e room_1 s m #[Value.ref b] below meth c H locs 20 700 (lw_Z below #[Value.ref b] s) (F0 m 356 ls [])) : W p l e room_1 s m #[Value.ref b] below meth c H locs 20 700 (lw_Z below #[Value.ref b] s) (F0 m 132 ls []) := by
  obtain ⟨hx, hb, hr, hml, hown, hts0, hX, hbl, hlocks, hgv⟩ := C0
  have hts : ∀ w ∈ lw_all, w.before #[Value.ref b] s = true := fun w h => hts0 w (lw_all_tbl h)
  have S : CallFix p m c cL_law 4 s #[Value.ref b] lw_all R_law := ⟨hx, hb, hml, hown, hts⟩
  have hA : ∀ q : Nat, s.heap.size ≤ q → (fun q : Nat => s.heap.size ≤ q) q := fun _ h => h
  have hbA : ¬ (fun q : Nat => s.heap.size ≤ q) b := Nat.not_le.mpr hbl
  obtain ⟨pl, bg, mm, vv, mm2, vv2, hv, hPx, hPm, hap, hDx, hDm, hS⟩ := hI
  refine lv_aload_n hx hb dL_law_132 rfl (lv_at hl 2 rfl) ?_
  refine lv_aload_n hx hb dL_law_133 rfl (lv_at hl 3 rfl) ?_
  refine lv_iload_n hx hb dL_law_134 rfl (lv_at hl 0 rfl) ?_
  refine lv_iconst (v := 1) hx hb dL_law_135 (by decide) ?_
  refine lv_iadd hx hb dL_law_136 ?_
  refine kd_sld (j := 6 * i + 1) hx hb hX hbl hbA hS (kd_ix_e (nI_add (6 * i) 1) (by omega) (by omega)) dL_law_137 ?_
  refine lv_aload_n hx hb dL_law_138 rfl (lv_at hl 3 rfl) ?_
  refine lv_iload_n hx hb dL_law_139 rfl (lv_at hl 0 rfl) ?_
  refine lv_iconst (v := 2) hx hb dL_law_140 (by decide) ?_
  refine lv_iadd hx hb dL_law_141 ?_
  refine kd_sld (j := 6 * i + 2) hx hb hX hbl hbA hS (kd_ix_e (nI_add (6 * i) 2) (by omega) (by omega)) dL_law_142 ?_
  refine kd_li (rest := []) S (metX0_start l D o a1 a2 a3 a4 a5 a6 a7 cB cI rd ph k0 pl bg mm vv K dg ct H.size (xs (6 * i + 1)) (xs (6 * i + 2)) (fun z => (hv.2.2.1 z).2)) (cwV 2 hts (lw_V q95 q96 q97 q9 q98) rfl rfl rfl (by decide +kernel) ⟨Nat.le_of_ble_eq_true rfl, Nat.le_of_ble_eq_true rfl⟩) hK hPx hPm hap hDx hS hA (x_rec hK hPx) rfl hl.1 rfl (Nat.le_of_ble_eq_true rfl) dL_law_143 ⟨Nat.le_of_ble_eq_true rfl, Nat.le_of_ble_eq_true rfl⟩ (fun r w H locs hw hPx hPm hap hDx hS => ?_)
  refine lv_aload_n hx hb dL_law_146 rfl (lv_at hl 1 rfl) ?_
  refine lv_aload_n hx hb dL_law_147 rfl (lv_at hl 3 rfl) ?_
  refine lv_iload_n hx hb dL_law_148 rfl (lv_at hl 0 rfl) ?_
  refine lv_iconst (v := 1) hx hb dL_law_149 (by decide) ?_
  refine lv_iadd hx hb dL_law_150 ?_
  refine kd_sld (j := 6 * i + 1) hx hb hX hbl hbA hS (kd_ix_e (nI_add (6 * i) 1) (by omega) (by omega)) dL_law_151 ?_
  refine lv_aload_n hx hb dL_law_152 rfl (lv_at hl 3 rfl) ?_
  refine lv_iload_n hx hb dL_law_153 rfl (lv_at hl 0 rfl) ?_
  refine lv_iconst (v := 2) hx hb dL_law_154 (by decide) ?_
  refine lv_iadd hx hb dL_law_155 ?_
  refine kd_sld (j := 6 * i + 2) hx hb hX hbl hbA hS (kd_ix_e (nI_add (6 * i) 2) (by omega) (by omega)) dL_law_156 ?_
  refine kd_li (rest := [.int r]) S (metX1_start l D q0 b1 b2 b3 b4 b5 b6 cB cI rd ph k0 mm2 vv2 K dg ct H.size (xs (6 * i + 1)) (xs (6 * i + 2))) (cwV 2 hts (lw_V q202 q203 q204 q10 q205) rfl rfl rfl (by decide +kernel) ⟨Nat.le_of_ble_eq_true rfl, Nat.le_of_ble_eq_true rfl⟩) hK hPm hPx hap.symm hDm hS hA (m_rec hK hPm) rfl hl.1 rfl (Nat.le_of_ble_eq_true rfl) dL_law_157 ⟨Nat.le_of_ble_eq_true rfl, Nat.le_of_ble_eq_true rfl⟩ (fun r2 w2 H locs hw2 hPm hPx hap hDm hS => ?_)
  rcases hw with ⟨hc, rfl, mm1, vv1, rfl⟩ | ⟨hc, rfl, mm1, vv1, rfl⟩
  · rcases hw2 with ⟨hc2, rfl, mm3, vv3, rfl⟩ | ⟨hc2, rfl, mm3, vv3, rfl⟩
    · refine lv_icmp_eq (tgt := 356) hx hb dL_law_160 (by decide) (fun _ => ?_) (fun z => absurd rfl z)
      exact kx rd 1 k0 _ _ 0 H locs ls ⟨_, _, mm1, vv1, mm3, vv3, ⟨kd_st_ok _ _ hv.1 hv.2.1, hv.2.1, hv.2.2.1, Or.inr (Or.inl rfl), fun _ => hc.1, fun _ => kd_not_lt hc.2.2.1⟩, hPx, hPm, hap.symm, hDx, hDm, hS⟩ hl
    · exact absurd hc hc2
  · rcases hw2 with ⟨hc2, rfl, mm3, vv3, rfl⟩ | ⟨hc2, rfl, mm3, vv3, rfl⟩
    · exact absurd hc2 hc
    · refine lv_icmp_eq (tgt := 356) hx hb dL_law_160 (by decide) (fun _ => ?_) (fun z => absurd rfl z)
      exact kx rd ph k0 K dg ct H locs ls ⟨_, _, mm1, vv1, mm3, vv3, hv, hPx, hPm, hap.symm, hDx, hDm, hS⟩ hl
set_option maxHeartbeats 4000000 in
theorem kd_law3 (hL : L ≤ 384) (C0 : lw_At p s m meth c b L xs) (hK : va_K D vwCl (tyL cB cI) s) {i : Nat} (h6 : 6 * i + 6 ≤ L) {rd ph : Int32} {k0 : Nat → Int32} {K : kd_C} {dg : Int32} {ct : Int64} {H : Heap} {locs : List Loc} {ls : Array Slot} (hI : kd_LS D s.heap o a1 a2 a3 a4 a5 a6 a7 q0 b1 b2 b3 b4 b5 b6 cB cI rd ph k0 K dg ct H locs) (hl : lv_has ls 4 [(3, .int (nI (6 * i))), (2, .ref q0), (1, .ref o), (0, .ref b)])
    (kx : ∀ (rd ph : Int32) (k0 : Nat → Int32) (K : kd_C) (dg : Int32) (ct : Int64) (H : Heap) (locs : List Loc) (ls : Array Slot), kd_LS D s.heap o a1 a2 a3 a4 a5 a6 a7 q0 b1 b2 b3 b4 b5 b6 cB cI rd ph k0 K dg ct H locs → lv_has ls 4 [(3, .int (nI (6 * i))), (2, .ref q0), (1, .ref o), (0, .ref b)] → W p l e room_1 s m #[Value.ref b] below meth c H locs 20 700 (lw_Z below #[Value.ref b] s) (F0 m 356 ls [])) : W p l e room_1 s m #[Value.ref b] below meth c H locs 20 700 (lw_Z below #[Value.ref b] s) (F0 m 165 ls []) := by
  obtain ⟨hx, hb, hr, hml, hown, hts0, hX, hbl, hlocks, hgv⟩ := C0
  have hts : ∀ w ∈ lw_all, w.before #[Value.ref b] s = true := fun w h => hts0 w (lw_all_tbl h)
  have S : CallFix p m c cL_law 4 s #[Value.ref b] lw_all R_law := ⟨hx, hb, hml, hown, hts⟩
  have hA : ∀ q : Nat, s.heap.size ≤ q → (fun q : Nat => s.heap.size ≤ q) q := fun _ h => h
  have hbA : ¬ (fun q : Nat => s.heap.size ≤ q) b := Nat.not_le.mpr hbl
  obtain ⟨pl, bg, mm, vv, mm2, vv2, hv, hPx, hPm, hap, hDx, hDm, hS⟩ := hI
  refine lv_aload_n hx hb dL_law_165 rfl (lv_at hl 2 rfl) ?_
  refine lv_aload_n hx hb dL_law_166 rfl (lv_at hl 3 rfl) ?_
  refine lv_iload_n hx hb dL_law_167 rfl (lv_at hl 0 rfl) ?_
  refine lv_iconst (v := 1) hx hb dL_law_168 (by decide) ?_
  refine lv_iadd hx hb dL_law_169 ?_
  refine kd_sld (j := 6 * i + 1) hx hb hX hbl hbA hS (kd_ix_e (nI_add (6 * i) 1) (by omega) (by omega)) dL_law_170 ?_
  refine kd_li (rest := []) S (metX0_update l D o a1 a2 a3 a4 a5 a6 a7 cB cI rd ph (kd_e k0) pl bg mm vv K dg ct H.size (xs (6 * i + 1)) (kd_inv_pb hv) hv.1) (cwV 1 hts (lw_V q100 q101 q102 q9 q103) rfl rfl rfl (by decide +kernel) ⟨Nat.le_of_ble_eq_true rfl, Nat.le_of_ble_eq_true rfl⟩) hK hPx hPm hap hDx hS hA (x_rec hK hPx) rfl hl.1 rfl (Nat.le_of_ble_eq_true rfl) dL_law_171 ⟨Nat.le_of_ble_eq_true rfl, Nat.le_of_ble_eq_true rfl⟩ (fun r w H locs hw hPx hPm hap hDx hS => ?_)
  refine lv_aload_n hx hb dL_law_174 rfl (lv_at hl 1 rfl) ?_
  refine lv_aload_n hx hb dL_law_175 rfl (lv_at hl 3 rfl) ?_
  refine lv_iload_n hx hb dL_law_176 rfl (lv_at hl 0 rfl) ?_
  refine lv_iconst (v := 1) hx hb dL_law_177 (by decide) ?_
  refine lv_iadd hx hb dL_law_178 ?_
  refine kd_sld (j := 6 * i + 1) hx hb hX hbl hbA hS (kd_ix_e (nI_add (6 * i) 1) (by omega) (by omega)) dL_law_179 ?_
  refine kd_li (rest := [.int r]) S (metX1_update l D q0 b1 b2 b3 b4 b5 b6 cB cI rd ph k0 mm2 vv2 K dg ct H.size (xs (6 * i + 1)) hv.1) (cwV 1 hts (lw_V q234 q235 q236 q10 q237) rfl rfl rfl (by decide +kernel) ⟨Nat.le_of_ble_eq_true rfl, Nat.le_of_ble_eq_true rfl⟩) hK hPm hPx hap.symm hDm hS hA (m_rec hK hPm) rfl hl.1 rfl (Nat.le_of_ble_eq_true rfl) dL_law_180 ⟨Nat.le_of_ble_eq_true rfl, Nat.le_of_ble_eq_true rfl⟩ (fun r2 w2 H locs hw2 hPm hPx hap hDm hS => ?_)
  rcases hw with ⟨hc, rfl, mm1, vv1, rfl⟩ | ⟨hc, rfl, mm1, vv1, rfl⟩
  · rcases hw2 with ⟨hc2, rfl, mm3, vv3, rfl⟩ | ⟨hc2, rfl, mm3, vv3, rfl⟩
    · refine lv_icmp_eq (tgt := 356) hx hb dL_law_183 (by decide) (fun _ => ?_) (fun z => absurd rfl z)
      exact kx rd ph k0 _ dg _ H locs ls ⟨_, _, mm1, vv1, mm3, vv3, ⟨kd_tk_ok hv.1 (kd_by_of hc.2.1 hc.2.2), hv.2⟩, hPx, hPm, hap.symm, hDx, hDm, hS⟩ hl
    · exact absurd hc hc2
  · rcases hw2 with ⟨hc2, rfl, mm3, vv3, rfl⟩ | ⟨hc2, rfl, mm3, vv3, rfl⟩
    · exact absurd hc2 hc
    · refine lv_icmp_eq (tgt := 356) hx hb dL_law_183 (by decide) (fun _ => ?_) (fun z => absurd rfl z)
      exact kx rd ph k0 K dg ct H locs ls ⟨_, _, mm1, vv1, mm3, vv3, hv, hPx, hPm, hap.symm, hDx, hDm, hS⟩ hl
set_option maxHeartbeats 4000000 in
theorem kd_law4 (hL : L ≤ 384) (C0 : lw_At p s m meth c b L xs) (hK : va_K D vwCl (tyL cB cI) s) {i : Nat} (h6 : 6 * i + 6 ≤ L) {rd ph : Int32} {k0 : Nat → Int32} {K : kd_C} {dg : Int32} {ct : Int64} {H : Heap} {locs : List Loc} {ls : Array Slot} (hI : kd_LS D s.heap o a1 a2 a3 a4 a5 a6 a7 q0 b1 b2 b3 b4 b5 b6 cB cI rd ph k0 K dg ct H locs) (hl : lv_has ls 4 [(3, .int (nI (6 * i))), (2, .ref q0), (1, .ref o), (0, .ref b)])
    (kx : ∀ (rd ph : Int32) (k0 : Nat → Int32) (K : kd_C) (dg : Int32) (ct : Int64) (H : Heap) (locs : List Loc) (ls : Array Slot), kd_LS D s.heap o a1 a2 a3 a4 a5 a6 a7 q0 b1 b2 b3 b4 b5 b6 cB cI rd ph k0 K dg ct H locs → lv_has ls 4 [(3, .int (nI (6 * i))), (2, .ref q0), (1, .ref o), (0, .ref b)] → W p l e room_1 s m #[Value.ref b] below meth c H locs 20 700 (lw_Z below #[Value.ref b] s) (F0 m 356 ls [])) : W p l e room_1 s m #[Value.ref b] below meth c H locs 20 700 (lw_Z below #[Value.ref b] s) (F0 m 188 ls []) := by
  obtain ⟨hx, hb, hr, hml, hown, hts0, hX, hbl, hlocks, hgv⟩ := C0
  have hts : ∀ w ∈ lw_all, w.before #[Value.ref b] s = true := fun w h => hts0 w (lw_all_tbl h)
  have S : CallFix p m c cL_law 4 s #[Value.ref b] lw_all R_law := ⟨hx, hb, hml, hown, hts⟩
  have hA : ∀ q : Nat, s.heap.size ≤ q → (fun q : Nat => s.heap.size ≤ q) q := fun _ h => h
  have hbA : ¬ (fun q : Nat => s.heap.size ≤ q) b := Nat.not_le.mpr hbl
  obtain ⟨pl, bg, mm, vv, mm2, vv2, hv, hPx, hPm, hap, hDx, hDm, hS⟩ := hI
  refine lv_aload_n hx hb dL_law_188 rfl (lv_at hl 2 rfl) ?_
  refine lv_aload_n hx hb dL_law_189 rfl (lv_at hl 3 rfl) ?_
  refine lv_iload_n hx hb dL_law_190 rfl (lv_at hl 0 rfl) ?_
  refine lv_iconst (v := 1) hx hb dL_law_191 (by decide) ?_
  refine lv_iadd hx hb dL_law_192 ?_
  refine kd_sld (j := 6 * i + 1) hx hb hX hbl hbA hS (kd_ix_e (nI_add (6 * i) 1) (by omega) (by omega)) dL_law_193 ?_
  refine lv_aload_n hx hb dL_law_194 rfl (lv_at hl 3 rfl) ?_
  refine lv_iload_n hx hb dL_law_195 rfl (lv_at hl 0 rfl) ?_
  refine lv_iconst (v := 2) hx hb dL_law_196 (by decide) ?_
  refine lv_iadd hx hb dL_law_197 ?_
  refine kd_sld (j := 6 * i + 2) hx hb hX hbl hbA hS (kd_ix_e (nI_add (6 * i) 2) (by omega) (by omega)) dL_law_198 ?_
  refine lv_aload_n hx hb dL_law_199 rfl (lv_at hl 3 rfl) ?_
  refine lv_iload_n hx hb dL_law_200 rfl (lv_at hl 0 rfl) ?_
  refine lv_iconst (v := 3) hx hb dL_law_201 (by decide) ?_
  refine lv_iadd hx hb dL_law_202 ?_
  refine kd_sld (j := 6 * i + 3) hx hb hX hbl hbA hS (kd_ix_e (nI_add (6 * i) 3) (by omega) (by omega)) dL_law_203 ?_
  refine lv_aload_n hx hb dL_law_204 rfl (lv_at hl 3 rfl) ?_
  refine lv_iload_n hx hb dL_law_205 rfl (lv_at hl 0 rfl) ?_
  refine lv_iconst (v := 4) hx hb dL_law_206 (by decide) ?_
  refine lv_iadd hx hb dL_law_207 ?_
  refine kd_sld (j := 6 * i + 4) hx hb hX hbl hbA hS (kd_ix_e (nI_add (6 * i) 4) (by omega) (by omega)) dL_law_208 ?_
  refine lv_aload_n hx hb dL_law_209 rfl (lv_at hl 3 rfl) ?_
  refine lv_iload_n hx hb dL_law_210 rfl (lv_at hl 0 rfl) ?_
  refine lv_iconst (v := 5) hx hb dL_law_211 (by decide) ?_
  refine lv_iadd hx hb dL_law_212 ?_
  refine kd_sld (j := 6 * i + 5) hx hb hX hbl hbA hS (kd_ix_e (nI_add (6 * i) 5) (by omega) (by omega)) dL_law_213 ?_
  refine kd_li (rest := []) S (metX0_updates l D o a1 a2 a3 a4 a5 a6 a7 cB cI rd ph (kd_e k0) pl bg mm vv K dg ct H.size (xs (6 * i + 1)) (xs (6 * i + 2)) (xs (6 * i + 3)) (xs (6 * i + 4)) (xs (6 * i + 5)) (kd_inv_pb hv) hv.1) (cwV 5 hts (lw_V q124 q125 q126 q9 q127) rfl rfl rfl (by decide +kernel) ⟨Nat.le_of_ble_eq_true rfl, Nat.le_of_ble_eq_true rfl⟩) hK hPx hPm hap hDx hS hA (x_rec hK hPx) rfl hl.1 rfl (Nat.le_of_ble_eq_true rfl) dL_law_214 ⟨Nat.le_of_ble_eq_true rfl, Nat.le_of_ble_eq_true rfl⟩ (fun r w H locs hw hPx hPm hap hDx hS => ?_)
  refine lv_aload_n hx hb dL_law_217 rfl (lv_at hl 1 rfl) ?_
  refine lv_aload_n hx hb dL_law_218 rfl (lv_at hl 3 rfl) ?_
  refine lv_iload_n hx hb dL_law_219 rfl (lv_at hl 0 rfl) ?_
  refine lv_iconst (v := 1) hx hb dL_law_220 (by decide) ?_
  refine lv_iadd hx hb dL_law_221 ?_
  refine kd_sld (j := 6 * i + 1) hx hb hX hbl hbA hS (kd_ix_e (nI_add (6 * i) 1) (by omega) (by omega)) dL_law_222 ?_
  refine lv_aload_n hx hb dL_law_223 rfl (lv_at hl 3 rfl) ?_
  refine lv_iload_n hx hb dL_law_224 rfl (lv_at hl 0 rfl) ?_
  refine lv_iconst (v := 2) hx hb dL_law_225 (by decide) ?_
  refine lv_iadd hx hb dL_law_226 ?_
  refine kd_sld (j := 6 * i + 2) hx hb hX hbl hbA hS (kd_ix_e (nI_add (6 * i) 2) (by omega) (by omega)) dL_law_227 ?_
  refine lv_aload_n hx hb dL_law_228 rfl (lv_at hl 3 rfl) ?_
  refine lv_iload_n hx hb dL_law_229 rfl (lv_at hl 0 rfl) ?_
  refine lv_iconst (v := 3) hx hb dL_law_230 (by decide) ?_
  refine lv_iadd hx hb dL_law_231 ?_
  refine kd_sld (j := 6 * i + 3) hx hb hX hbl hbA hS (kd_ix_e (nI_add (6 * i) 3) (by omega) (by omega)) dL_law_232 ?_
  refine lv_aload_n hx hb dL_law_233 rfl (lv_at hl 3 rfl) ?_
  refine lv_iload_n hx hb dL_law_234 rfl (lv_at hl 0 rfl) ?_
  refine lv_iconst (v := 4) hx hb dL_law_235 (by decide) ?_
  refine lv_iadd hx hb dL_law_236 ?_
  refine kd_sld (j := 6 * i + 4) hx hb hX hbl hbA hS (kd_ix_e (nI_add (6 * i) 4) (by omega) (by omega)) dL_law_237 ?_
  refine lv_aload_n hx hb dL_law_238 rfl (lv_at hl 3 rfl) ?_
  refine lv_iload_n hx hb dL_law_239 rfl (lv_at hl 0 rfl) ?_
  refine lv_iconst (v := 5) hx hb dL_law_240 (by decide) ?_
  refine lv_iadd hx hb dL_law_241 ?_
  refine kd_sld (j := 6 * i + 5) hx hb hX hbl hbA hS (kd_ix_e (nI_add (6 * i) 5) (by omega) (by omega)) dL_law_242 ?_
  refine kd_li (rest := [.int r]) S (metX1_updates l D q0 b1 b2 b3 b4 b5 b6 cB cI rd ph k0 mm2 vv2 K dg ct H.size (xs (6 * i + 1)) (xs (6 * i + 2)) (xs (6 * i + 3)) (xs (6 * i + 4)) (xs (6 * i + 5)) hv.1) (cwV 5 hts (lw_V q238 q239 q240 q10 q241) rfl rfl rfl (by decide +kernel) ⟨Nat.le_of_ble_eq_true rfl, Nat.le_of_ble_eq_true rfl⟩) hK hPm hPx hap.symm hDm hS hA (m_rec hK hPm) rfl hl.1 rfl (Nat.le_of_ble_eq_true rfl) dL_law_243 ⟨Nat.le_of_ble_eq_true rfl, Nat.le_of_ble_eq_true rfl⟩ (fun r2 w2 H locs hw2 hPm hPx hap hDm hS => ?_)
  rcases hw with ⟨hc, rfl, mm1, vv1, rfl⟩ | ⟨hc, rfl, mm1, vv1, rfl⟩
  · rcases hw2 with ⟨hc2, rfl, mm3, vv3, rfl⟩ | ⟨hc2, rfl, mm3, vv3, rfl⟩
    · refine lv_icmp_eq (tgt := 356) hx hb dL_law_246 (by decide) (fun _ => ?_) (fun z => absurd rfl z)
      exact kx rd ph k0 _ dg _ H locs ls ⟨_, _, mm1, vv1, mm3, vv3, ⟨kd_tN_ok hv.1 (kd_ub_by _ _ _ _) _, hv.2⟩, hPx, hPm, hap.symm, hDx, hDm, hS⟩ hl
    · exact absurd hc hc2
  · rcases hw2 with ⟨hc2, rfl, mm3, vv3, rfl⟩ | ⟨hc2, rfl, mm3, vv3, rfl⟩
    · exact absurd hc2 hc
    · refine lv_icmp_eq (tgt := 356) hx hb dL_law_246 (by decide) (fun _ => ?_) (fun z => absurd rfl z)
      exact kx rd ph k0 K dg ct H locs ls ⟨_, _, mm1, vv1, mm3, vv3, hv, hPx, hPm, hap.symm, hDx, hDm, hS⟩ hl
set_option maxHeartbeats 4000000 in
theorem kd_law5 (hL : L ≤ 384) (C0 : lw_At p s m meth c b L xs) (hK : va_K D vwCl (tyL cB cI) s) {i : Nat} (h6 : 6 * i + 6 ≤ L) {rd ph : Int32} {k0 : Nat → Int32} {K : kd_C} {dg : Int32} {ct : Int64} {H : Heap} {locs : List Loc} {ls : Array Slot} (hI : kd_LS D s.heap o a1 a2 a3 a4 a5 a6 a7 q0 b1 b2 b3 b4 b5 b6 cB cI rd ph k0 K dg ct H locs) (hl : lv_has ls 4 [(3, .int (nI (6 * i))), (2, .ref q0), (1, .ref o), (0, .ref b)])
    (kx : ∀ (rd ph : Int32) (k0 : Nat → Int32) (K : kd_C) (dg : Int32) (ct : Int64) (H : Heap) (locs : List Loc) (ls : Array Slot), kd_LS D s.heap o a1 a2 a3 a4 a5 a6 a7 q0 b1 b2 b3 b4 b5 b6 cB cI rd ph k0 K dg ct H locs → lv_has ls 4 [(3, .int (nI (6 * i))), (2, .ref q0), (1, .ref o), (0, .ref b)] → W p l e room_1 s m #[Value.ref b] below meth c H locs 20 700 (lw_Z below #[Value.ref b] s) (F0 m 356 ls [])) : W p l e room_1 s m #[Value.ref b] below meth c H locs 20 700 (lw_Z below #[Value.ref b] s) (F0 m 251 ls []) := by
  obtain ⟨hx, hb, hr, hml, hown, hts0, hX, hbl, hlocks, hgv⟩ := C0
  have hts : ∀ w ∈ lw_all, w.before #[Value.ref b] s = true := fun w h => hts0 w (lw_all_tbl h)
  have S : CallFix p m c cL_law 4 s #[Value.ref b] lw_all R_law := ⟨hx, hb, hml, hown, hts⟩
  have hA : ∀ q : Nat, s.heap.size ≤ q → (fun q : Nat => s.heap.size ≤ q) q := fun _ h => h
  have hbA : ¬ (fun q : Nat => s.heap.size ≤ q) b := Nat.not_le.mpr hbl
  obtain ⟨pl, bg, mm, vv, mm2, vv2, hv, hPx, hPm, hap, hDx, hDm, hS⟩ := hI
  refine lv_aload_n hx hb dL_law_251 rfl (lv_at hl 2 rfl) ?_
  refine lv_aload_n hx hb dL_law_252 rfl (lv_at hl 3 rfl) ?_
  refine lv_iload_n hx hb dL_law_253 rfl (lv_at hl 0 rfl) ?_
  refine lv_iconst (v := 1) hx hb dL_law_254 (by decide) ?_
  refine lv_iadd hx hb dL_law_255 ?_
  refine kd_sld (j := 6 * i + 1) hx hb hX hbl hbA hS (kd_ix_e (nI_add (6 * i) 1) (by omega) (by omega)) dL_law_256 ?_
  refine lv_aload_n hx hb dL_law_257 rfl (lv_at hl 3 rfl) ?_
  refine lv_iload_n hx hb dL_law_258 rfl (lv_at hl 0 rfl) ?_
  refine lv_iconst (v := 2) hx hb dL_law_259 (by decide) ?_
  refine lv_iadd hx hb dL_law_260 ?_
  refine kd_sld (j := 6 * i + 2) hx hb hX hbl hbA hS (kd_ix_e (nI_add (6 * i) 2) (by omega) (by omega)) dL_law_261 ?_
  refine kd_li (rest := []) S (metX0_fill l D o a1 a2 a3 a4 a5 a6 a7 cB cI rd ph (kd_e k0) pl bg mm vv K dg ct H.size (xs (6 * i + 1)) (xs (6 * i + 2)) (kd_inv_pb hv) hv.1) (cwV 2 hts (lw_V q128 q129 q130 q9 q131) rfl rfl rfl (by decide +kernel) ⟨Nat.le_of_ble_eq_true rfl, Nat.le_of_ble_eq_true rfl⟩) hK hPx hPm hap hDx hS hA (x_rec hK hPx) rfl hl.1 rfl (Nat.le_of_ble_eq_true rfl) dL_law_262 ⟨Nat.le_of_ble_eq_true rfl, Nat.le_of_ble_eq_true rfl⟩ (fun r w H locs hw hPx hPm hap hDx hS => ?_)
  refine lv_aload_n hx hb dL_law_265 rfl (lv_at hl 1 rfl) ?_
  refine lv_aload_n hx hb dL_law_266 rfl (lv_at hl 3 rfl) ?_
  refine lv_iload_n hx hb dL_law_267 rfl (lv_at hl 0 rfl) ?_
  refine lv_iconst (v := 1) hx hb dL_law_268 (by decide) ?_
  refine lv_iadd hx hb dL_law_269 ?_
  refine kd_sld (j := 6 * i + 1) hx hb hX hbl hbA hS (kd_ix_e (nI_add (6 * i) 1) (by omega) (by omega)) dL_law_270 ?_
  refine lv_aload_n hx hb dL_law_271 rfl (lv_at hl 3 rfl) ?_
  refine lv_iload_n hx hb dL_law_272 rfl (lv_at hl 0 rfl) ?_
  refine lv_iconst (v := 2) hx hb dL_law_273 (by decide) ?_
  refine lv_iadd hx hb dL_law_274 ?_
  refine kd_sld (j := 6 * i + 2) hx hb hX hbl hbA hS (kd_ix_e (nI_add (6 * i) 2) (by omega) (by omega)) dL_law_275 ?_
  refine kd_li (rest := [.int r]) S (metX1_fill l D q0 b1 b2 b3 b4 b5 b6 cB cI rd ph k0 mm2 vv2 K dg ct H.size (xs (6 * i + 1)) (xs (6 * i + 2)) hv.1) (cwV 2 hts (lw_V q242 q243 q244 q10 q245) rfl rfl rfl (by decide +kernel) ⟨Nat.le_of_ble_eq_true rfl, Nat.le_of_ble_eq_true rfl⟩) hK hPm hPx hap.symm hDm hS hA (m_rec hK hPm) rfl hl.1 rfl (Nat.le_of_ble_eq_true rfl) dL_law_276 ⟨Nat.le_of_ble_eq_true rfl, Nat.le_of_ble_eq_true rfl⟩ (fun r2 w2 H locs hw2 hPm hPx hap hDm hS => ?_)
  rcases hw with ⟨hc, rfl, mm1, vv1, rfl⟩ | ⟨hc, rfl, mm1, vv1, rfl⟩
  · rcases hw2 with ⟨hc2, rfl, mm3, vv3, rfl⟩ | ⟨hc2, rfl, mm3, vv3, rfl⟩
    · refine lv_icmp_eq (tgt := 356) hx hb dL_law_279 (by decide) (fun _ => ?_) (fun z => absurd rfl z)
      exact kx rd ph k0 _ dg _ H locs ls ⟨_, _, mm1, vv1, mm3, vv3, ⟨kd_tN_ok hv.1 (fun _ => kd_by_of hc.2.1.1 hc.2.1.2) _, hv.2⟩, hPx, hPm, hap.symm, hDx, hDm, hS⟩ hl
    · exact absurd hc hc2
  · rcases hw2 with ⟨hc2, rfl, mm3, vv3, rfl⟩ | ⟨hc2, rfl, mm3, vv3, rfl⟩
    · exact absurd hc2 hc
    · refine lv_icmp_eq (tgt := 356) hx hb dL_law_279 (by decide) (fun _ => ?_) (fun z => absurd rfl z)
      exact kx rd ph k0 K dg ct H locs ls ⟨_, _, mm1, vv1, mm3, vv3, hv, hPx, hPm, hap.symm, hDx, hDm, hS⟩ hl
set_option maxHeartbeats 4000000 in
theorem kd_law6 (hL : L ≤ 384) (C0 : lw_At p s m meth c b L xs) (hK : va_K D vwCl (tyL cB cI) s) {i : Nat} (h6 : 6 * i + 6 ≤ L) {rd ph : Int32} {k0 : Nat → Int32} {K : kd_C} {dg : Int32} {ct : Int64} {H : Heap} {locs : List Loc} {ls : Array Slot} (hI : kd_LS D s.heap o a1 a2 a3 a4 a5 a6 a7 q0 b1 b2 b3 b4 b5 b6 cB cI rd ph k0 K dg ct H locs) (hl : lv_has ls 4 [(3, .int (nI (6 * i))), (2, .ref q0), (1, .ref o), (0, .ref b)])
    (kx : ∀ (rd ph : Int32) (k0 : Nat → Int32) (K : kd_C) (dg : Int32) (ct : Int64) (H : Heap) (locs : List Loc) (ls : Array Slot), kd_LS D s.heap o a1 a2 a3 a4 a5 a6 a7 q0 b1 b2 b3 b4 b5 b6 cB cI rd ph k0 K dg ct H locs → lv_has ls 4 [(3, .int (nI (6 * i))), (2, .ref q0), (1, .ref o), (0, .ref b)] → W p l e room_1 s m #[Value.ref b] below meth c H locs 20 700 (lw_Z below #[Value.ref b] s) (F0 m 356 ls [])) : W p l e room_1 s m #[Value.ref b] below meth c H locs 20 700 (lw_Z below #[Value.ref b] s) (F0 m 284 ls []) := by
  obtain ⟨hx, hb, hr, hml, hown, hts0, hX, hbl, hlocks, hgv⟩ := C0
  have hts : ∀ w ∈ lw_all, w.before #[Value.ref b] s = true := fun w h => hts0 w (lw_all_tbl h)
  have S : CallFix p m c cL_law 4 s #[Value.ref b] lw_all R_law := ⟨hx, hb, hml, hown, hts⟩
  have hA : ∀ q : Nat, s.heap.size ≤ q → (fun q : Nat => s.heap.size ≤ q) q := fun _ h => h
  have hbA : ¬ (fun q : Nat => s.heap.size ≤ q) b := Nat.not_le.mpr hbl
  obtain ⟨pl, bg, mm, vv, mm2, vv2, hv, hPx, hPm, hap, hDx, hDm, hS⟩ := hI
  refine lv_aload_n hx hb dL_law_284 rfl (lv_at hl 2 rfl) ?_
  refine kd_li (rest := []) S (metX0_finish l D o a1 a2 a3 a4 a5 a6 a7 cB cI rd ph (kd_e k0) pl bg mm vv K dg ct H.size  (kd_inv_pb hv) hv.1) (cwV 0 hts (lw_V q132 q133 q134 q9 q135) rfl rfl rfl (by decide +kernel) ⟨Nat.le_of_ble_eq_true rfl, Nat.le_of_ble_eq_true rfl⟩) hK hPx hPm hap hDx hS hA (x_rec hK hPx) rfl hl.1 rfl (Nat.le_of_ble_eq_true rfl) dL_law_285 ⟨Nat.le_of_ble_eq_true rfl, Nat.le_of_ble_eq_true rfl⟩ (fun r w H locs hw hPx hPm hap hDx hS => ?_)
  refine lv_aload_n hx hb dL_law_288 rfl (lv_at hl 1 rfl) ?_
  refine kd_li (rest := [.int r]) S (metX1_finish l D q0 b1 b2 b3 b4 b5 b6 cB cI rd ph k0 mm2 vv2 K dg ct H.size  hv.1) (cwV 0 hts (lw_V q246 q247 q248 q10 q249) rfl rfl rfl (by decide +kernel) ⟨Nat.le_of_ble_eq_true rfl, Nat.le_of_ble_eq_true rfl⟩) hK hPm hPx hap.symm hDm hS hA (m_rec hK hPm) rfl hl.1 rfl (Nat.le_of_ble_eq_true rfl) dL_law_289 ⟨Nat.le_of_ble_eq_true rfl, Nat.le_of_ble_eq_true rfl⟩ (fun r2 w2 H locs hw2 hPm hPx hap hDm hS => ?_)
  rcases hw with ⟨hc, rfl, mm1, vv1, rfl⟩ | ⟨hc, rfl, mm1, vv1, rfl⟩
  · rcases hw2 with ⟨hc2, rfl, mm3, vv3, rfl⟩ | ⟨hc2, rfl, mm3, vv3, rfl⟩
    · refine lv_icmp_eq (tgt := 356) hx hb dL_law_292 (by decide) (fun _ => ?_) (fun z => absurd rfl z)
      exact kx rd 2 k0 _ dg ct H locs ls ⟨_, _, mm1, vv1, mm3, vv3, ⟨kd_fin_ok hv.1, hv.2.1, hv.2.2.1, Or.inr (Or.inr rfl), fun _ => hv.2.2.2.2.1 (kd_ne01 hc), fun _ => hv.2.2.2.2.2 (kd_ne01 hc)⟩, hPx, hPm, hap.symm, hDx, hDm, hS⟩ hl
    · exact absurd hc hc2
  · rcases hw2 with ⟨hc2, rfl, mm3, vv3, rfl⟩ | ⟨hc2, rfl, mm3, vv3, rfl⟩
    · exact absurd hc2 hc
    · refine lv_icmp_eq (tgt := 356) hx hb dL_law_292 (by decide) (fun _ => ?_) (fun z => absurd rfl z)
      exact kx rd ph k0 K dg ct H locs ls ⟨_, _, mm1, vv1, mm3, vv3, hv, hPx, hPm, hap.symm, hDx, hDm, hS⟩ hl
set_option maxHeartbeats 4000000 in
theorem kd_law7 (hL : L ≤ 384) (C0 : lw_At p s m meth c b L xs) (hK : va_K D vwCl (tyL cB cI) s) {i : Nat} (h6 : 6 * i + 6 ≤ L) {rd ph : Int32} {k0 : Nat → Int32} {K : kd_C} {dg : Int32} {ct : Int64} {H : Heap} {locs : List Loc} {ls : Array Slot} (hI : kd_LS D s.heap o a1 a2 a3 a4 a5 a6 a7 q0 b1 b2 b3 b4 b5 b6 cB cI rd ph k0 K dg ct H locs) (hl : lv_has ls 4 [(3, .int (nI (6 * i))), (2, .ref q0), (1, .ref o), (0, .ref b)])
    (kx : ∀ (rd ph : Int32) (k0 : Nat → Int32) (K : kd_C) (dg : Int32) (ct : Int64) (H : Heap) (locs : List Loc) (ls : Array Slot), kd_LS D s.heap o a1 a2 a3 a4 a5 a6 a7 q0 b1 b2 b3 b4 b5 b6 cB cI rd ph k0 K dg ct H locs → lv_has ls 4 [(3, .int (nI (6 * i))), (2, .ref q0), (1, .ref o), (0, .ref b)] → W p l e room_1 s m #[Value.ref b] below meth c H locs 20 700 (lw_Z below #[Value.ref b] s) (F0 m 356 ls [])) : W p l e room_1 s m #[Value.ref b] below meth c H locs 20 700 (lw_Z below #[Value.ref b] s) (F0 m 297 ls []) := by
  obtain ⟨hx, hb, hr, hml, hown, hts0, hX, hbl, hlocks, hgv⟩ := C0
  have hts : ∀ w ∈ lw_all, w.before #[Value.ref b] s = true := fun w h => hts0 w (lw_all_tbl h)
  have S : CallFix p m c cL_law 4 s #[Value.ref b] lw_all R_law := ⟨hx, hb, hml, hown, hts⟩
  have hA : ∀ q : Nat, s.heap.size ≤ q → (fun q : Nat => s.heap.size ≤ q) q := fun _ h => h
  have hbA : ¬ (fun q : Nat => s.heap.size ≤ q) b := Nat.not_le.mpr hbl
  have hI0 := hI
  obtain ⟨pl, bg, mm, vv, mm2, vv2, hv, hPx, hPm, hap, hDx, hDm, hS⟩ := hI
  refine lv_aload_n hx hb dL_law_297 rfl (lv_at hl 2 rfl) ?_
  refine lv_aload_n hx hb dL_law_298 rfl (lv_at hl 3 rfl) ?_
  refine lv_iload_n hx hb dL_law_299 rfl (lv_at hl 0 rfl) ?_
  refine lv_iconst (v := 1) hx hb dL_law_300 (by decide) ?_
  refine lv_iadd hx hb dL_law_301 ?_
  refine kd_sld (j := 6 * i + 1) hx hb hX hbl hbA hS (kd_ix_e (nI_add (6 * i) 1) (by omega) (by omega)) dL_law_302 ?_
  refine kd_cr (rest := []) S (metX0_out l D o a1 a2 a3 a4 a5 a6 a7 cB cI rd ph (kd_e k0) pl bg K.1 mm vv (kd_e K.2.1) (nI K.2.2.1) K.2.2.2 dg ct (xs (6 * i + 1)) (kd_inv_32 hv)) (cwV 1 hts (lw_V q136 q137 q138 q9 q139) rfl rfl rfl (by decide +kernel) ⟨Nat.le_of_ble_eq_true rfl, Nat.le_of_ble_eq_true rfl⟩) hK hPx (x_rec hK hPx) rfl hl.1 rfl (Nat.le_of_ble_eq_true rfl) dL_law_303 ⟨Nat.le_of_ble_eq_true rfl, Nat.le_of_ble_eq_true rfl⟩ ?_
  refine lv_aload_n hx hb dL_law_306 rfl (lv_at hl 1 rfl) ?_
  refine lv_aload_n hx hb dL_law_307 rfl (lv_at hl 3 rfl) ?_
  refine lv_iload_n hx hb dL_law_308 rfl (lv_at hl 0 rfl) ?_
  refine lv_iconst (v := 1) hx hb dL_law_309 (by decide) ?_
  refine lv_iadd hx hb dL_law_310 ?_
  refine kd_sld (j := 6 * i + 1) hx hb hX hbl hbA hS (kd_ix_e (nI_add (6 * i) 1) (by omega) (by omega)) dL_law_311 ?_
  refine kd_cr (rest := [_]) S (metX1_out l D q0 b1 b2 b3 b4 b5 b6 cB cI rd ph k0 K.1 vv2 mm2 K.2.1 (nI K.2.2.1) K.2.2.2 dg ct kd_tbl (xs (6 * i + 1)) (kd_inv_32 hv)) (cwV 1 hts (lw_V q250 q251 q252 q10 q253) rfl rfl rfl (by decide +kernel) ⟨Nat.le_of_ble_eq_true rfl, Nat.le_of_ble_eq_true rfl⟩) hK hPm (m_rec hK hPm) rfl hl.1 rfl (Nat.le_of_ble_eq_true rfl) dL_law_312 ⟨Nat.le_of_ble_eq_true rfl, Nat.le_of_ble_eq_true rfl⟩ ?_
  refine lv_icmp_eq (tgt := 356) hx hb dL_law_315 (by decide) (fun _ => ?_) (fun z => absurd rfl z)
  exact kx rd ph k0 K dg ct H locs ls hI0 hl
set_option maxHeartbeats 4000000 in
theorem kd_law8 (hL : L ≤ 384) (C0 : lw_At p s m meth c b L xs) (hK : va_K D vwCl (tyL cB cI) s) {i : Nat} (h6 : 6 * i + 6 ≤ L) {rd ph : Int32} {k0 : Nat → Int32} {K : kd_C} {dg : Int32} {ct : Int64} {H : Heap} {locs : List Loc} {ls : Array Slot} (hI : kd_LS D s.heap o a1 a2 a3 a4 a5 a6 a7 q0 b1 b2 b3 b4 b5 b6 cB cI rd ph k0 K dg ct H locs) (hl : lv_has ls 4 [(3, .int (nI (6 * i))), (2, .ref q0), (1, .ref o), (0, .ref b)])
    (kx : ∀ (rd ph : Int32) (k0 : Nat → Int32) (K : kd_C) (dg : Int32) (ct : Int64) (H : Heap) (locs : List Loc) (ls : Array Slot), kd_LS D s.heap o a1 a2 a3 a4 a5 a6 a7 q0 b1 b2 b3 b4 b5 b6 cB cI rd ph k0 K dg ct H locs → lv_has ls 4 [(3, .int (nI (6 * i))), (2, .ref q0), (1, .ref o), (0, .ref b)] → W p l e room_1 s m #[Value.ref b] below meth c H locs 20 700 (lw_Z below #[Value.ref b] s) (F0 m 356 ls [])) : W p l e room_1 s m #[Value.ref b] below meth c H locs 20 700 (lw_Z below #[Value.ref b] s) (F0 m 320 ls []) := by
  obtain ⟨hx, hb, hr, hml, hown, hts0, hX, hbl, hlocks, hgv⟩ := C0
  have hts : ∀ w ∈ lw_all, w.before #[Value.ref b] s = true := fun w h => hts0 w (lw_all_tbl h)
  have S : CallFix p m c cL_law 4 s #[Value.ref b] lw_all R_law := ⟨hx, hb, hml, hown, hts⟩
  have hA : ∀ q : Nat, s.heap.size ≤ q → (fun q : Nat => s.heap.size ≤ q) q := fun _ h => h
  have hbA : ¬ (fun q : Nat => s.heap.size ≤ q) b := Nat.not_le.mpr hbl
  have hI0 := hI
  obtain ⟨pl, bg, mm, vv, mm2, vv2, hv, hPx, hPm, hap, hDx, hDm, hS⟩ := hI
  refine lv_aload_n hx hb dL_law_320 rfl (lv_at hl 2 rfl) ?_
  refine kd_cr (rest := []) S (metX0_length l D o a1 a2 a3 a4 a5 a6 a7 cB cI rd ph (kd_e k0) pl bg K.1 mm vv (kd_e K.2.1) (nI K.2.2.1) K.2.2.2 dg ct ) (cwV 0 hts (lw_V q140 q141 q142 q9 q143) rfl rfl rfl (by decide +kernel) ⟨Nat.le_of_ble_eq_true rfl, Nat.le_of_ble_eq_true rfl⟩) hK hPx (x_rec hK hPx) rfl hl.1 rfl (Nat.le_of_ble_eq_true rfl) dL_law_321 ⟨Nat.le_of_ble_eq_true rfl, Nat.le_of_ble_eq_true rfl⟩ ?_
  refine lv_aload_n hx hb dL_law_324 rfl (lv_at hl 1 rfl) ?_
  refine kd_cr (rest := [_]) S (metX1_length l D q0 b1 b2 b3 b4 b5 b6 cB cI rd ph k0 K.1 vv2 mm2 K.2.1 (nI K.2.2.1) K.2.2.2 dg ct kd_tbl hv.2.2.2.1) (cwV 0 hts (lw_V q254 q255 q256 q10 q257) rfl rfl rfl (by decide +kernel) ⟨Nat.le_of_ble_eq_true rfl, Nat.le_of_ble_eq_true rfl⟩) hK hPm (m_rec hK hPm) rfl hl.1 rfl (Nat.le_of_ble_eq_true rfl) dL_law_325 ⟨Nat.le_of_ble_eq_true rfl, Nat.le_of_ble_eq_true rfl⟩ ?_
  refine lv_icmp_eq (tgt := 356) hx hb dL_law_328 (by decide) (fun _ => ?_) (fun z => absurd rfl z)
  exact kx rd ph k0 K dg ct H locs ls hI0 hl
set_option maxHeartbeats 4000000 in
theorem kd_law9 (hL : L ≤ 384) (C0 : lw_At p s m meth c b L xs) (hK : va_K D vwCl (tyL cB cI) s) {i : Nat} (h6 : 6 * i + 6 ≤ L) {rd ph : Int32} {k0 : Nat → Int32} {K : kd_C} {dg : Int32} {ct : Int64} {H : Heap} {locs : List Loc} {ls : Array Slot} (hI : kd_LS D s.heap o a1 a2 a3 a4 a5 a6 a7 q0 b1 b2 b3 b4 b5 b6 cB cI rd ph k0 K dg ct H locs) (hl : lv_has ls 4 [(3, .int (nI (6 * i))), (2, .ref q0), (1, .ref o), (0, .ref b)])
    (kx : ∀ (rd ph : Int32) (k0 : Nat → Int32) (K : kd_C) (dg : Int32) (ct : Int64) (H : Heap) (locs : List Loc) (ls : Array Slot), kd_LS D s.heap o a1 a2 a3 a4 a5 a6 a7 q0 b1 b2 b3 b4 b5 b6 cB cI rd ph k0 K dg ct H locs → lv_has ls 4 [(3, .int (nI (6 * i))), (2, .ref q0), (1, .ref o), (0, .ref b)] → W p l e room_1 s m #[Value.ref b] below meth c H locs 20 700 (lw_Z below #[Value.ref b] s) (F0 m 356 ls [])) : W p l e room_1 s m #[Value.ref b] below meth c H locs 20 700 (lw_Z below #[Value.ref b] s) (F0 m 333 ls []) := by
  obtain ⟨hx, hb, hr, hml, hown, hts0, hX, hbl, hlocks, hgv⟩ := C0
  have hts : ∀ w ∈ lw_all, w.before #[Value.ref b] s = true := fun w h => hts0 w (lw_all_tbl h)
  have S : CallFix p m c cL_law 4 s #[Value.ref b] lw_all R_law := ⟨hx, hb, hml, hown, hts⟩
  have hA : ∀ q : Nat, s.heap.size ≤ q → (fun q : Nat => s.heap.size ≤ q) q := fun _ h => h
  have hbA : ¬ (fun q : Nat => s.heap.size ≤ q) b := Nat.not_le.mpr hbl
  have hI0 := hI
  obtain ⟨pl, bg, mm, vv, mm2, vv2, hv, hPx, hPm, hap, hDx, hDm, hS⟩ := hI
  refine lv_aload_n hx hb dL_law_333 rfl (lv_at hl 2 rfl) ?_
  refine lv_aload_n hx hb dL_law_334 rfl (lv_at hl 3 rfl) ?_
  refine lv_iload_n hx hb dL_law_335 rfl (lv_at hl 0 rfl) ?_
  refine lv_iconst (v := 1) hx hb dL_law_336 (by decide) ?_
  refine lv_iadd hx hb dL_law_337 ?_
  refine kd_sld (j := 6 * i + 1) hx hb hX hbl hbA hS (kd_ix_e (nI_add (6 * i) 1) (by omega) (by omega)) dL_law_338 ?_
  refine kd_cr (rest := []) S (metX0_word l D o a1 a2 a3 a4 a5 a6 a7 cB cI rd ph (kd_e k0) pl bg K.1 mm vv (kd_e K.2.1) (nI K.2.2.1) K.2.2.2 dg ct (xs (6 * i + 1))) (cwV 1 hts (lw_V q144 q145 q146 q9 q147) rfl rfl rfl (by decide +kernel) ⟨Nat.le_of_ble_eq_true rfl, Nat.le_of_ble_eq_true rfl⟩) hK hPx (x_rec hK hPx) rfl hl.1 rfl (Nat.le_of_ble_eq_true rfl) dL_law_339 ⟨Nat.le_of_ble_eq_true rfl, Nat.le_of_ble_eq_true rfl⟩ ?_
  refine lv_aload_n hx hb dL_law_342 rfl (lv_at hl 1 rfl) ?_
  refine lv_aload_n hx hb dL_law_343 rfl (lv_at hl 3 rfl) ?_
  refine lv_iload_n hx hb dL_law_344 rfl (lv_at hl 0 rfl) ?_
  refine lv_iconst (v := 1) hx hb dL_law_345 (by decide) ?_
  refine lv_iadd hx hb dL_law_346 ?_
  refine kd_sld (j := 6 * i + 1) hx hb hX hbl hbA hS (kd_ix_e (nI_add (6 * i) 1) (by omega) (by omega)) dL_law_347 ?_
  refine kd_cr (rest := [_]) S (metX1_word l D q0 b1 b2 b3 b4 b5 b6 cB cI rd ph k0 K.1 vv2 mm2 K.2.1 (nI K.2.2.1) K.2.2.2 dg ct kd_tbl (xs (6 * i + 1)) hv.2.2.2.1) (cwV 1 hts (lw_V q258 q259 q260 q10 q261) rfl rfl rfl (by decide +kernel) ⟨Nat.le_of_ble_eq_true rfl, Nat.le_of_ble_eq_true rfl⟩) hK hPm (m_rec hK hPm) rfl hl.1 rfl (Nat.le_of_ble_eq_true rfl) dL_law_348 ⟨Nat.le_of_ble_eq_true rfl, Nat.le_of_ble_eq_true rfl⟩ ?_
  refine lv_icmp_eq (tgt := 356) hx hb dL_law_351 (by decide) (fun _ => ?_) (fun z => absurd rfl z)
  exact kx rd ph k0 K dg ct H locs ls hI0 hl
end LAW
end
section
set_option maxRecDepth 100000
section LAWL
variable {p : Program} {l : Launch} {e : Env} {s : State} {m : MethodId} {below : List Frame} {meth : Method} {c : Code} {b L : Nat} {xs : Nat → Int32} {D : va_G} {cB cI : ClassId} {o a1 a2 a3 a4 a5 a6 a7 q0 b1 b2 b3 b4 b5 b6 : Nat}
set_option maxHeartbeats 4000000 in
/-- the law's loop: both objects hold one state at its head -/
theorem kd_lawl (hL : L ≤ 384) (C0 : lw_At p s m meth c b L xs) (hK : va_K D vwCl (tyL cB cI) s) : ∀ (n i : Nat), L < 6 * i + 6 * n + 6 → 6 * i ≤ 400 → ∀ (rd ph : Int32) (k0 : Nat → Int32) (K : kd_C) (dg : Int32) (ct : Int64) (H : Heap) (locs : List Loc) (ls : Array Slot), kd_LS D s.heap o a1 a2 a3 a4 a5 a6 a7 q0 b1 b2 b3 b4 b5 b6 cB cI rd ph k0 K dg ct H locs → lv_has ls 4 [(3, .int (nI (6 * i))), (2, .ref q0), (1, .ref o), (0, .ref b)] → W p l e room_1 s m #[Value.ref b] below meth c H locs 20 700 (lw_Z below #[Value.ref b] s) (F0 m 18 ls []) := by
  have C1 := C0
  obtain ⟨hx, hb, hr, hml, hown, hts0, hX, hbl, hlocks, hgv⟩ := C0
  have hbA : ¬ (fun q : Nat => s.heap.size ≤ q) b := Nat.not_le.mpr hbl
  have fin : ∀ (H : Heap) (locs : List Loc) (ls : Array Slot), va_S (fun q : Nat => s.heap.size ≤ q) s.heap H locs → W p l e room_1 s m #[Value.ref b] below meth c H locs 20 700 (lw_Z below #[Value.ref b] s) (F0 m 362 ls []) := by
    intro H locs ls hS
    refine lv_iconst (v := 1) hx hb dL_law_362 (by decide) ?_
    refine va_forget (fun q hq => hS.2.2 q hq) ?_
    refine W.widen (k := 600000) (n := 7290000) (Nat.le_of_ble_eq_true rfl) (Nat.le_of_ble_eq_true rfl) ?_
    exact lw_ret hx hb hr hlocks dL_law_363
  intro n
  induction n with
  | zero =>
    intro i hn hi rd ph k0 K dg ct H locs ls hI hl
    obtain ⟨pl, bg, mm, vv, mm2, vv2, hv, hPx, hPm, hap, hDx, hDm, hS⟩ := hI
    refine lv_iload_n hx hb dL_law_18 rfl (lv_at hl 0 rfl) ?_
    refine lv_aload_n hx hb dL_law_19 rfl (lv_at hl 3 rfl) ?_
    refine va_slen hx hb hX hbl hbA hS dL_law_20 ?_
    refine lv_bipush (v := 6) hx hb dL_law_21 (by decide) ?_
    refine lv_isub hx hb dL_law_23 ?_
    refine lv_icmp_gt (tgt := 362) hx hb dL_law_24 (by decide) (fun hc => ?_) (fun hc => ?_)
    · exact fin H locs ls hS
    · exact absurd (kd_six hL hi hc) (by omega)
  | succ n ih =>
    intro i hn hi rd ph k0 K dg ct H locs ls hI hl
    have hI0 := hI
    obtain ⟨pl, bg, mm, vv, mm2, vv2, hv, hPx, hPm, hap, hDx, hDm, hS⟩ := hI
    refine lv_iload_n hx hb dL_law_18 rfl (lv_at hl 0 rfl) ?_
    refine lv_aload_n hx hb dL_law_19 rfl (lv_at hl 3 rfl) ?_
    refine va_slen hx hb hX hbl hbA hS dL_law_20 ?_
    refine lv_bipush (v := 6) hx hb dL_law_21 (by decide) ?_
    refine lv_isub hx hb dL_law_23 ?_
    refine lv_icmp_gt (tgt := 362) hx hb dL_law_24 (by decide) (fun hc => ?_) (fun hc => ?_)
    · exact fin H locs ls hS
    · have h6 := kd_six hL hi hc
      have kx : ∀ (rd ph : Int32) (k0 : Nat → Int32) (K : kd_C) (dg : Int32) (ct : Int64) (H : Heap) (locs : List Loc) (ls : Array Slot), kd_LS D s.heap o a1 a2 a3 a4 a5 a6 a7 q0 b1 b2 b3 b4 b5 b6 cB cI rd ph k0 K dg ct H locs → lv_has ls 4 [(3, .int (nI (6 * i))), (2, .ref q0), (1, .ref o), (0, .ref b)] → W p l e room_1 s m #[Value.ref b] below meth c H locs 20 700 (lw_Z below #[Value.ref b] s) (F0 m 356 ls []) := by
        intro rd ph k0 K dg ct H locs ls hI hl
        refine lv_iinc (v := nI (6 * (i + 1))) (lv' := [(3, .int (nI (6 * (i + 1)))), (2, .ref q0), (1, .ref o), (0, .ref b)]) hx hb dL_law_356 hl (k := 0) rfl (nI_add (6 * i) 6) (by decide) rfl (fun ls hl => ?_)
        refine lv_goto (tgt := 18) hx hb dL_law_359 (by decide) ?_
        exact ih (i + 1) (by omega) (by omega) rd ph k0 K dg ct H locs ls hI hl
      refine lv_aload_n hx hb dL_law_27 rfl (lv_at hl 3 rfl) ?_
      refine lv_iload_n hx hb dL_law_28 rfl (lv_at hl 0 rfl) ?_
      refine kd_sld (j := 6 * i) hx hb hX hbl hbA hS (kd_ix_n (by omega) (by omega)) dL_law_29 ?_
      refine lv_bipush (v := 15) hx hb dL_law_30 (by decide) ?_
      refine lv_iand hx hb dL_law_32 ?_
      obtain ⟨t, ht, et⟩ := pk_andE (xs (6 * i)) (m := 15) 4 (by decide)
      refine W.eq (g2 := F0 m 33 ls [.int (nI t)]) (by rw [et]) ?_
      rcases (show t = 0 ∨ t = 1 ∨ t = 2 ∨ t = 3 ∨ t = 4 ∨ t = 5 ∨ t = 6 ∨ t = 7 ∨ t = 8 ∨ t = 9 ∨ 9 < t by omega) with rfl | rfl | rfl | rfl | rfl | rfl | rfl | rfl | rfl | rfl | h9
      · refine lv_tableIn (off := 55) (tgt := 88) hx hb dL_law_33 (by decide) (by decide) rfl (by decide) ?_
        exact kd_law0 hL C1 hK h6 hI0 hl kx
      · refine lv_tableIn (off := 66) (tgt := 99) hx hb dL_law_33 (by decide) (by decide) rfl (by decide) ?_
        exact kd_law1 hL C1 hK h6 hI0 hl kx
      · refine lv_tableIn (off := 99) (tgt := 132) hx hb dL_law_33 (by decide) (by decide) rfl (by decide) ?_
        exact kd_law2 hL C1 hK h6 hI0 hl kx
      · refine lv_tableIn (off := 132) (tgt := 165) hx hb dL_law_33 (by decide) (by decide) rfl (by decide) ?_
        exact kd_law3 hL C1 hK h6 hI0 hl kx
      · refine lv_tableIn (off := 155) (tgt := 188) hx hb dL_law_33 (by decide) (by decide) rfl (by decide) ?_
        exact kd_law4 hL C1 hK h6 hI0 hl kx
      · refine lv_tableIn (off := 218) (tgt := 251) hx hb dL_law_33 (by decide) (by decide) rfl (by decide) ?_
        exact kd_law5 hL C1 hK h6 hI0 hl kx
      · refine lv_tableIn (off := 251) (tgt := 284) hx hb dL_law_33 (by decide) (by decide) rfl (by decide) ?_
        exact kd_law6 hL C1 hK h6 hI0 hl kx
      · refine lv_tableIn (off := 264) (tgt := 297) hx hb dL_law_33 (by decide) (by decide) rfl (by decide) ?_
        exact kd_law7 hL C1 hK h6 hI0 hl kx
      · refine lv_tableIn (off := 287) (tgt := 320) hx hb dL_law_33 (by decide) (by decide) rfl (by decide) ?_
        exact kd_law8 hL C1 hK h6 hI0 hl kx
      · refine lv_tableIn (off := 300) (tgt := 333) hx hb dL_law_33 (by decide) (by decide) rfl (by decide) ?_
        exact kd_law9 hL C1 hK h6 hI0 hl kx
      · refine lv_tableOut (tgt := 356) hx hb dL_law_33 (Or.inr (by rw [nI_toInt (by omega)]; omega)) (by decide) ?_
        exact kx rd ph k0 K dg ct H locs ls hI0 hl
end LAWL
section LAWC
variable {p : Program} {l : Launch} {e : Env} {R : Room} {s : State} {m : MethodId} {args : Array Value} {below : List Frame} {meth : Method} {c : Code} {H : Heap} {locs : List Loc} {cells slots : Nat} {Q : State → Prop}
variable {cc : ByteArray} {pc nL : Nat} {ls : Array Slot} {rest : List Value} {D : va_G} {A : Nat → Prop} {H0 : Heap} {tys : List (ClassId × FieldType)}
variable {own : String} {y : MethodName} {bytes : ByteArray} {index b mc ms : Nat} {rm : Room} {st : List Value} {W0 W2 : va_W}
/-- a constructor's call: it has W0, the other world W2 stays -/
theorem kd_cn {WS : ClassId × ClassId × va_W → Prop} (S : CallFix p m c cc nL s args lw_all own) (hM : kd_MN l y bytes rm b D tys W0 H.size mc ms WS) (cw : CallB R s args own index y bytes 1 none (ws_ y bytes 1 none) rm mc ms 0 ∧ y.name = "<init>" ∧ (Cond.instanceMethod y).before args s = true) (hK : va_K D vwCl tys s) (hP : va_P D vwCl W0 H) (hP2 : va_P D vwCl W2 H) (hap : kd_ap W0 W2) (hD : va_D A W0) (hS : va_S A H0 H locs) (hA : ∀ q, H0.size ≤ q → A q)
    (hsz : ls.size = nL) (hst : st = .ref b :: rest) (hW : (rest.map fun v => v.category).sum ≤ 8) (hdg : decode cc pc = .ok (.invokespecial index, 3)) (hf : cells + mc ≤ R.cells ∧ slots + ms ≤ R.slots)
    (kk : ∀ (w : ClassId × ClassId × va_W) (H1 : Heap) (locs1 : List Loc), WS w → va_K D vwCl (tyL w.1 w.2.1) s → va_P D vwCl w.2.2 H1 → va_P D vwCl W2 H1 → kd_ap w.2.2 W2 → va_D A w.2.2 → va_S A H0 H1 locs1 → W p l e R s m args below meth c H1 locs1 (cells + mc) (slots + ms) Q (F0 m (pc + 3) ls rest)) : W p l e R s m args below meth c H locs cells slots Q (F0 m pc ls st) := by
  have hFc := kd_fr hD hS hA
  have hoff := kd_off hP2 hap
  refine va_callv (va_runI (As := []) (rest := rest) S hM cw ⟨kd_blind, fun U hU hWm => ⟨rfl, by rw [hU], by rw [hU]; exact hP, va_K.moved hWm.alike hK, hD.weaken (fun _ _ _ _ => trivial)⟩⟩ rfl rfl hsz hst (lv_room (m := m) (pc := pc) (ls := ls) (rest := st) hW) hdg hf) hS (fun q _ h => hFc q h) hFc (fun u t H1 locs1 ht hvm hw hB hz hk hS1 => ?_)
  obtain ⟨hP1, hK1, hD1⟩ := hB
  rw [ht] at hP1
  exact kk u H1 locs1 hw (va_K.moved hvm.symm hK1) hP1 (hP2.kept (fun k q hq => hk q.1 (hoff k q hq).1 (hoff k q hq).2)) (fun i j x y hx hy e => (hoff j y hy).2 (by rw [← e]; exact hD1.2 i x hx)) (hD1.weaken (fun k q _ h => hFc q.1 h)) hS1
end LAWC
set_option maxHeartbeats 4000000 in
/-- THE LAW, from its entry -/
theorem whole_start {p : Program} {e : Env} {s : State} {m : MethodId} {below : List Frame} {meth : Method} {c : Code} (l : Launch) {b L : Nat} {xs : Nat → Int32} (hL : L ≤ 384) (C0 : lw_At p s m meth c b L xs) : W p l e room_1 s m #[Value.ref b] below meth c s.heap [] 0 0 (lw_Z below #[Value.ref b] s) (entryFrame m ([Value.ref b] : List Value).toArray 4) := by
  obtain ⟨hx, hb, hr, hml, hown, hts0, hX, hbl, hlocks, hgv⟩ := id C0
  have hts : ∀ w ∈ lw_all, w.before #[Value.ref b] s = true := fun w h => hts0 w (lw_all_tbl h)
  have S : CallFix p m c cL_law 4 s #[Value.ref b] lw_all R_law := ⟨hx, hb, hml, hown, hts⟩
  have hA : ∀ q : Nat, s.heap.size ≤ q → (fun q : Nat => s.heap.size ≤ q) q := fun _ h => h
  obtain ⟨c0, iS0, hKn0⟩ := u_known (C := RX0) (T := TX0) (N := 13) (n := 13) hts0 (fun w h => lw_all_tbl (in_X0 w h)) (hts _ q12)
  obtain ⟨c1, iS1, hKn1⟩ := u_known (C := RX1) (T := TX1) (N := 13) (n := 13) hts0 (fun w h => lw_all_tbl (in_X1 w h)) (hts _ q149)
  obtain ⟨D, hKc⟩ : ∃ D : va_G, ∀ (k : Nat) (q : vw_C), vwCl[k]? = some q → u_Kn s q.1 q.2.1 q.2.2 (D.1 k) (D.2 k) := by
    refine ⟨(fun k => if k = 0 then c0 else c1, fun k => if k = 0 then iS0 else iS1), ?_⟩
    intro k q hq
    match k, hq with
    | 0, hq => cases hq; exact hKn0
    | 1, hq => cases hq; exact hKn1
    | k + 2, hq => simp [vwCl] at hq
  have hS : va_S (fun q : Nat => s.heap.size ≤ q) s.heap s.heap [] := va_S.rf
  have hK : va_K D vwCl [] s := ⟨hKc, fun k q h => by simp at h⟩
  have hP : va_P D vwCl [] s.heap := fun k q h => by simp at h
  have hD : va_D (fun q : Nat => s.heap.size ≤ q) [] := ⟨fun i j p q h => by simp at h, fun k q h => by simp at h⟩
  have hl := lv_entry ([.ref b]) (n := 4) (Nat.le_of_ble_eq_true rfl)
  rw [lg_entry_eq]
  generalize (lg_sl ([.ref b]) ++ List.replicate (4 - (lg_sl ([.ref b])).length) Slot.unset).toArray = ls at hl ⊢
  have hl : lv_has ls 4 [(0, .ref b)] := hl
  refine va_new (ci := 0) (fs := [.int 0, .int 0, .null, .null, .null, .null, .null, .null, .null, .int 0, .long 0, .int 0, .long 0]) (C := RX0) (T := TX0) (N := 13) hx hb hts in_X0 tyX0 tyX0_ok hown (hts _ q11) (hts _ q12) (hts _ q9) hK hP hD hS hA rfl (fun j hj => by rcases (show j = 0 ∨ j = 1 ∨ j = 2 ∨ j = 3 ∨ j = 4 ∨ j = 5 ∨ j = 6 ∨ j = 7 ∨ j = 8 ∨ j = 9 ∨ j = 10 ∨ j = 11 ∨ j = 12 by omega) with rfl | rfl | rfl | rfl | rfl | rfl | rfl | rfl | rfl | rfl | rfl | rfl | rfl <;> rfl) (Nat.le_of_ble_eq_true rfl) (Nat.le_of_ble_eq_true rfl) dL_law_0 (fun o H hP hD hS => ?_)
  have hP : va_P D vwCl [(o, .inr (0, [.int 0, .int 0, .null, .null, .null, .null, .null, .null, .null, .int 0, .long 0, .int 0, .long 0]))] H := hP
  have hD : va_D (fun q : Nat => s.heap.size ≤ q) [(o, .inr (0, [.int 0, .int 0, .null, .null, .null, .null, .null, .null, .null, .int 0, .long 0, .int 0, .long 0]))] := hD
  refine lv_dup hx hb dL_law_3 rfl ?_
  refine kd_cn (rest := [.ref o]) (W2 := []) S (metX0_init l D o H.size) (cwI 0 hts (lw_meth q15) rfl rfl rfl (hts _ q9) (hts _ q13) (hts _ q14) rfl (by decide +kernel) ⟨Nat.le_of_ble_eq_true rfl, Nat.le_of_ble_eq_true rfl⟩) hK hP (fun k q h => by simp at h) (fun i j x y hx hy => by simp at hy) hD hS hA hl.1 rfl (Nat.le_of_ble_eq_true rfl) dL_law_4 ⟨Nat.le_of_ble_eq_true rfl, Nat.le_of_ble_eq_true rfl⟩ (fun w H locs hw hK hP _ _ hD hS => ?_)
  obtain ⟨cB, cI, w⟩ := w
  obtain ⟨a1, a2, a3, a4, a5, a6, a7, hw⟩ := hw
  have hw : w = (xw o a1 a2 a3 a4 a5 a6 a7 cB cI 0 0 (fun _ => 0) (fun _ => 0) (fun _ => 0) (fun _ => 0) (fun _ => 0) (fun _ => 0) (fun _ => 0) 0 0 0 0) := hw
  subst hw
  have hK : va_K D vwCl (tyL cB cI) s := hK
  have hP : va_P D vwCl (xw o a1 a2 a3 a4 a5 a6 a7 cB cI 0 0 (fun _ => 0) (fun _ => 0) (fun _ => 0) (fun _ => 0) (fun _ => 0) (fun _ => 0) (fun _ => 0) 0 0 0 0) H := hP
  have hD : va_D (fun q : Nat => s.heap.size ≤ q) (xw o a1 a2 a3 a4 a5 a6 a7 cB cI 0 0 (fun _ => 0) (fun _ => 0) (fun _ => 0) (fun _ => 0) (fun _ => 0) (fun _ => 0) (fun _ => 0) 0 0 0 0) := hD
  refine lv_astore_n (lv' := [(1, .ref o), (0, .ref b)]) hx hb dL_law_7 rfl hl (by decide) rfl (fun ls hl => ?_)
  refine va_new (ci := 1) (fs := [.int 0, .int 0, .int 0, .null, .null, .null, .null, .null, .int 0, .long 0, .int 0, .int 0, .null]) (C := RX1) (T := TX1) (N := 13) hx hb hts in_X1 tyX1 tyX1_ok hown (hts _ q148) (hts _ q149) (hts _ q10) hK hP hD hS hA rfl (fun j hj => by rcases (show j = 0 ∨ j = 1 ∨ j = 2 ∨ j = 3 ∨ j = 4 ∨ j = 5 ∨ j = 6 ∨ j = 7 ∨ j = 8 ∨ j = 9 ∨ j = 10 ∨ j = 11 ∨ j = 12 by omega) with rfl | rfl | rfl | rfl | rfl | rfl | rfl | rfl | rfl | rfl | rfl | rfl | rfl <;> rfl) (Nat.le_of_ble_eq_true rfl) (Nat.le_of_ble_eq_true rfl) dL_law_8 (fun q0 H hP hD hS => ?_)
  have hap := kd_ap_of hD
  have hPx := hP.sub (ws' := (xw o a1 a2 a3 a4 a5 a6 a7 cB cI 0 0 (fun _ => 0) (fun _ => 0) (fun _ => 0) (fun _ => 0) (fun _ => 0) (fun _ => 0) (fun _ => 0) 0 0 0 0)) [0, 1, 2, 3, 4, 5, 6, 7] rfl
  have hDx := hD.sub (ws' := (xw o a1 a2 a3 a4 a5 a6 a7 cB cI 0 0 (fun _ => 0) (fun _ => 0) (fun _ => 0) (fun _ => 0) (fun _ => 0) (fun _ => 0) (fun _ => 0) 0 0 0 0)) [0, 1, 2, 3, 4, 5, 6, 7] (by decide) rfl
  have hPm := hP.sub (ws' := [(q0, .inr (1, [.int 0, .int 0, .int 0, .null, .null, .null, .null, .null, .int 0, .long 0, .int 0, .int 0, .null]))]) [8] rfl
  have hDm := hD.sub (ws' := [(q0, .inr (1, [.int 0, .int 0, .int 0, .null, .null, .null, .null, .null, .int 0, .long 0, .int 0, .int 0, .null]))]) [8] (by decide) rfl
  refine lv_dup hx hb dL_law_11 rfl ?_
  refine kd_cn (rest := [.ref q0]) (W2 := (xw o a1 a2 a3 a4 a5 a6 a7 cB cI 0 0 (fun _ => 0) (fun _ => 0) (fun _ => 0) (fun _ => 0) (fun _ => 0) (fun _ => 0) (fun _ => 0) 0 0 0 0)) S (metX1_init l D q0 H.size cB cI) (cwI 0 hts (lw_meth q152) rfl rfl rfl (hts _ q10) (hts _ q150) (hts _ q151) rfl (by decide +kernel) ⟨Nat.le_of_ble_eq_true rfl, Nat.le_of_ble_eq_true rfl⟩) hK hPm hPx hap hDm hS hA hl.1 rfl (Nat.le_of_ble_eq_true rfl) dL_law_12 ⟨Nat.le_of_ble_eq_true rfl, Nat.le_of_ble_eq_true rfl⟩ (fun w H locs hw hK hPm hPx hap hDm hS => ?_)
  obtain ⟨dB, dI, w⟩ := w
  obtain ⟨e1, e2, b1, b2, b3, b4, b5, b6, ew⟩ := hw
  have e1 : dB = cB := e1
  have e2 : dI = cI := e2
  have ew : w = (mw q0 b1 b2 b3 b4 b5 b6 cI 0 0 0 (fun _ => 0) (fun _ => 0) (fun _ => 0) (fun _ => 0) (fun _ => 0) 0 0 0 0 kd_tbl) := ew
  subst e1
  subst e2
  subst ew
  have hK : va_K D vwCl (tyL dB dI) s := hK
  refine lv_astore_n (lv' := [(2, .ref q0), (1, .ref o), (0, .ref b)]) hx hb dL_law_15 rfl hl (by decide) rfl (fun ls hl => ?_)
  refine lv_iconst (v := 0) hx hb dL_law_16 (by decide) ?_
  refine lv_istore_n (lv' := [(3, .int 0), (2, .ref q0), (1, .ref o), (0, .ref b)]) hx hb dL_law_17 rfl hl (by decide) rfl (fun ls hl => ?_)
  refine W.widen (k := 20) (n := 700) (by decide) (by decide) ?_
  have hv : kd_inv 0 0 (fun _ => 0) (((fun _ => 0), (fun _ => 0), 0, 0) : kd_C) 0 (fun _ => 0) (fun _ => 0) := ⟨⟨Nat.zero_le _, fun _ => kd_by_0⟩, fun _ => kd_by_0, fun z => absurd rfl z, Or.inl rfl, fun z => absurd rfl z, fun z => absurd rfl z⟩
  refine kd_lawl (a1 := a1) (a2 := a2) (a3 := a3) (a4 := a4) (a5 := a5) (a6 := a6) (a7 := a7) (b1 := b1) (b2 := b2) (b3 := b3) (b4 := b4) (b5 := b5) (b6 := b6) hL C0 hK 64 0 (by omega) (by omega) 0 0 (fun _ => 0) (((fun _ => 0), (fun _ => 0), 0, 0) : kd_C) 0 0 H locs ls ⟨(fun _ => 0), (fun _ => 0), (fun _ => 0), (fun _ => 0), (fun _ => 0), (fun _ => 0), hv, ?_, ?_, ?_, ?_, ?_, hS⟩ hl
  · rw [kd_e_z]; exact hPx
  · rw [kd_op0, kd_do0]; exact hPm
  · rw [kd_e_z, kd_op0, kd_do0]; exact hap.symm
  · rw [kd_e_z]; exact hDx
  · rw [kd_op0, kd_do0]; exact hDm
end
section
set_option maxRecDepth 100000
set_option maxHeartbeats 4000000 in
theorem lw_walk (l : Launch) (b : Addr) (xs : List Int32) : MetFree l x (headSpec (Jvm.Cond.code x code maxLocals ret :: tables_1) room_1) (lw_P b xs) (fun _ _ _ _ _ => True) lw_Q := by
  refine MetFree.of_bodyS (code := code) (maxLocals := maxLocals) (ret := ret) (by decide) ?_ ?_
  · intro args s m h hn
    obtain ⟨meth, c, h1, h2, h3, h4, h5, h6, -, -⟩ := Cond.code_spec hn (atoms_spec (ws := Jvm.Cond.code x code maxLocals ret :: tables_1) h _ List.mem_cons_self)
    exact ⟨meth, c, h1, h2, h3, h4, h5, h6⟩
  · intro p e s m args below meth c s₁ B hml0 hP _
    obtain ⟨rfl, hx, hbd, hgv⟩ := hP
    obtain ⟨scr, harrAt, hlist, hof, hsmall⟩ := hx
    obtain ⟨hcb, hkn, -, -⟩ := State.arrayAt?_spec harrAt
    have hown : s.vm.findClass R_law = some m.cls := findClass_of_methodNamed B.named
    have hts0 : ∀ c ∈ (Jvm.Cond.code x code maxLocals ret :: tables_1), c.before #[Value.ref b] s = true := atoms_spec (ws := Jvm.Cond.code x code maxLocals ret :: tables_1) B.pre
    have hts : ∀ w ∈ lw_tbl, w.before #[Value.ref b] s = true := k2_hts_sels lw_privs (fun w hw => hts0 w (List.mem_cons_of_mem _ hw)) lw_privs_ok
    have hml : c.maxLocals = 4 := B.maxLocals_eq (hts0 _ List.mem_cons_self)
    have X₀ : Stand p l e room_1 s m #[Value.ref b] below meth c s₁ [] 0 0 := Stand.of_body B
    have hh0 : s₁.heap = s.heap := by rw [B.state]; rfl
    have hsz : scr.slots.size = xs.length := by rw [← Array.length_toList, hlist, List.length_map]
    have hval : ∀ j : Nat, j < xs.length → scr.slots[j]? = some (.int (xs.getD j 0)) := fun j hj => by
      rw [← Array.getElem?_toList, hlist]
      simp [hj]
    have hbl : b < s.heap.size := (Array.getElem?_eq_some_iff.mp hcb).1
    have hX : va_X b xs.length (fun j => xs.getD j 0) s s.heap := ⟨scr, hcb, hof, hkn, hsz, hval⟩
    have K : W p l e room_1 s m #[Value.ref b] below meth c s₁.heap [] 0 0 (lw_Z below #[Value.ref b] s) (entryFrame m ([Value.ref b] : List Value).toArray 4) := by
      rw [hh0]
      exact whole_start l hbd ⟨B.exec, B.bytes, B.returns, hml, hown, hts, hX, hbl, B.notSynchronized, hgv⟩
    obtain ⟨t, a1, o, b1, b2, b3⟩ := K s₁ rfl X₀
    exact ⟨t, o, a1, b1, b2, b3⟩
theorem lw_pre_spec {args : Array Value} {s : State} (h : (Jvm.Cond.and given_1 narrow_1).before args s = true) (hr : rest_1_c.before args s = true) : ∃ (b : Addr) (xs : List Int32), lw_P b xs args s := by
  have hs := flat_of_before _ h
  have hq := flat_of_before _ hr
  have hc : (Cond.count 1).before args s = true := hs _ (by decide +kernel)
  have harr : (Cond.arrayOf (.arg 0) .int).before args s = true := hs _ (by decide +kernel)
  have hle : (Cond.le (.length (.arg 0)) (.int 384)).before args s = true := hs _ (by decide +kernel)
  have hlen : (Cond.isInt (.length (.arg 0))).before args s = true := hq _ (by decide +kernel)
  have hall : (Cond.all (.arg 0) (.isInt (.elem (.arg 0) (.index 0)))).before args s = true := hq _ (by decide +kernel)
  obtain ⟨b, xs, hb, hx⟩ := State.ints_of_pre rfl harr hlen hall
  have hsm : xs.length < 2 ^ 31 := hx.choose_spec.2.2.2
  have hev : (Term.length (.arg 0)).eval args s none [] s = some (.int xs.length.toInt32) := hx.length_eval hb
  have hv := Cond.le_ints hev (show (Term.int 384).eval args s none [] s = some (.int 384) from rfl)
  have hd : xs.length.toInt32 ≤ 384 := by
    simpa [Cond.before, Cond.holds, hv] using hle
  have hN : xs.length ≤ 384 := (Int32.ofNat_le_ofNat hsm (by decide)).mp (show Int32.ofNat xs.length ≤ Int32.ofNat 384 from hd)
  exact ⟨b, xs, Cond.one_arg hc (show args[0]? = some (.ref b) from hb), hx, hN, h⟩
theorem lw_comes (l : Launch) : Comes l x (Jvm.Cond.code x code maxLocals ret :: tables_1) room_1 (fun tb e args s => Calls_1 tb e args s ∧ rest_1 tb e args s ∧ Pre_1 tb e args s)
    (fun _ _ args s o t => lw_Q args s o t) := by
  intro p e ha hc hk s m args below hf hfit hheap happ hpre
  obtain ⟨b, xs, hP⟩ := lw_pre_spec hpre.2.2 hpre.2.1
  obtain ⟨k, o, h1, h2, h3, hQ⟩ := lw_walk l b xs p e ha hc hk s m args below hf ((Spec.applies_iff_loose hf).mp happ).1 hP trivial
  exact ⟨k, o, h1, h2, h3, hQ⟩
theorem lw_frame {s t : State} {o : Outcome} {args : Array Value} (h : Framed s o t [] 600000 7290000) :
    Framed s o t (fieldLocs frame_1_writes args s ++ arrayLocs frame_1_arrays args s ++ staticLocs frame_1_statics s) 600000 7290000 := h
theorem lw_limb (L : Cond) (hL : ∀ (args : Array Value) (s t : State), L.after args s (.returned (some (.int 1))) t = true) :
    ArmFor flags0 classFile x code maxLocals ret World_1 tables_1 room_1 Calls_1 rest_1 Pre_1
      (fun tb e a s o t => postC L tb e a s o t ∧ Framed s o t (fieldLocs frame_1_writes a s ++ arrayLocs frame_1_arrays a s ++ staticLocs frame_1_statics s) 600000 7290000) := by
  intro l _ _ _ p e ha hc hk s m args below hf hfit hheap happ hpre
  obtain ⟨k, o, h1, h2, h3, rfl, hF⟩ := lw_comes l p e ha hc hk s m args below hf hfit hheap happ hpre
  exact ⟨k, _, h1, h2, h3, hL args s _, lw_frame hF⟩
theorem i_vc : Claimed_1_1 ∧ Claimed_1_2 := ⟨lw_limb limb_1_1 (fun args s t => by simp [limb_1_1, Cond.after, Cond.holds, Cond.value]), lw_limb limb_1_2 (fun args s t => Cond.after_iff.mpr (by
  first | (rw [show limb_1_2 = Cond.eq .result (.int 1) from rfl, Cond.eq_ints (x := 1) (y := 1) rfl rfl]; simp; done) | (simp [limb_1_2, Cond.value, Term.eval]; done)))⟩
end
