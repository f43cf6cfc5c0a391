section
-- ===== PART A: goes FIRST, ahead of the names: the tables' words, and 'selects' of the private methods out of them =====
/-- a private method of a class that the tables say can be made, by its rows of tables_1 -/
def lw_okq (q : MethodName × Nat) : Prop := (q.1.cls ≠ "java/lang/invoke/MethodHandle" ∧ q.1.cls ≠ "java/lang/invoke/VarHandle") ∧ Cond.instantiable q.1.cls q.2 ∈ tables_1 ∧ Cond.privateMethod q.1 ∈ tables_1 ∧ Cond.instanceMethod q.1 ∈ tables_1
set_option maxRecDepth 100000
theorem lw_p0 : lw_okq (⟨"ShadowPager", "takeBack", "(I)V"⟩, 15) := ⟨⟨by decide +kernel, by decide +kernel⟩, List.mem_of_getElem? (i := 4) rfl, List.mem_of_getElem? (i := 70) rfl, List.mem_of_getElem? (i := 71) rfl⟩
theorem lw_p1 : lw_okq (⟨"ShadowPager", "reach", "(II)I"⟩, 15) := ⟨⟨by decide +kernel, by decide +kernel⟩, List.mem_of_getElem? (i := 4) rfl, List.mem_of_getElem? (i := 86) rfl, List.mem_of_getElem? (i := 87) rfl⟩
theorem lw_p2 : lw_okq (⟨"ShadowPager", "fillIn", "(II)V"⟩, 15) := ⟨⟨by decide +kernel, by decide +kernel⟩, List.mem_of_getElem? (i := 4) rfl, List.mem_of_getElem? (i := 90) rfl, List.mem_of_getElem? (i := 91) rfl⟩
theorem lw_p3 : lw_okq (⟨"ShadowPagerModel", "reach", "(II)I"⟩, 10) := ⟨⟨by decide +kernel, by decide +kernel⟩, List.mem_of_getElem? (i := 122) rfl, List.mem_of_getElem? (i := 178) rfl, List.mem_of_getElem? (i := 179) rfl⟩
def lw_privs_1 : List (MethodName × Nat) := [(⟨"ShadowPager", "takeBack", "(I)V"⟩, 15), (⟨"ShadowPager", "reach", "(II)I"⟩, 15), (⟨"ShadowPager", "fillIn", "(II)V"⟩, 15), (⟨"ShadowPagerModel", "reach", "(II)I"⟩, 10)]
theorem lw_r1 : ∀ q ∈ lw_privs_1, lw_okq q := List.forall_mem_cons.mpr ⟨lw_p0, List.forall_mem_cons.mpr ⟨lw_p1, List.forall_mem_cons.mpr ⟨lw_p2, List.forall_mem_cons.mpr ⟨lw_p3, fun _ h => absurd h List.not_mem_nil⟩⟩⟩⟩
def lw_privs : List (MethodName × Nat) := lw_privs_1
def lw_tbl : List Cond := k2_sels lw_privs ++ tables_1
theorem lw_privs_ok : ∀ q ∈ lw_privs, lw_okq q := lw_r1
-- ===== ONE list of words for every method: the tables' words that hold all through a run =====
def lw_all : List Cond := lw_tbl.filter goodWord
/-- a word of the tables by its place: claim/WORDS.tsv -/
theorem lw_w {w : Cond} (i : Nat) (h : lw_tbl[i]? = some w) (g : goodWord w = true) : w ∈ lw_all := List.mem_filter.mpr ⟨List.mem_of_getElem? h, g⟩
theorem lw_all_tbl {w : Cond} (h : w ∈ lw_all) : w ∈ lw_tbl := (List.mem_filter.mp h).1
theorem lw_self : GoodIn lw_all lw_all := fun w h => ⟨h, good_of_word (List.mem_filter.mp h).2⟩
/-- a class's field words, by their places -/
theorem lw_in (ws : List Cond) (ps : List Nat) (hp : ws = ps.filterMap (fun i => lw_tbl[i]?)) (hg : ws.all goodWord = true) : ∀ w ∈ ws, w ∈ lw_all := by
  intro w h
  have h1 := List.all_eq_true.mp hg w h
  rw [hp] at h
  obtain ⟨i, -, hi⟩ := List.mem_filterMap.mp h
  exact lw_w i hi h1
/-- the words of a contract for the method y with code b, L locals, answer r -/
abbrev ws_ (y : MethodName) (b : ByteArray) (L : Nat) (r : Option FieldType) : List Cond := Cond.code y b L r :: lw_all
theorem lw_meth {y : MethodName} {b : ByteArray} {L : Nat} {r : Option FieldType} (h : Cond.code y b L r ∈ lw_all) : GoodIn lw_all (ws_ y b L r) := by
  intro w hw
  rcases List.mem_cons.mp hw with e | e
  · rw [e]
    exact lw_self _ h
  · exact lw_self _ e
theorem lw_app {a c : List Cond} (ha : ∀ w ∈ a, w ∈ lw_all) (hc : GoodIn lw_all c) : GoodIn lw_all (a ++ c) := by
  intro w hw
  rcases List.mem_append.mp hw with e | e
  · exact lw_self w (ha w e)
  · exact hc w e
/-- what a call through an object asks: cwV n hts (lw_V ..) -/
theorem lw_V {own : String} {idx : Nat} {C : String} {y : MethodName} {b : ByteArray} {L : Nat} {r : Option FieldType} (h1 : Cond.methodLink own idx y ∈ lw_all) (h2 : Cond.instanceMethod y ∈ lw_all) (h3 : Cond.selects C y y ∈ lw_all) (h4 : Cond.initialized C ∈ lw_all) (h5 : Cond.code y b L r ∈ lw_all) : GoodIn lw_all (wsV own idx C y (ws_ y b L r)) := by
  refine lw_app ?_ (lw_meth h5)
  intro w hw
  simp only [List.mem_cons, List.not_mem_nil, or_false] at hw
  rcases hw with e | e | e | e
  · rw [e]; exact h1
  · rw [e]; exact h2
  · rw [e]; exact h3
  · rw [e]; exact h4
/-- what a static call asks: va_cwS n hts (lw_S ..) -/
theorem lw_S {own : String} {idx : Nat} {y : MethodName} {b : ByteArray} {L : Nat} {r : Option FieldType} (h1 : Cond.methodLink own idx y ∈ lw_all) (h2 : Cond.static y ∈ lw_all) (h3 : Cond.initialized y.cls ∈ lw_all) (h4 : Cond.code y b L r ∈ lw_all) : GoodIn lw_all (va_wsS own idx y (ws_ y b L r)) := by
  refine lw_app ?_ (lw_meth h4)
  intro w hw
  simp only [List.mem_cons, List.not_mem_nil, or_false] at hw
  rcases hw with e | e | e
  · rw [e]; exact h1
  · rw [e]; exact h2
  · rw [e]; exact h3
/-- the words of a contract for a method WITH HANDLERS (hh: its table) -/
abbrev wsW_ (y : MethodName) (b : ByteArray) (L : Nat) (r : Option FieldType) (hh : List (Nat × Nat × Nat × Nat)) : List Cond := Cond.codeWith y b L r hh :: lw_all
theorem lw_methW {y : MethodName} {b : ByteArray} {L : Nat} {r : Option FieldType} {hh : List (Nat × Nat × Nat × Nat)} (h : Cond.codeWith y b L r hh ∈ lw_all) : GoodIn lw_all (wsW_ y b L r hh) := by
  intro w hw
  rcases List.mem_cons.mp hw with e | e
  · rw [e]
    exact lw_self _ h
  · exact lw_self _ e
/-- any list of words by their places (lw_in), good -/
theorem lw_good {ws : List Cond} (h : ∀ w ∈ ws, w ∈ lw_all) : GoodIn lw_all ws := fun w hw => lw_self w (h w hw)
/-- what a call of a method with handlers asks: vx_cwVW n hts (lw_VW ..), vx_cwSW n hts (lw_SW ..) -/
theorem lw_VW {own : String} {idx : Nat} {C : String} {y : MethodName} {b : ByteArray} {L : Nat} {r : Option FieldType} {hh : List (Nat × Nat × Nat × Nat)} (h1 : Cond.methodLink own idx y ∈ lw_all) (h2 : Cond.instanceMethod y ∈ lw_all) (h3 : Cond.selects C y y ∈ lw_all) (h4 : Cond.initialized C ∈ lw_all) (h5 : Cond.codeWith y b L r hh ∈ lw_all) : GoodIn lw_all (wsV own idx C y (wsW_ y b L r hh)) := by
  refine lw_app ?_ (lw_methW h5)
  intro w hw
  simp only [List.mem_cons, List.not_mem_nil, or_false] at hw
  rcases hw with e | e | e | e
  · rw [e]; exact h1
  · rw [e]; exact h2
  · rw [e]; exact h3
  · rw [e]; exact h4
theorem lw_SW {own : String} {idx : Nat} {y : MethodName} {b : ByteArray} {L : Nat} {r : Option FieldType} {hh : List (Nat × Nat × Nat × Nat)} (h1 : Cond.methodLink own idx y ∈ lw_all) (h2 : Cond.static y ∈ lw_all) (h3 : Cond.initialized y.cls ∈ lw_all) (h4 : Cond.codeWith y b L r hh ∈ lw_all) : GoodIn lw_all (va_wsS own idx y (wsW_ y b L r hh)) := by
  refine lw_app ?_ (lw_methW h4)
  intro w hw
  simp only [List.mem_cons, List.not_mem_nil, or_false] at hw
  rcases hw with e | e | e
  · rw [e]; exact h1
  · rw [e]; exact h2
  · rw [e]; exact h3
/-- a word by its place in its run of the tables -/
theorem lw_at {r : List Cond} (hr : ∀ w ∈ r, w ∈ lw_tbl) {w : Cond} (i : Nat) (h : r[i]? = some w) : w ∈ lw_tbl := hr w (List.mem_of_getElem? h)
theorem lw_g {w : Cond} (h : w ∈ lw_tbl) (g : goodWord w = true) : w ∈ lw_all := List.mem_filter.mpr ⟨h, g⟩
theorem lw_ms : ∀ w ∈ k2_sels lw_privs, w ∈ lw_tbl := fun w h => show w ∈ k2_sels lw_privs ++ tables_1 from List.mem_append_left _ h
theorem lw_m0 : ∀ w ∈ tables_1, w ∈ lw_tbl := fun w h => show w ∈ k2_sels lw_privs ++ tables_1 from List.mem_append_right (k2_sels lw_privs) h
theorem qs0 : (Cond.selects "ShadowPager" ⟨"ShadowPager", "takeBack", "(I)V"⟩ ⟨"ShadowPager", "takeBack", "(I)V"⟩) ∈ lw_all := lw_g (lw_at lw_ms 0 rfl) rfl
theorem qs1 : (Cond.selects "ShadowPager" ⟨"ShadowPager", "reach", "(II)I"⟩ ⟨"ShadowPager", "reach", "(II)I"⟩) ∈ lw_all := lw_g (lw_at lw_ms 1 rfl) rfl
theorem qs2 : (Cond.selects "ShadowPager" ⟨"ShadowPager", "fillIn", "(II)V"⟩ ⟨"ShadowPager", "fillIn", "(II)V"⟩) ∈ lw_all := lw_g (lw_at lw_ms 2 rfl) rfl
theorem qs3 : (Cond.selects "ShadowPagerModel" ⟨"ShadowPagerModel", "reach", "(II)I"⟩ ⟨"ShadowPagerModel", "reach", "(II)I"⟩) ∈ lw_all := lw_g (lw_at lw_ms 3 rfl) rfl
end
section
/-! the plain picture of both objects, with no program in sight -/
abbrev FN : Type := Nat → Int32
abbrev PT : Type := Int32 × Int32 × FN × FN × FN × FN × FN × FN × FN × FN
abbrev PS : Type := FN × FN × FN × FN × FN
abbrev sp_bad (x y : Int32) : Prop := x < 0 ∨ y < x
def sp_ix (x y : Int32) : Nat := (8 * x + y).toNatClampNeg
def sp_cx (x y : Int32) : Nat := (4 * x + y).toNatClampNeg
theorem sp_ixI (a b : Nat) : 8 * nI a + nI b = nI (8 * a + b) := by
  rw [show (8 : Int32) = nI 8 from rfl, pk_mul, nI_add]
theorem sp_cxI (a b : Nat) : 4 * nI a + nI b = nI (4 * a + b) := by
  rw [show (4 : Int32) = nI 4 from rfl, pk_mul, nI_add]
theorem sp_ix8 (a : Nat) : 8 * nI a = nI (8 * a) := by
  rw [show (8 : Int32) = nI 8 from rfl, pk_mul]
theorem sp_ix_nI {a b : Nat} (ha : a < 2) (hb : b < 8) : sp_ix (nI a) (nI b) = 8 * a + b := by
  unfold sp_ix
  rw [sp_ixI]
  exact nI_clamp (by omega)
theorem sp_cx_nI {a b : Nat} (ha : a < 8) (hb : b < 4) : sp_cx (nI a) (nI b) = 4 * a + b := by
  unfold sp_cx
  rw [sp_cxI]
  exact nI_clamp (by omega)
theorem sp_nb {x M : Int32} {n : Nat} (hM : M.toInt = n) (h : ¬ sp_bad x M) : ∃ j : Nat, j ≤ n ∧ x = nI j := nI_of2 hM (fun q => h (Or.inl q)) (Int32.not_lt.mp (fun q => h (Or.inr q)))
theorem sp_nIinj {a b : Nat} (ha : a < 2 ^ 31) (hb : b < 2 ^ 31) (h : nI a = nI b) : a = b := (nI_eq ha hb).mp h
theorem sp_upd_id {f : FN} {k : Nat} {x : Int32} (h : f k = x) : upd f k x = f := by
  funext j
  by_cases hj : j = k
  · subst hj
    rw [pk_us, h]
  · rw [pk_un hj]
/-! lists of entries -/
def sp_chn (nx : FN) : Int32 → List Nat → Prop
  | v, [] => v < 0
  | v, e :: l => v = nI e ∧ sp_chn nx (nx e) l
theorem sp_chn_upd {nx : FN} {b : Nat} {x : Int32} : ∀ (l : List Nat) (v : Int32), b ∉ l → sp_chn nx v l → sp_chn (upd nx b x) v l := by
  intro l
  induction l with
  | nil => intro v _ h; exact h
  | cons e l ih =>
    intro v hb h
    obtain ⟨h1, h2⟩ := h
    have hne : e ≠ b := fun q => hb (by rw [← q]; exact List.mem_cons_self)
    refine ⟨h1, ?_⟩
    rw [pk_un hne]
    exact ih _ (fun q => hb (List.mem_cons_of_mem _ q)) h2
def sp_LI (sf sm hd nx : FN) : Prop := (∀ e, e < 16 → ¬ sf e < 0 → ∃ m, m < 8 ∧ sm e = nI m) ∧ ∀ m, m < 8 → ∃ l : List Nat, l.Nodup ∧ sp_chn nx (hd m) l ∧ ∀ e, e ∈ l ↔ (e < 16 ∧ ¬ sf e < 0 ∧ sm e = nI m)
theorem sp_head {nx : FN} {l : List Nat} {e : Nat} {v : Int32} (he : e < 16) (hl : ∀ x ∈ l, x < 16) (hv : v = nI e) (h : sp_chn nx v l) : ∃ l', l = e :: l' ∧ sp_chn nx (nx e) l' := by
  subst hv
  cases l with
  | nil => exact absurd (show nI e < 0 from h) (nI_pos (by omega))
  | cons x l' =>
    obtain ⟨h1, h2⟩ := h
    have hx := hl x List.mem_cons_self
    have hxe : e = x := sp_nIinj (by omega) (by omega) h1
    subst hxe
    exact ⟨l', rfl, h2⟩
theorem sp_sm_keep {sf sm : FN} {e : Nat} {y : Int32} (hy : y < 0) (h1 : ∀ e, e < 16 → ¬ sf e < 0 → ∃ m, m < 8 ∧ sm e = nI m) : ∀ x, x < 16 → ¬ upd sf e y x < 0 → ∃ m, m < 8 ∧ sm x = nI m := by
  intro x hx hn
  by_cases hxe : x = e
  · subst hxe
    rw [pk_us] at hn
    exact absurd hy hn
  · rw [pk_un hxe] at hn
    exact h1 x hx hn
theorem sp_oth {sf sm : FN} {e k m : Nat} {l : List Nat} {y : Int32} (hk : k < 8) (hm : m < 8) (hsm : sm e = nI m) (hkm : ¬ k = m) (hmem : ∀ x, x ∈ l ↔ (x < 16 ∧ ¬ sf x < 0 ∧ sm x = nI k)) : ∀ x, x ∈ l ↔ (x < 16 ∧ ¬ upd sf e y x < 0 ∧ sm x = nI k) := by
  intro x
  by_cases hxe : x = e
  · subst hxe
    rw [hmem x]
    constructor
    · intro q
      exact absurd (sp_nIinj (by omega) (by omega) (q.2.2.symm.trans hsm)) hkm
    · intro q
      exact absurd (sp_nIinj (by omega) (by omega) (q.2.2.symm.trans hsm)) hkm
  · rw [pk_un hxe]
    exact hmem x
theorem sp_m1 : (-1 : Int32) < 0 := by decide
theorem sp_tb_head {sf sm hd nx : FN} {e m : Nat} (he : e < 16) (hm : m < 8) (hsm : sm e = nI m) (hh : hd m = nI e) (h : sp_LI sf sm hd nx) : sp_LI (upd sf e (-1)) sm (upd hd m (nx e)) nx := by
  obtain ⟨h1, h2⟩ := h
  refine ⟨sp_sm_keep sp_m1 h1, fun k hk => ?_⟩
  obtain ⟨l, hnd, hc, hmem⟩ := h2 k hk
  by_cases hkm : k = m
  · subst hkm
    obtain ⟨l', rfl, hc'⟩ := sp_head he (fun x hx => ((hmem x).mp hx).1) hh hc
    refine ⟨l', (List.nodup_cons.mp hnd).2, by rw [pk_us]; exact hc', fun x => ?_⟩
    by_cases hxe : x = e
    · subst hxe
      refine ⟨fun q => absurd q (List.nodup_cons.mp hnd).1, fun q => ?_⟩
      rw [pk_us] at q
      exact absurd sp_m1 q.2.1
    · rw [pk_un hxe, ← hmem x]
      refine ⟨fun q => List.mem_cons_of_mem _ q, fun q => ?_⟩
      rcases List.mem_cons.mp q with w | w
      · exact absurd w hxe
      · exact w
  · exact ⟨l, hnd, by rw [pk_un hkm]; exact hc, sp_oth hk hm hsm hkm hmem⟩
theorem sp_chn_cut {nx : FN} {b e : Nat} {rest : List Nat} : ∀ (pre : List Nat) (v : Int32), (pre ++ b :: e :: rest).Nodup → sp_chn nx v (pre ++ b :: e :: rest) → sp_chn (upd nx b (nx e)) v (pre ++ b :: rest) := by
  intro pre
  induction pre with
  | nil =>
    intro v hn h
    have hn : (b :: e :: rest).Nodup := hn
    obtain ⟨h1, h2, h3⟩ := h
    refine ⟨h1, ?_⟩
    rw [pk_us]
    exact sp_chn_upd rest _ (fun q => (List.nodup_cons.mp hn).1 (List.mem_cons_of_mem _ q)) h3
  | cons x pre ih =>
    intro v hn h
    have hn : (x :: (pre ++ b :: e :: rest)).Nodup := hn
    obtain ⟨h1, h2⟩ := h
    have hne : x ≠ b := fun q => (List.nodup_cons.mp hn).1 (by rw [q]; simp)
    refine ⟨h1, ?_⟩
    rw [pk_un hne]
    exact ih _ (List.nodup_cons.mp hn).2 h2
theorem sp_tb_mid {sf sm hd nx : FN} {e m b : Nat} {pre rest : List Nat} (hm : m < 8) (hsm : sm e = nI m) (h : sp_LI sf sm hd nx) (hnd : (pre ++ b :: e :: rest).Nodup) (hc : sp_chn nx (hd m) (pre ++ b :: e :: rest)) (hmem : ∀ x, x ∈ pre ++ b :: e :: rest ↔ (x < 16 ∧ ¬ sf x < 0 ∧ sm x = nI m)) : sp_LI (upd sf e (-1)) sm hd (upd nx b (nx e)) := by
  obtain ⟨h1, h2⟩ := h
  have hbm : sm b = nI m := ((hmem b).mp (by simp)).2.2
  refine ⟨sp_sm_keep sp_m1 h1, fun k hk => ?_⟩
  by_cases hkm : k = m
  · subst hkm
    have hsub : (pre ++ b :: rest).Sublist (pre ++ b :: e :: rest) := List.Sublist.append (List.Sublist.refl _) (List.Sublist.cons_cons _ (List.Sublist.cons _ (List.Sublist.refl _)))
    refine ⟨pre ++ b :: rest, List.Nodup.sublist hsub hnd, sp_chn_cut pre _ hnd hc, fun x => ?_⟩
    by_cases hxe : x = e
    · subst hxe
      constructor
      · intro q
        exfalso
        rw [List.nodup_append] at hnd
        obtain ⟨-, n2, n3⟩ := hnd
        rcases List.mem_append.mp q with w | w
        · exact n3 x w x (by simp) rfl
        · have n4 := List.nodup_cons.mp n2
          rcases List.mem_cons.mp w with z | z
          · exact n4.1 (by rw [← z]; exact List.mem_cons_self)
          · exact (List.nodup_cons.mp n4.2).1 z
      · intro q
        rw [pk_us] at q
        exact absurd sp_m1 q.2.1
    · rw [pk_un hxe, ← hmem x]
      simp only [List.mem_append, List.mem_cons]
      constructor
      · rintro (q | q | q)
        · exact Or.inl q
        · exact Or.inr (Or.inl q)
        · exact Or.inr (Or.inr (Or.inr q))
      · rintro (q | q | q | q)
        · exact Or.inl q
        · exact Or.inr (Or.inl q)
        · exact absurd q hxe
        · exact Or.inr (Or.inr q)
  · obtain ⟨l, hnd', hc', hmem'⟩ := h2 k hk
    have hbl : b ∉ l := fun q => hkm (sp_nIinj (by omega) (by omega) (((hmem' b).mp q).2.2.symm.trans hbm))
    exact ⟨l, hnd', sp_chn_upd l _ hbl hc', sp_oth hk hm hsm hkm hmem'⟩
theorem sp_suf {nx : FN} {v : Int32} {b : Nat} {suf : List Nat} : ∀ (pre : List Nat) (v : Int32), sp_chn nx v (pre ++ b :: suf) → sp_chn nx (nx b) suf := by
  intro pre
  induction pre with
  | nil => intro v h; exact h.2
  | cons x pre ih => intro v h; exact ih _ h.2
theorem sp_step {nx : FN} {v : Int32} {suf : List Nat} {e : Nat} (h : sp_chn nx v suf) (he : e ∈ suf) : ∃ c suf', suf = c :: suf' ∧ v = nI c := by
  cases suf with
  | nil => exact absurd he List.not_mem_nil
  | cons c suf' => exact ⟨c, suf', rfl, h.1⟩
theorem sp_len {l : List Nat} (hn : l.Nodup) (hl : ∀ x ∈ l, x < 16) : l.length ≤ 16 := by
  have h := List.Nodup.length_le_of_subset hn (l₂ := List.range 16) (fun x hx => List.mem_range.mpr (hl x hx))
  rw [List.length_range] at h
  exact h
theorem sp_fill {sf sm hd nx : FN} {e m : Nat} {f : Int32} (he : e < 16) (hm : m < 8) (hf : ¬ f < 0) (hs : sf e < 0) (h : sp_LI sf sm hd nx) : sp_LI (upd sf e f) (upd sm e (nI m)) (upd hd m (nI e)) (upd nx e (hd m)) := by
  obtain ⟨h1, h2⟩ := h
  refine ⟨fun x hx hn => ?_, fun k hk => ?_⟩
  · by_cases hxe : x = e
    · subst hxe
      exact ⟨m, hm, pk_us⟩
    · rw [pk_un hxe] at hn
      rw [pk_un hxe]
      exact h1 x hx hn
  · obtain ⟨l, hnd, hc, hmem⟩ := h2 k hk
    have hel : e ∉ l := fun q => ((hmem e).mp q).2.1 hs
    by_cases hkm : k = m
    · subst hkm
      refine ⟨e :: l, List.nodup_cons.mpr ⟨hel, hnd⟩, ?_, fun x => ?_⟩
      · rw [pk_us]
        refine ⟨rfl, ?_⟩
        rw [pk_us]
        exact sp_chn_upd l _ hel hc
      · by_cases hxe : x = e
        · subst hxe
          rw [pk_us, pk_us]
          exact ⟨fun _ => ⟨he, hf, rfl⟩, fun _ => List.mem_cons_self⟩
        · rw [pk_un hxe, pk_un hxe, ← hmem x]
          refine ⟨fun q => ?_, fun q => List.mem_cons_of_mem _ q⟩
          rcases List.mem_cons.mp q with w | w
          · exact absurd w hxe
          · exact w
    · refine ⟨l, hnd, by rw [pk_un hkm]; exact sp_chn_upd l _ hel hc, fun x => ?_⟩
      by_cases hxe : x = e
      · subst hxe
        rw [pk_us, pk_us]
        exact ⟨fun q => absurd q hel, fun q => absurd (sp_nIinj (by omega) (by omega) q.2.2).symm hkm⟩
      · rw [pk_un hxe, pk_un hxe]
        exact hmem x
theorem sp_empty {sf sm hd nx : FN} {m : Nat} (hm : m < 8) (h : sp_LI sf sm hd nx) (hh : hd m < 0) : ∀ e, e < 16 → ¬ sf e < 0 → ¬ sm e = nI m := by
  intro e he hs hsm
  obtain ⟨l, -, hc, hmem⟩ := h.2 m hm
  have hel : e ∈ l := (hmem e).mpr ⟨he, hs, hsm⟩
  cases l with
  | nil => exact absurd hel List.not_mem_nil
  | cons x l' =>
    have hx := (hmem x).mp List.mem_cons_self
    obtain ⟨h1, -⟩ := hc
    rw [h1] at hh
    exact nI_pos (by omega) hh
theorem sp_first {sf sm hd nx : FN} {m : Nat} (hm : m < 8) (h : sp_LI sf sm hd nx) (hh : ¬ hd m < 0) : ∃ e, e < 16 ∧ hd m = nI e ∧ ¬ sf e < 0 ∧ sm e = nI m := by
  obtain ⟨l, -, hc, hmem⟩ := h.2 m hm
  cases l with
  | nil => exact absurd hc hh
  | cons x l' =>
    have hx := (hmem x).mp List.mem_cons_self
    obtain ⟨h1, -⟩ := hc
    exact ⟨x, hx.1, h1, hx.2.1, hx.2.2⟩
/-! how many entries are filled in -/
def sp_cnt (sf : FN) : Nat → Nat
  | 0 => 0
  | n + 1 => sp_cnt sf n + (if sf n < 0 then 0 else 1)
theorem sp_cnt_le (sf : FN) : ∀ n, sp_cnt sf n ≤ n := by
  intro n
  induction n with
  | zero => exact Nat.le_refl 0
  | succ n ih =>
    show sp_cnt sf n + (if sf n < 0 then 0 else 1) ≤ n + 1
    split <;> omega
theorem sp_cnt_same {sf sf' : FN} {e : Nat} (h : ∀ j, j ≠ e → sf' j = sf j) : ∀ n, n ≤ e → sp_cnt sf' n = sp_cnt sf n := by
  intro n
  induction n with
  | zero => intro _; rfl
  | succ n ih =>
    intro hn
    show sp_cnt sf' n + (if sf' n < 0 then 0 else 1) = sp_cnt sf n + (if sf n < 0 then 0 else 1)
    rw [ih (by omega), h n (by omega)]
theorem sp_cnt_dec {sf sf' : FN} {e : Nat} (h : ∀ j, j ≠ e → sf' j = sf j) (h1 : sf' e < 0) (h2 : ¬ sf e < 0) : ∀ n, e < n → sp_cnt sf' n + 1 = sp_cnt sf n := by
  intro n
  induction n with
  | zero => intro q; exact absurd q (by omega)
  | succ n ih =>
    intro hn
    show sp_cnt sf' n + (if sf' n < 0 then 0 else 1) + 1 = sp_cnt sf n + (if sf n < 0 then 0 else 1)
    by_cases hne : n = e
    · subst hne
      rw [sp_cnt_same h n (Nat.le_refl _), if_pos h1, if_neg h2]
    · rw [h n hne]
      have := ih (by omega)
      omega
theorem sp_cnt_pos {sf : FN} {e : Nat} (h2 : ¬ sf e < 0) : ∀ n, e < n → 0 < sp_cnt sf n := by
  intro n
  induction n with
  | zero => intro q; exact absurd q (by omega)
  | succ n ih =>
    intro hn
    show 0 < sp_cnt sf n + (if sf n < 0 then 0 else 1)
    by_cases hne : n = e
    · subst hne
      rw [if_neg h2]
      omega
    · have := ih (by omega)
      omega
/-! what holds of the tables, of the shadow -/
def sp_IT (pr : Int32) (gm ch hf hc : FN) : Prop := (∃ a, a < 2 ∧ pr = nI a) ∧ (∀ e, e < 16 → ¬ gm e < 0 → ∃ m, m < 8 ∧ gm e = nI m) ∧ (∀ m, m < 8 → ¬ hf m < 0 → ∃ f, f < 8 ∧ hf m = nI f) ∧ (∀ e, ch e = 0 ∨ ch e = 1) ∧ ∀ m, hc m = 0 ∨ hc m = 1
def sp_IE (gm gr tc ch hf hr hc sf sr sm : FN) (e : Nat) : Prop := ∃ m, m < 8 ∧ sm e = nI m ∧ gm e = nI m ∧ sf e = hf m ∧ tc e = 1 ∧ ∀ r : Int32, (r = 1 ∨ r = 2 ∨ r = 4) → ¬ sr e &&& r = 0 → ¬ gr e &&& r = 0 ∧ ¬ hr m &&& r = 0 ∧ (r = 2 → ch e = 1 ∧ hc m = 1)
def sp_INV (pr : Int32) (gm gr tc ch hf hr hc sf sr sm hd nx : FN) : Prop := sp_IT pr gm ch hf hc ∧ sp_LI sf sm hd nx ∧ ∀ e, e < 16 → ¬ sf e < 0 → sp_IE gm gr tc ch hf hr hc sf sr sm e
theorem sp_bupd {f : FN} {k : Nat} {x : Int32} (hx : x = 0 ∨ x = 1) (h : ∀ e, f e = 0 ∨ f e = 1) : ∀ e, upd f k x e = 0 ∨ upd f k x e = 1 := by
  intro e
  by_cases hj : e = k
  · subst hj
    rw [pk_us]
    exact hx
  · rw [pk_un hj]
    exact h e
theorem sp_rupd {f : FN} {k N B : Nat} {x : Int32} (hx : ¬ x < 0 → ∃ m, m < B ∧ x = nI m) (h : ∀ e, e < N → ¬ f e < 0 → ∃ m, m < B ∧ f e = nI m) : ∀ e, e < N → ¬ upd f k x e < 0 → ∃ m, m < B ∧ upd f k x e = nI m := by
  intro e he hn
  by_cases hj : e = k
  · subst hj
    rw [pk_us] at hn
    rw [pk_us]
    exact hx hn
  · rw [pk_un hj] at hn
    rw [pk_un hj]
    exact h e he hn
/-- an entry is taken back: nothing else moves -/
theorem sp_inv_tb {pr : Int32} {gm gr tc ch hf hr hc sf sr sm hd nx sf' hd' nx' : FN} {e : Nat} (hI : sp_INV pr gm gr tc ch hf hr hc sf sr sm hd nx) (hL : sp_LI sf' sm hd' nx') (h1 : ∀ j, j ≠ e → sf' j = sf j) (h2 : sf' e < 0) : sp_INV pr gm gr tc ch hf hr hc sf' sr sm hd' nx' := by
  refine ⟨hI.1, hL, fun x hx hn => ?_⟩
  have hxe : x ≠ e := fun q => hn (by rw [q]; exact h2)
  rw [h1 x hxe] at hn
  obtain ⟨m, a1, a2, a3, a4, a5, a6⟩ := hI.2.2 x hx hn
  exact ⟨m, a1, a2, a3, by rw [h1 x hxe]; exact a4, a5, a6⟩
/-- the tables of an entry that isn't filled in may change -/
theorem sp_inv_setGuest {pr : Int32} {gm gr tc ch hf hr hc sf sr sm hd nx : FN} {e : Nat} {x g : Int32} (hI : sp_INV pr gm gr tc ch hf hr hc sf sr sm hd nx) (h2 : sf e < 0) (hx : ¬ x < 0 → ∃ m, m < 8 ∧ x = nI m) : sp_INV pr (upd gm e x) (upd gr e g) (upd tc e 0) (upd ch e 0) hf hr hc sf sr sm hd nx := by
  obtain ⟨⟨i1, i2, i3, i4, i5⟩, hL, hE⟩ := hI
  refine ⟨⟨i1, sp_rupd hx i2, i3, sp_bupd (Or.inl rfl) i4, i5⟩, hL, fun y hy hn => ?_⟩
  have hye : y ≠ e := fun q => hn (by rw [q]; exact h2)
  obtain ⟨m, a1, a2, a3, a4, a5, a6⟩ := hE y hy hn
  refine ⟨m, a1, a2, by rw [pk_un hye]; exact a3, a4, by rw [pk_un hye]; exact a5, fun r hr hs => ?_⟩
  rw [pk_un hye, pk_un hye]
  exact a6 r hr hs
theorem sp_inv_age {pr : Int32} {gm gr tc ch hf hr hc sf sr sm hd nx : FN} {e : Nat} (hI : sp_INV pr gm gr tc ch hf hr hc sf sr sm hd nx) (h2 : sf e < 0) : sp_INV pr gm gr (upd tc e 0) ch hf hr hc sf sr sm hd nx := by
  obtain ⟨hT, hL, hE⟩ := hI
  refine ⟨hT, hL, fun y hy hn => ?_⟩
  have hye : y ≠ e := fun q => hn (by rw [q]; exact h2)
  obtain ⟨m, a1, a2, a3, a4, a5, a6⟩ := hE y hy hn
  exact ⟨m, a1, a2, a3, a4, by rw [pk_un hye]; exact a5, a6⟩
theorem sp_inv_setHost {pr : Int32} {gm gr tc ch hf hr hc sf sr sm hd nx : FN} {m : Nat} {x g : Int32} (hm : m < 8) (hI : sp_INV pr gm gr tc ch hf hr hc sf sr sm hd nx) (h2 : hd m < 0) (hx : ¬ x < 0 → ∃ m, m < 8 ∧ x = nI m) : sp_INV pr gm gr tc ch (upd hf m x) (upd hr m g) (upd hc m 0) sf sr sm hd nx := by
  have hemp := sp_empty hm hI.2.1 h2
  obtain ⟨⟨i1, i2, i3, i4, i5⟩, hL, hE⟩ := hI
  refine ⟨⟨i1, i2, sp_rupd hx i3, i4, sp_bupd (Or.inl rfl) i5⟩, hL, fun y hy hn => ?_⟩
  obtain ⟨k, a1, a2, a3, a4, a5, a6⟩ := hE y hy hn
  have hkm : k ≠ m := fun q => hemp y hy hn (by rw [← q]; exact a2)
  refine ⟨k, a1, a2, a3, by rw [pk_un hkm]; exact a4, a5, fun r hr hs => ?_⟩
  rw [pk_un hkm, pk_un hkm]
  exact a6 r hr hs
theorem sp_inv_change {pr : Int32} {gm gr tc ch hf hr hc sf sr sm hd nx : FN} (x : Int32) (hI : sp_INV pr gm gr tc ch hf hr hc sf sr sm hd nx) : sp_INV (x &&& 1) gm gr tc ch hf hr hc sf sr sm hd nx := by
  obtain ⟨⟨i1, i2, i3, i4, i5⟩, hL, hE⟩ := hI
  obtain ⟨j, hj, ej⟩ := pk_andE x (m := 1) 1 (by decide)
  exact ⟨⟨⟨j, hj, ej⟩, i2, i3, i4, i5⟩, hL, hE⟩
/-! an access -/
def sp_mreach (gm gr tc ch hf hr hc : FN) (e : Nat) (r : Int32) : Int32 × FN × FN × FN :=
  if gm e < 0 ∨ gr e &&& r = 0 then (-2, tc, ch, hc)
  else if hf (gm e).toNatClampNeg < 0 ∨ hr (gm e).toNatClampNeg &&& r = 0 then (-3, tc, ch, hc)
  else (hf (gm e).toNatClampNeg, upd tc e 1, (if r = 2 then upd ch e 1 else ch), (if r = 2 then upd hc (gm e).toNatClampNeg 1 else hc))
theorem sp_mr_g {gm gr tc ch hf hr hc : FN} {e : Nat} {r : Int32} (h : gm e < 0 ∨ gr e &&& r = 0) : sp_mreach gm gr tc ch hf hr hc e r = (-2, tc, ch, hc) := by
  unfold sp_mreach
  rw [if_pos h]
theorem sp_mr_h {gm gr tc ch hf hr hc : FN} {e m : Nat} {r : Int32} (hm : m < 8) (hg : gm e = nI m) (h1 : ¬ gr e &&& r = 0) (h : hf m < 0 ∨ hr m &&& r = 0) : sp_mreach gm gr tc ch hf hr hc e r = (-3, tc, ch, hc) := by
  unfold sp_mreach
  have h0 : ¬ nI m < 0 := nI_pos (by omega)
  rw [hg, nI_clamp (by omega), if_neg (by rintro (q | q); exact h0 q; exact h1 q), if_pos h]
theorem sp_mr_ok {gm gr tc ch hf hr hc : FN} {e m : Nat} {r : Int32} (hm : m < 8) (hg : gm e = nI m) (h1 : ¬ gr e &&& r = 0) (h2 : ¬ hf m < 0) (h3 : ¬ hr m &&& r = 0) : sp_mreach gm gr tc ch hf hr hc e r = (hf m, upd tc e 1, (if r = 2 then upd ch e 1 else ch), (if r = 2 then upd hc m 1 else hc)) := by
  unfold sp_mreach
  have h0 : ¬ nI m < 0 := nI_pos (by omega)
  rw [hg, nI_clamp (by omega), if_neg (by rintro (q | q); exact h0 q; exact h1 q), if_neg (by rintro (q | q); exact h2 q; exact h3 q)]
theorem sp_mr_nn {pr : Int32} {gm gr tc ch hf hr hc : FN} {e : Nat} {r f : Int32} {tc' ch' hc' : FN} (hT : sp_IT pr gm ch hf hc) (he : e < 16) (h : (f, tc', ch', hc') = sp_mreach gm gr tc ch hf hr hc e r) (hn : ¬ f < 0) : ∃ j, j < 8 ∧ f = nI j := by
  by_cases c1 : gm e < 0 ∨ gr e &&& r = 0
  · rw [sp_mr_g c1] at h
    exact absurd (by rw [show f = -2 from congrArg Prod.fst h]; decide) hn
  · obtain ⟨m, hm, hg⟩ := hT.2.1 e he (fun q => c1 (Or.inl q))
    have c1' : ¬ gr e &&& r = 0 := fun q => c1 (Or.inr q)
    by_cases c2 : hf m < 0 ∨ hr m &&& r = 0
    · rw [sp_mr_h hm hg c1' c2] at h
      exact absurd (by rw [show f = -3 from congrArg Prod.fst h]; decide) hn
    · have c2' : ¬ hf m < 0 := fun q => c2 (Or.inl q)
      rw [sp_mr_ok hm hg c1' c2' (fun q => c2 (Or.inr q))] at h
      have hf1 : f = hf m := congrArg Prod.fst h
      obtain ⟨j, hj, ej⟩ := hT.2.2.1 m hm c2'
      exact ⟨j, hj, hf1.trans ej⟩
/-- a filled-in entry with the right: the walk through both tables gives the same and marks nothing new -/
theorem sp_hit {pr : Int32} {gm gr tc ch hf hr hc sf sr sm hd nx : FN} {e : Nat} {r : Int32} (hI : sp_INV pr gm gr tc ch hf hr hc sf sr sm hd nx) (he : e < 16) (h3 : r = 1 ∨ r = 2 ∨ r = 4) (h1 : ¬ sf e < 0) (h2 : ¬ sr e &&& r = 0) : (sf e, tc, ch, hc) = sp_mreach gm gr tc ch hf hr hc e r := by
  obtain ⟨m, a1, a2, a3, a4, a5, a6⟩ := hI.2.2 e he h1
  obtain ⟨b1, b2, b3⟩ := a6 r h3 h2
  rw [sp_mr_ok a1 a3 b1 (by rw [← a4]; exact h1) b2, sp_upd_id a5, a4]
  by_cases hr2 : r = 2
  · rw [if_pos hr2, if_pos hr2, sp_upd_id (b3 hr2).1, sp_upd_id (b3 hr2).2]
  · rw [if_neg hr2, if_neg hr2]
theorem sp_andl {g h r : Int32} (hh : ¬ (g &&& h) &&& r = 0) : ¬ g &&& r = 0 ∧ ¬ h &&& r = 0 := by
  constructor
  · intro q
    apply hh
    rw [Int32.and_comm g h, Int32.and_assoc, q, Int32.and_zero]
  · intro q
    apply hh
    rw [Int32.and_assoc, q, Int32.and_zero]
theorem sp_and3 (x : Int32) : (x &&& (-3)) &&& 2 = 0 := by
  rw [Int32.and_assoc, show (-3 : Int32) &&& 2 = 0 by decide, Int32.and_zero]
theorem sp_and3r {x r : Int32} (h : ¬ (x &&& (-3)) &&& r = 0) : ¬ x &&& r = 0 := by
  intro q
  apply h
  rw [Int32.and_comm x, Int32.and_assoc, q, Int32.and_zero]
/-- what fillIn leaves of the entry e over the middle page m -/
def sp_Fd (gr ch hf hr hc sf sr sm : FN) (e m : Nat) (sf' sr' sm' : FN) : Prop := (∀ j, j ≠ e → sf' j = sf j ∧ sr' j = sr j ∧ sm' j = sm j) ∧ sf' e = hf m ∧ sm' e = nI m ∧ ∀ r : Int32, ¬ sr' e &&& r = 0 → ¬ (gr e &&& hr m) &&& r = 0 ∧ (r = 2 → ¬ ch e = 0 ∧ ¬ hc m = 0)
theorem sp_inv_fill {pr : Int32} {gm gr tc ch hf hr hc sf sr sm hd nx ch' hc' sf' sr' sm' hd' nx' : FN} {e m : Nat} (hI : sp_INV pr gm gr tc ch hf hr hc sf sr sm hd nx) (hm : m < 8) (hg : gm e = nI m) (hch : ∀ j, ch' j = ch j ∨ ch' j = 1) (hhc : ∀ j, hc' j = hc j ∨ hc' j = 1) (hL : sp_LI sf' sm' hd' nx') (hF : sp_Fd gr ch' hf hr hc' sf sr sm e m sf' sr' sm') : sp_INV pr gm gr (upd tc e 1) ch' hf hr hc' sf' sr' sm' hd' nx' := by
  obtain ⟨⟨i1, i2, i3, i4, i5⟩, -, hE⟩ := hI
  obtain ⟨f1, f2, f3, f4⟩ := hF
  have j4 : ∀ e, ch' e = 0 ∨ ch' e = 1 := fun e => by
    rcases hch e with q | q
    · rw [q]; exact i4 e
    · exact Or.inr q
  have j5 : ∀ e, hc' e = 0 ∨ hc' e = 1 := fun e => by
    rcases hhc e with q | q
    · rw [q]; exact i5 e
    · exact Or.inr q
  refine ⟨⟨i1, i2, i3, j4, j5⟩, hL, fun y hy hn => ?_⟩
  by_cases hye : y = e
  · subst hye
    refine ⟨m, hm, f3, hg, f2, pk_us, fun r hr hs => ?_⟩
    obtain ⟨b1, b2⟩ := f4 r hs
    obtain ⟨b3, b4⟩ := sp_andl b1
    refine ⟨b3, b4, fun q => ⟨?_, ?_⟩⟩
    · exact (j4 y).resolve_left (b2 q).1
    · exact (j5 m).resolve_left (b2 q).2
  · obtain ⟨g1, g2, g3⟩ := f1 y hye
    rw [g1] at hn
    obtain ⟨k, a1, a2, a3, a4, a5, a6⟩ := hE y hy hn
    refine ⟨k, a1, g3.trans a2, a3, g1.trans a4, by rw [pk_un hye]; exact a5, fun r hr hs => ?_⟩
    rw [g2] at hs
    obtain ⟨b1, b2, b3⟩ := a6 r hr hs
    refine ⟨b1, b2, fun q => ⟨?_, ?_⟩⟩
    · rcases hch y with w | w
      · rw [w]; exact (b3 q).1
      · exact w
    · rcases hhc k with w | w
      · rw [w]; exact (b3 q).2
      · exact w
/-! the calls, as they answer and what they leave of the tables -/
def sp_setGuest (pr la : Int32) (gm gr tc ch hf hr hc ce : FN) (x1 x2 x3 x4 : Int32) : Int32 × PT :=
  if (sp_bad x1 1 ∨ sp_bad x2 7) ∨ x3 < -1 ∨ 7 < x3 then (-1, pr, la, gm, gr, tc, ch, hf, hr, hc, ce)
  else (0, pr, la, upd gm (sp_ix x1 x2) x3, upd gr (sp_ix x1 x2) (x4 &&& 7), upd tc (sp_ix x1 x2) 0, upd ch (sp_ix x1 x2) 0, hf, hr, hc, ce)
def sp_setHost (pr la : Int32) (gm gr tc ch hf hr hc ce : FN) (x1 x2 x3 : Int32) : Int32 × PT :=
  if sp_bad x1 7 ∨ x2 < -1 ∨ 7 < x2 then (-1, pr, la, gm, gr, tc, ch, hf, hr, hc, ce)
  else (0, pr, la, gm, gr, tc, ch, upd hf x1.toNatClampNeg x2, upd hr x1.toNatClampNeg (x3 &&& 7), upd hc x1.toNatClampNeg 0, ce)
def sp_change (pr la : Int32) (gm gr tc ch hf hr hc ce : FN) (x1 : Int32) : PT := (x1 &&& 1, la, gm, gr, tc, ch, hf, hr, hc, ce)
def sp_load2 (pr la : Int32) (gm gr hf hr ce : FN) (x2 : Int32) (R : Int32 × FN × FN × FN) : Int32 × PT :=
  if R.1 < 0 then (R.1, pr, la, gm, gr, R.2.1, R.2.2.1, hf, hr, R.2.2.2, ce)
  else (0, pr, ce (sp_cx R.1 x2), gm, gr, R.2.1, R.2.2.1, hf, hr, R.2.2.2, ce)
def sp_load (pr la : Int32) (gm gr tc ch hf hr hc ce : FN) (x1 x2 : Int32) : Int32 × PT :=
  if sp_bad x1 7 ∨ sp_bad x2 3 then (-1, pr, la, gm, gr, tc, ch, hf, hr, hc, ce)
  else sp_load2 pr la gm gr hf hr ce x2 (sp_mreach gm gr tc ch hf hr hc (sp_ix pr x1) 1)
def sp_store2 (pr la : Int32) (gm gr hf hr ce : FN) (x2 x3 : Int32) (R : Int32 × FN × FN × FN) : Int32 × PT :=
  if R.1 < 0 then (R.1, pr, la, gm, gr, R.2.1, R.2.2.1, hf, hr, R.2.2.2, ce)
  else (0, pr, la, gm, gr, R.2.1, R.2.2.1, hf, hr, R.2.2.2, upd ce (sp_cx R.1 x2) x3)
def sp_store (pr la : Int32) (gm gr tc ch hf hr hc ce : FN) (x1 x2 x3 : Int32) : Int32 × PT :=
  if sp_bad x1 7 ∨ sp_bad x2 3 then (-1, pr, la, gm, gr, tc, ch, hf, hr, hc, ce)
  else sp_store2 pr la gm gr hf hr ce x2 x3 (sp_mreach gm gr tc ch hf hr hc (sp_ix pr x1) 2)
def sp_fetch2 (pr la : Int32) (gm gr hf hr ce : FN) (R : Int32 × FN × FN × FN) : Int32 × PT :=
  (R.1, pr, la, gm, gr, R.2.1, R.2.2.1, hf, hr, R.2.2.2, ce)
def sp_fetch (pr la : Int32) (gm gr tc ch hf hr hc ce : FN) (x1 : Int32) : Int32 × PT :=
  if sp_bad x1 7 then (-1, pr, la, gm, gr, tc, ch, hf, hr, hc, ce)
  else sp_fetch2 pr la gm gr hf hr ce (sp_mreach gm gr tc ch hf hr hc (sp_ix pr x1) 4)
def sp_marks (gm tc ch : FN) (x1 x2 : Int32) : Int32 :=
  if sp_bad x1 1 ∨ sp_bad x2 7 then -1
  else if gm (sp_ix x1 x2) < 0 then 0
  else (if tc (sp_ix x1 x2) = 0 then 0 else 1) + (if ch (sp_ix x1 x2) = 0 then 0 else 2)
def sp_hostMark (hf hc : FN) (x1 : Int32) : Int32 :=
  if sp_bad x1 7 then -1
  else if hf x1.toNatClampNeg < 0 ∨ hc x1.toNatClampNeg = 0 then 0 else 1
def sp_frameCell (ce : FN) (x1 x2 : Int32) : Int32 :=
  if sp_bad x1 7 ∨ sp_bad x2 3 then 0 else ce (sp_cx x1 x2)
def sp_agec (tc : FN) (b : Nat) : Nat → Int32
  | 0 => 0
  | n + 1 => sp_agec tc b n + (if tc (b + n) = 0 then 0 else 1)
def sp_aget (tc : FN) (b : Nat) : Nat → FN
  | 0 => tc
  | n + 1 => upd (sp_aget tc b n) (b + n) 0
theorem sp_aget_ge {tc : FN} {b : Nat} : ∀ n j, n ≤ j → sp_aget tc b n (b + j) = tc (b + j) := by
  intro n
  induction n with
  | zero => intro j _; rfl
  | succ n ih =>
    intro j hj
    show upd (sp_aget tc b n) (b + n) 0 (b + j) = tc (b + j)
    rw [pk_un (by omega)]
    exact ih j (by omega)
theorem sp_agec_0 {tc : FN} {b n : Nat} (h : tc (b + n) = 0) : sp_agec tc b (n + 1) = sp_agec tc b n := by
  show sp_agec tc b n + (if tc (b + n) = 0 then 0 else 1) = sp_agec tc b n
  rw [if_pos h, Int32.add_zero]
theorem sp_agec_1 {tc : FN} {b n : Nat} (h : ¬ tc (b + n) = 0) : sp_agec tc b (n + 1) = sp_agec tc b n + 1 := by
  show sp_agec tc b n + (if tc (b + n) = 0 then 0 else 1) = sp_agec tc b n + 1
  rw [if_neg h]
def sp_age (pr la : Int32) (gm gr tc ch hf hr hc ce : FN) (x1 : Int32) : Int32 × PT :=
  if sp_bad x1 1 then (-1, pr, la, gm, gr, tc, ch, hf, hr, hc, ce)
  else (sp_agec tc (8 * x1).toNatClampNeg 8, pr, la, gm, gr, sp_aget tc (8 * x1).toNatClampNeg 8, ch, hf, hr, hc, ce)
end
section
/-! ShadowPager -/
set_option maxRecDepth 100000
def RX0 : String := "ShadowPager"
def TX0 : u_T := fun k => match k with
  | 0 => ("ShadowPager", "present", "I", false)
  | 1 => ("ShadowPager", "guestMiddle", "[I", true)
  | 2 => ("ShadowPager", "guestRights", "[I", true)
  | 3 => ("ShadowPager", "touched", "[Z", true)
  | 4 => ("ShadowPager", "changed", "[Z", true)
  | 5 => ("ShadowPager", "hostFrame", "[I", true)
  | 6 => ("ShadowPager", "hostRights", "[I", true)
  | 7 => ("ShadowPager", "hostChanged", "[Z", true)
  | 8 => ("ShadowPager", "cells", "[I", true)
  | 9 => ("ShadowPager", "lastLoad", "I", false)
  | 10 => ("ShadowPager", "shadowFrame", "[I", true)
  | 11 => ("ShadowPager", "shadowRights", "[I", true)
  | 12 => ("ShadowPager", "shadowMiddle", "[I", true)
  | 13 => ("ShadowPager", "head", "[I", true)
  | _ => ("ShadowPager", "next", "[I", true)
def tyX0 : Nat → FieldType := fun k => match k with
  | 0 => .int
  | 1 => .array .int
  | 2 => .array .int
  | 3 => .array .boolean
  | 4 => .array .boolean
  | 5 => .array .int
  | 6 => .array .int
  | 7 => .array .boolean
  | 8 => .array .int
  | 9 => .int
  | 10 => .array .int
  | 11 => .array .int
  | 12 => .array .int
  | 13 => .array .int
  | _ => .array .int
abbrev wsX00 : List Cond := u_ws RX0 TX0 15
set_option maxRecDepth 100000 in
theorem nmX0 : ∀ a, a < 15 → ∀ b, b < 15 → a ≠ b → (TX0 a).2.1 ≠ (TX0 b).2.1 := by decide +kernel
set_option maxRecDepth 100000 in
theorem tyX0_ok : ∀ k, k < 15 → parseFieldDescriptor (TX0 k).2.2.1 = some (tyX0 k) := by decide +kernel
abbrev cX0_init : ByteArray := prog_1_method_1_code
def yX0_init : MethodName := ⟨RX0, "<init>", "()V"⟩
theorem dX0_init_0 : decode cX0_init 0 = .ok (.aload_n 0, 1) := by decide +kernel
theorem dX0_init_1 : decode cX0_init 1 = .ok (.invokespecial 1, 3) := by decide +kernel
theorem dX0_init_4 : decode cX0_init 4 = .ok (.aload_n 0, 1) := by decide +kernel
theorem dX0_init_5 : decode cX0_init 5 = .ok (.bipush 16, 2) := by decide +kernel
theorem dX0_init_7 : decode cX0_init 7 = .ok (.newarray .int, 2) := by decide +kernel
theorem dX0_init_9 : decode cX0_init 9 = .ok (.putfield 7, 3) := by decide +kernel
theorem dX0_init_12 : decode cX0_init 12 = .ok (.aload_n 0, 1) := by decide +kernel
theorem dX0_init_13 : decode cX0_init 13 = .ok (.bipush 16, 2) := by decide +kernel
theorem dX0_init_15 : decode cX0_init 15 = .ok (.newarray .int, 2) := by decide +kernel
theorem dX0_init_17 : decode cX0_init 17 = .ok (.putfield 13, 3) := by decide +kernel
theorem dX0_init_20 : decode cX0_init 20 = .ok (.aload_n 0, 1) := by decide +kernel
theorem dX0_init_21 : decode cX0_init 21 = .ok (.bipush 16, 2) := by decide +kernel
theorem dX0_init_23 : decode cX0_init 23 = .ok (.newarray .boolean, 2) := by decide +kernel
theorem dX0_init_25 : decode cX0_init 25 = .ok (.putfield 16, 3) := by decide +kernel
theorem dX0_init_28 : decode cX0_init 28 = .ok (.aload_n 0, 1) := by decide +kernel
theorem dX0_init_29 : decode cX0_init 29 = .ok (.bipush 16, 2) := by decide +kernel
theorem dX0_init_31 : decode cX0_init 31 = .ok (.newarray .boolean, 2) := by decide +kernel
theorem dX0_init_33 : decode cX0_init 33 = .ok (.putfield 20, 3) := by decide +kernel
theorem dX0_init_36 : decode cX0_init 36 = .ok (.aload_n 0, 1) := by decide +kernel
theorem dX0_init_37 : decode cX0_init 37 = .ok (.bipush 8, 2) := by decide +kernel
theorem dX0_init_39 : decode cX0_init 39 = .ok (.newarray .int, 2) := by decide +kernel
theorem dX0_init_41 : decode cX0_init 41 = .ok (.putfield 23, 3) := by decide +kernel
theorem dX0_init_44 : decode cX0_init 44 = .ok (.aload_n 0, 1) := by decide +kernel
theorem dX0_init_45 : decode cX0_init 45 = .ok (.bipush 8, 2) := by decide +kernel
theorem dX0_init_47 : decode cX0_init 47 = .ok (.newarray .int, 2) := by decide +kernel
theorem dX0_init_49 : decode cX0_init 49 = .ok (.putfield 26, 3) := by decide +kernel
theorem dX0_init_52 : decode cX0_init 52 = .ok (.aload_n 0, 1) := by decide +kernel
theorem dX0_init_53 : decode cX0_init 53 = .ok (.bipush 8, 2) := by decide +kernel
theorem dX0_init_55 : decode cX0_init 55 = .ok (.newarray .boolean, 2) := by decide +kernel
theorem dX0_init_57 : decode cX0_init 57 = .ok (.putfield 29, 3) := by decide +kernel
theorem dX0_init_60 : decode cX0_init 60 = .ok (.aload_n 0, 1) := by decide +kernel
theorem dX0_init_61 : decode cX0_init 61 = .ok (.bipush 32, 2) := by decide +kernel
theorem dX0_init_63 : decode cX0_init 63 = .ok (.newarray .int, 2) := by decide +kernel
theorem dX0_init_65 : decode cX0_init 65 = .ok (.putfield 32, 3) := by decide +kernel
theorem dX0_init_68 : decode cX0_init 68 = .ok (.aload_n 0, 1) := by decide +kernel
theorem dX0_init_69 : decode cX0_init 69 = .ok (.bipush 16, 2) := by decide +kernel
theorem dX0_init_71 : decode cX0_init 71 = .ok (.newarray .int, 2) := by decide +kernel
theorem dX0_init_73 : decode cX0_init 73 = .ok (.putfield 35, 3) := by decide +kernel
theorem dX0_init_76 : decode cX0_init 76 = .ok (.aload_n 0, 1) := by decide +kernel
theorem dX0_init_77 : decode cX0_init 77 = .ok (.bipush 16, 2) := by decide +kernel
theorem dX0_init_79 : decode cX0_init 79 = .ok (.newarray .int, 2) := by decide +kernel
theorem dX0_init_81 : decode cX0_init 81 = .ok (.putfield 38, 3) := by decide +kernel
theorem dX0_init_84 : decode cX0_init 84 = .ok (.aload_n 0, 1) := by decide +kernel
theorem dX0_init_85 : decode cX0_init 85 = .ok (.bipush 16, 2) := by decide +kernel
theorem dX0_init_87 : decode cX0_init 87 = .ok (.newarray .int, 2) := by decide +kernel
theorem dX0_init_89 : decode cX0_init 89 = .ok (.putfield 41, 3) := by decide +kernel
theorem dX0_init_92 : decode cX0_init 92 = .ok (.aload_n 0, 1) := by decide +kernel
theorem dX0_init_93 : decode cX0_init 93 = .ok (.bipush 8, 2) := by decide +kernel
theorem dX0_init_95 : decode cX0_init 95 = .ok (.newarray .int, 2) := by decide +kernel
theorem dX0_init_97 : decode cX0_init 97 = .ok (.putfield 44, 3) := by decide +kernel
theorem dX0_init_100 : decode cX0_init 100 = .ok (.aload_n 0, 1) := by decide +kernel
theorem dX0_init_101 : decode cX0_init 101 = .ok (.bipush 16, 2) := by decide +kernel
theorem dX0_init_103 : decode cX0_init 103 = .ok (.newarray .int, 2) := by decide +kernel
theorem dX0_init_105 : decode cX0_init 105 = .ok (.putfield 47, 3) := by decide +kernel
theorem dX0_init_108 : decode cX0_init 108 = .ok (.iconst 0, 1) := by decide +kernel
theorem dX0_init_109 : decode cX0_init 109 = .ok (.istore_n 1, 1) := by decide +kernel
theorem dX0_init_110 : decode cX0_init 110 = .ok (.iload_n 1, 1) := by decide +kernel
theorem dX0_init_111 : decode cX0_init 111 = .ok (.bipush 16, 2) := by decide +kernel
theorem dX0_init_113 : decode cX0_init 113 = .ok (.if_icmp .ge 23, 3) := by decide +kernel
theorem dX0_init_116 : decode cX0_init 116 = .ok (.aload_n 0, 1) := by decide +kernel
theorem dX0_init_117 : decode cX0_init 117 = .ok (.getfield 7, 3) := by decide +kernel
theorem dX0_init_120 : decode cX0_init 120 = .ok (.iload_n 1, 1) := by decide +kernel
theorem dX0_init_121 : decode cX0_init 121 = .ok (.iconst (-1), 1) := by decide +kernel
theorem dX0_init_122 : decode cX0_init 122 = .ok (.iastore, 1) := by decide +kernel
theorem dX0_init_123 : decode cX0_init 123 = .ok (.aload_n 0, 1) := by decide +kernel
theorem dX0_init_124 : decode cX0_init 124 = .ok (.getfield 35, 3) := by decide +kernel
theorem dX0_init_127 : decode cX0_init 127 = .ok (.iload_n 1, 1) := by decide +kernel
theorem dX0_init_128 : decode cX0_init 128 = .ok (.iconst (-1), 1) := by decide +kernel
theorem dX0_init_129 : decode cX0_init 129 = .ok (.iastore, 1) := by decide +kernel
theorem dX0_init_130 : decode cX0_init 130 = .ok (.iinc 1 1, 3) := by decide +kernel
theorem dX0_init_133 : decode cX0_init 133 = .ok (.goto (-23), 3) := by decide +kernel
theorem dX0_init_136 : decode cX0_init 136 = .ok (.iconst 0, 1) := by decide +kernel
theorem dX0_init_137 : decode cX0_init 137 = .ok (.istore_n 1, 1) := by decide +kernel
theorem dX0_init_138 : decode cX0_init 138 = .ok (.iload_n 1, 1) := by decide +kernel
theorem dX0_init_139 : decode cX0_init 139 = .ok (.bipush 8, 2) := by decide +kernel
theorem dX0_init_141 : decode cX0_init 141 = .ok (.if_icmp .ge 23, 3) := by decide +kernel
theorem dX0_init_144 : decode cX0_init 144 = .ok (.aload_n 0, 1) := by decide +kernel
theorem dX0_init_145 : decode cX0_init 145 = .ok (.getfield 23, 3) := by decide +kernel
theorem dX0_init_148 : decode cX0_init 148 = .ok (.iload_n 1, 1) := by decide +kernel
theorem dX0_init_149 : decode cX0_init 149 = .ok (.iconst (-1), 1) := by decide +kernel
theorem dX0_init_150 : decode cX0_init 150 = .ok (.iastore, 1) := by decide +kernel
theorem dX0_init_151 : decode cX0_init 151 = .ok (.aload_n 0, 1) := by decide +kernel
theorem dX0_init_152 : decode cX0_init 152 = .ok (.getfield 44, 3) := by decide +kernel
theorem dX0_init_155 : decode cX0_init 155 = .ok (.iload_n 1, 1) := by decide +kernel
theorem dX0_init_156 : decode cX0_init 156 = .ok (.iconst (-1), 1) := by decide +kernel
theorem dX0_init_157 : decode cX0_init 157 = .ok (.iastore, 1) := by decide +kernel
theorem dX0_init_158 : decode cX0_init 158 = .ok (.iinc 1 1, 3) := by decide +kernel
theorem dX0_init_161 : decode cX0_init 161 = .ok (.goto (-23), 3) := by decide +kernel
theorem dX0_init_164 : decode cX0_init 164 = .ok (.return_, 1) := by decide +kernel
abbrev cX0_setGuest : ByteArray := prog_1_method_2_code
def yX0_setGuest : MethodName := ⟨RX0, "setGuest", "(IIII)I"⟩
theorem dX0_setGuest_0 : decode cX0_setGuest 0 = .ok (.iload_n 1, 1) := by decide +kernel
theorem dX0_setGuest_1 : decode cX0_setGuest 1 = .ok (.invokestatic 50, 3) := by decide +kernel
theorem dX0_setGuest_4 : decode cX0_setGuest 4 = .ok (.ifCond .eq 21, 3) := by decide +kernel
theorem dX0_setGuest_7 : decode cX0_setGuest 7 = .ok (.iload_n 2, 1) := by decide +kernel
theorem dX0_setGuest_8 : decode cX0_setGuest 8 = .ok (.invokestatic 54, 3) := by decide +kernel
theorem dX0_setGuest_11 : decode cX0_setGuest 11 = .ok (.ifCond .eq 14, 3) := by decide +kernel
theorem dX0_setGuest_14 : decode cX0_setGuest 14 = .ok (.iload_n 3, 1) := by decide +kernel
theorem dX0_setGuest_15 : decode cX0_setGuest 15 = .ok (.iconst (-1), 1) := by decide +kernel
theorem dX0_setGuest_16 : decode cX0_setGuest 16 = .ok (.if_icmp .lt 9, 3) := by decide +kernel
theorem dX0_setGuest_19 : decode cX0_setGuest 19 = .ok (.iload_n 3, 1) := by decide +kernel
theorem dX0_setGuest_20 : decode cX0_setGuest 20 = .ok (.bipush 7, 2) := by decide +kernel
theorem dX0_setGuest_22 : decode cX0_setGuest 22 = .ok (.if_icmp .le 5, 3) := by decide +kernel
theorem dX0_setGuest_25 : decode cX0_setGuest 25 = .ok (.iconst (-1), 1) := by decide +kernel
theorem dX0_setGuest_26 : decode cX0_setGuest 26 = .ok (.ireturn, 1) := by decide +kernel
theorem dX0_setGuest_27 : decode cX0_setGuest 27 = .ok (.bipush 8, 2) := by decide +kernel
theorem dX0_setGuest_29 : decode cX0_setGuest 29 = .ok (.iload_n 1, 1) := by decide +kernel
theorem dX0_setGuest_30 : decode cX0_setGuest 30 = .ok (.imul, 1) := by decide +kernel
theorem dX0_setGuest_31 : decode cX0_setGuest 31 = .ok (.iload_n 2, 1) := by decide +kernel
theorem dX0_setGuest_32 : decode cX0_setGuest 32 = .ok (.iadd, 1) := by decide +kernel
theorem dX0_setGuest_33 : decode cX0_setGuest 33 = .ok (.istore 5, 2) := by decide +kernel
theorem dX0_setGuest_35 : decode cX0_setGuest 35 = .ok (.aload_n 0, 1) := by decide +kernel
theorem dX0_setGuest_36 : decode cX0_setGuest 36 = .ok (.iload 5, 2) := by decide +kernel
theorem dX0_setGuest_38 : decode cX0_setGuest 38 = .ok (.invokevirtual 57, 3) := by decide +kernel
theorem dX0_setGuest_41 : decode cX0_setGuest 41 = .ok (.aload_n 0, 1) := by decide +kernel
theorem dX0_setGuest_42 : decode cX0_setGuest 42 = .ok (.getfield 7, 3) := by decide +kernel
theorem dX0_setGuest_45 : decode cX0_setGuest 45 = .ok (.iload 5, 2) := by decide +kernel
theorem dX0_setGuest_47 : decode cX0_setGuest 47 = .ok (.iload_n 3, 1) := by decide +kernel
theorem dX0_setGuest_48 : decode cX0_setGuest 48 = .ok (.iastore, 1) := by decide +kernel
theorem dX0_setGuest_49 : decode cX0_setGuest 49 = .ok (.aload_n 0, 1) := by decide +kernel
theorem dX0_setGuest_50 : decode cX0_setGuest 50 = .ok (.getfield 13, 3) := by decide +kernel
theorem dX0_setGuest_53 : decode cX0_setGuest 53 = .ok (.iload 5, 2) := by decide +kernel
theorem dX0_setGuest_55 : decode cX0_setGuest 55 = .ok (.iload 4, 2) := by decide +kernel
theorem dX0_setGuest_57 : decode cX0_setGuest 57 = .ok (.bipush 7, 2) := by decide +kernel
theorem dX0_setGuest_59 : decode cX0_setGuest 59 = .ok (.iand, 1) := by decide +kernel
theorem dX0_setGuest_60 : decode cX0_setGuest 60 = .ok (.iastore, 1) := by decide +kernel
theorem dX0_setGuest_61 : decode cX0_setGuest 61 = .ok (.aload_n 0, 1) := by decide +kernel
theorem dX0_setGuest_62 : decode cX0_setGuest 62 = .ok (.getfield 16, 3) := by decide +kernel
theorem dX0_setGuest_65 : decode cX0_setGuest 65 = .ok (.iload 5, 2) := by decide +kernel
theorem dX0_setGuest_67 : decode cX0_setGuest 67 = .ok (.iconst 0, 1) := by decide +kernel
theorem dX0_setGuest_68 : decode cX0_setGuest 68 = .ok (.bastore, 1) := by decide +kernel
theorem dX0_setGuest_69 : decode cX0_setGuest 69 = .ok (.aload_n 0, 1) := by decide +kernel
theorem dX0_setGuest_70 : decode cX0_setGuest 70 = .ok (.getfield 20, 3) := by decide +kernel
theorem dX0_setGuest_73 : decode cX0_setGuest 73 = .ok (.iload 5, 2) := by decide +kernel
theorem dX0_setGuest_75 : decode cX0_setGuest 75 = .ok (.iconst 0, 1) := by decide +kernel
theorem dX0_setGuest_76 : decode cX0_setGuest 76 = .ok (.bastore, 1) := by decide +kernel
theorem dX0_setGuest_77 : decode cX0_setGuest 77 = .ok (.iconst 0, 1) := by decide +kernel
theorem dX0_setGuest_78 : decode cX0_setGuest 78 = .ok (.ireturn, 1) := by decide +kernel
abbrev cX0_isSpace : ByteArray := prog_1_method_13_code
def yX0_isSpace : MethodName := ⟨RX0, "isSpace", "(I)Z"⟩
theorem dX0_isSpace_0 : decode cX0_isSpace 0 = .ok (.iload_n 0, 1) := by decide +kernel
theorem dX0_isSpace_1 : decode cX0_isSpace 1 = .ok (.ifCond .eq 8, 3) := by decide +kernel
theorem dX0_isSpace_4 : decode cX0_isSpace 4 = .ok (.iload_n 0, 1) := by decide +kernel
theorem dX0_isSpace_5 : decode cX0_isSpace 5 = .ok (.iconst 1, 1) := by decide +kernel
theorem dX0_isSpace_6 : decode cX0_isSpace 6 = .ok (.if_icmp .ne 7, 3) := by decide +kernel
theorem dX0_isSpace_9 : decode cX0_isSpace 9 = .ok (.iconst 1, 1) := by decide +kernel
theorem dX0_isSpace_10 : decode cX0_isSpace 10 = .ok (.goto 4, 3) := by decide +kernel
theorem dX0_isSpace_13 : decode cX0_isSpace 13 = .ok (.iconst 0, 1) := by decide +kernel
theorem dX0_isSpace_14 : decode cX0_isSpace 14 = .ok (.ireturn, 1) := by decide +kernel
abbrev cX0_isNumber : ByteArray := prog_1_method_14_code
def yX0_isNumber : MethodName := ⟨RX0, "isNumber", "(I)Z"⟩
theorem dX0_isNumber_0 : decode cX0_isNumber 0 = .ok (.iload_n 0, 1) := by decide +kernel
theorem dX0_isNumber_1 : decode cX0_isNumber 1 = .ok (.ifCond .lt 13, 3) := by decide +kernel
theorem dX0_isNumber_4 : decode cX0_isNumber 4 = .ok (.iload_n 0, 1) := by decide +kernel
theorem dX0_isNumber_5 : decode cX0_isNumber 5 = .ok (.bipush 7, 2) := by decide +kernel
theorem dX0_isNumber_7 : decode cX0_isNumber 7 = .ok (.if_icmp .gt 7, 3) := by decide +kernel
theorem dX0_isNumber_10 : decode cX0_isNumber 10 = .ok (.iconst 1, 1) := by decide +kernel
theorem dX0_isNumber_11 : decode cX0_isNumber 11 = .ok (.goto 4, 3) := by decide +kernel
theorem dX0_isNumber_14 : decode cX0_isNumber 14 = .ok (.iconst 0, 1) := by decide +kernel
theorem dX0_isNumber_15 : decode cX0_isNumber 15 = .ok (.ireturn, 1) := by decide +kernel
abbrev cX0_takeBack : ByteArray := prog_1_method_17_code
def yX0_takeBack : MethodName := ⟨RX0, "takeBack", "(I)V"⟩
theorem dX0_takeBack_0 : decode cX0_takeBack 0 = .ok (.aload_n 0, 1) := by decide +kernel
theorem dX0_takeBack_1 : decode cX0_takeBack 1 = .ok (.getfield 35, 3) := by decide +kernel
theorem dX0_takeBack_4 : decode cX0_takeBack 4 = .ok (.iload_n 1, 1) := by decide +kernel
theorem dX0_takeBack_5 : decode cX0_takeBack 5 = .ok (.iaload, 1) := by decide +kernel
theorem dX0_takeBack_6 : decode cX0_takeBack 6 = .ok (.ifCond .ge 4, 3) := by decide +kernel
theorem dX0_takeBack_9 : decode cX0_takeBack 9 = .ok (.return_, 1) := by decide +kernel
theorem dX0_takeBack_10 : decode cX0_takeBack 10 = .ok (.aload_n 0, 1) := by decide +kernel
theorem dX0_takeBack_11 : decode cX0_takeBack 11 = .ok (.getfield 35, 3) := by decide +kernel
theorem dX0_takeBack_14 : decode cX0_takeBack 14 = .ok (.iload_n 1, 1) := by decide +kernel
theorem dX0_takeBack_15 : decode cX0_takeBack 15 = .ok (.iconst (-1), 1) := by decide +kernel
theorem dX0_takeBack_16 : decode cX0_takeBack 16 = .ok (.iastore, 1) := by decide +kernel
theorem dX0_takeBack_17 : decode cX0_takeBack 17 = .ok (.aload_n 0, 1) := by decide +kernel
theorem dX0_takeBack_18 : decode cX0_takeBack 18 = .ok (.getfield 41, 3) := by decide +kernel
theorem dX0_takeBack_21 : decode cX0_takeBack 21 = .ok (.iload_n 1, 1) := by decide +kernel
theorem dX0_takeBack_22 : decode cX0_takeBack 22 = .ok (.iaload, 1) := by decide +kernel
theorem dX0_takeBack_23 : decode cX0_takeBack 23 = .ok (.istore_n 2, 1) := by decide +kernel
theorem dX0_takeBack_24 : decode cX0_takeBack 24 = .ok (.aload_n 0, 1) := by decide +kernel
theorem dX0_takeBack_25 : decode cX0_takeBack 25 = .ok (.getfield 44, 3) := by decide +kernel
theorem dX0_takeBack_28 : decode cX0_takeBack 28 = .ok (.iload_n 2, 1) := by decide +kernel
theorem dX0_takeBack_29 : decode cX0_takeBack 29 = .ok (.iaload, 1) := by decide +kernel
theorem dX0_takeBack_30 : decode cX0_takeBack 30 = .ok (.iload_n 1, 1) := by decide +kernel
theorem dX0_takeBack_31 : decode cX0_takeBack 31 = .ok (.if_icmp .ne 16, 3) := by decide +kernel
theorem dX0_takeBack_34 : decode cX0_takeBack 34 = .ok (.aload_n 0, 1) := by decide +kernel
theorem dX0_takeBack_35 : decode cX0_takeBack 35 = .ok (.getfield 44, 3) := by decide +kernel
theorem dX0_takeBack_38 : decode cX0_takeBack 38 = .ok (.iload_n 2, 1) := by decide +kernel
theorem dX0_takeBack_39 : decode cX0_takeBack 39 = .ok (.aload_n 0, 1) := by decide +kernel
theorem dX0_takeBack_40 : decode cX0_takeBack 40 = .ok (.getfield 47, 3) := by decide +kernel
theorem dX0_takeBack_43 : decode cX0_takeBack 43 = .ok (.iload_n 1, 1) := by decide +kernel
theorem dX0_takeBack_44 : decode cX0_takeBack 44 = .ok (.iaload, 1) := by decide +kernel
theorem dX0_takeBack_45 : decode cX0_takeBack 45 = .ok (.iastore, 1) := by decide +kernel
theorem dX0_takeBack_46 : decode cX0_takeBack 46 = .ok (.return_, 1) := by decide +kernel
theorem dX0_takeBack_47 : decode cX0_takeBack 47 = .ok (.aload_n 0, 1) := by decide +kernel
theorem dX0_takeBack_48 : decode cX0_takeBack 48 = .ok (.getfield 44, 3) := by decide +kernel
theorem dX0_takeBack_51 : decode cX0_takeBack 51 = .ok (.iload_n 2, 1) := by decide +kernel
theorem dX0_takeBack_52 : decode cX0_takeBack 52 = .ok (.iaload, 1) := by decide +kernel
theorem dX0_takeBack_53 : decode cX0_takeBack 53 = .ok (.istore_n 3, 1) := by decide +kernel
theorem dX0_takeBack_54 : decode cX0_takeBack 54 = .ok (.iconst 0, 1) := by decide +kernel
theorem dX0_takeBack_55 : decode cX0_takeBack 55 = .ok (.istore 4, 2) := by decide +kernel
theorem dX0_takeBack_57 : decode cX0_takeBack 57 = .ok (.iload 4, 2) := by decide +kernel
theorem dX0_takeBack_59 : decode cX0_takeBack 59 = .ok (.bipush 16, 2) := by decide +kernel
theorem dX0_takeBack_61 : decode cX0_takeBack 61 = .ok (.if_icmp .ge 26, 3) := by decide +kernel
theorem dX0_takeBack_64 : decode cX0_takeBack 64 = .ok (.aload_n 0, 1) := by decide +kernel
theorem dX0_takeBack_65 : decode cX0_takeBack 65 = .ok (.getfield 47, 3) := by decide +kernel
theorem dX0_takeBack_68 : decode cX0_takeBack 68 = .ok (.iload_n 3, 1) := by decide +kernel
theorem dX0_takeBack_69 : decode cX0_takeBack 69 = .ok (.iaload, 1) := by decide +kernel
theorem dX0_takeBack_70 : decode cX0_takeBack 70 = .ok (.iload_n 1, 1) := by decide +kernel
theorem dX0_takeBack_71 : decode cX0_takeBack 71 = .ok (.if_icmp .eq 16, 3) := by decide +kernel
theorem dX0_takeBack_74 : decode cX0_takeBack 74 = .ok (.aload_n 0, 1) := by decide +kernel
theorem dX0_takeBack_75 : decode cX0_takeBack 75 = .ok (.getfield 47, 3) := by decide +kernel
theorem dX0_takeBack_78 : decode cX0_takeBack 78 = .ok (.iload_n 3, 1) := by decide +kernel
theorem dX0_takeBack_79 : decode cX0_takeBack 79 = .ok (.iaload, 1) := by decide +kernel
theorem dX0_takeBack_80 : decode cX0_takeBack 80 = .ok (.istore_n 3, 1) := by decide +kernel
theorem dX0_takeBack_81 : decode cX0_takeBack 81 = .ok (.iinc 4 1, 3) := by decide +kernel
theorem dX0_takeBack_84 : decode cX0_takeBack 84 = .ok (.goto (-27), 3) := by decide +kernel
theorem dX0_takeBack_87 : decode cX0_takeBack 87 = .ok (.aload_n 0, 1) := by decide +kernel
theorem dX0_takeBack_88 : decode cX0_takeBack 88 = .ok (.getfield 47, 3) := by decide +kernel
theorem dX0_takeBack_91 : decode cX0_takeBack 91 = .ok (.iload_n 3, 1) := by decide +kernel
theorem dX0_takeBack_92 : decode cX0_takeBack 92 = .ok (.aload_n 0, 1) := by decide +kernel
theorem dX0_takeBack_93 : decode cX0_takeBack 93 = .ok (.getfield 47, 3) := by decide +kernel
theorem dX0_takeBack_96 : decode cX0_takeBack 96 = .ok (.iload_n 1, 1) := by decide +kernel
theorem dX0_takeBack_97 : decode cX0_takeBack 97 = .ok (.iaload, 1) := by decide +kernel
theorem dX0_takeBack_98 : decode cX0_takeBack 98 = .ok (.iastore, 1) := by decide +kernel
theorem dX0_takeBack_99 : decode cX0_takeBack 99 = .ok (.return_, 1) := by decide +kernel
abbrev cX0_setHost : ByteArray := prog_1_method_3_code
def yX0_setHost : MethodName := ⟨RX0, "setHost", "(III)I"⟩
theorem dX0_setHost_0 : decode cX0_setHost 0 = .ok (.iload_n 1, 1) := by decide +kernel
theorem dX0_setHost_1 : decode cX0_setHost 1 = .ok (.invokestatic 54, 3) := by decide +kernel
theorem dX0_setHost_4 : decode cX0_setHost 4 = .ok (.ifCond .eq 14, 3) := by decide +kernel
theorem dX0_setHost_7 : decode cX0_setHost 7 = .ok (.iload_n 2, 1) := by decide +kernel
theorem dX0_setHost_8 : decode cX0_setHost 8 = .ok (.iconst (-1), 1) := by decide +kernel
theorem dX0_setHost_9 : decode cX0_setHost 9 = .ok (.if_icmp .lt 9, 3) := by decide +kernel
theorem dX0_setHost_12 : decode cX0_setHost 12 = .ok (.iload_n 2, 1) := by decide +kernel
theorem dX0_setHost_13 : decode cX0_setHost 13 = .ok (.bipush 7, 2) := by decide +kernel
theorem dX0_setHost_15 : decode cX0_setHost 15 = .ok (.if_icmp .le 5, 3) := by decide +kernel
theorem dX0_setHost_18 : decode cX0_setHost 18 = .ok (.iconst (-1), 1) := by decide +kernel
theorem dX0_setHost_19 : decode cX0_setHost 19 = .ok (.ireturn, 1) := by decide +kernel
theorem dX0_setHost_20 : decode cX0_setHost 20 = .ok (.iconst 0, 1) := by decide +kernel
theorem dX0_setHost_21 : decode cX0_setHost 21 = .ok (.istore 4, 2) := by decide +kernel
theorem dX0_setHost_23 : decode cX0_setHost 23 = .ok (.iload 4, 2) := by decide +kernel
theorem dX0_setHost_25 : decode cX0_setHost 25 = .ok (.bipush 16, 2) := by decide +kernel
theorem dX0_setHost_27 : decode cX0_setHost 27 = .ok (.if_icmp .ge 28, 3) := by decide +kernel
theorem dX0_setHost_30 : decode cX0_setHost 30 = .ok (.aload_n 0, 1) := by decide +kernel
theorem dX0_setHost_31 : decode cX0_setHost 31 = .ok (.getfield 44, 3) := by decide +kernel
theorem dX0_setHost_34 : decode cX0_setHost 34 = .ok (.iload_n 1, 1) := by decide +kernel
theorem dX0_setHost_35 : decode cX0_setHost 35 = .ok (.iaload, 1) := by decide +kernel
theorem dX0_setHost_36 : decode cX0_setHost 36 = .ok (.ifCond .lt 19, 3) := by decide +kernel
theorem dX0_setHost_39 : decode cX0_setHost 39 = .ok (.aload_n 0, 1) := by decide +kernel
theorem dX0_setHost_40 : decode cX0_setHost 40 = .ok (.aload_n 0, 1) := by decide +kernel
theorem dX0_setHost_41 : decode cX0_setHost 41 = .ok (.getfield 44, 3) := by decide +kernel
theorem dX0_setHost_44 : decode cX0_setHost 44 = .ok (.iload_n 1, 1) := by decide +kernel
theorem dX0_setHost_45 : decode cX0_setHost 45 = .ok (.iaload, 1) := by decide +kernel
theorem dX0_setHost_46 : decode cX0_setHost 46 = .ok (.invokevirtual 57, 3) := by decide +kernel
theorem dX0_setHost_49 : decode cX0_setHost 49 = .ok (.iinc 4 1, 3) := by decide +kernel
theorem dX0_setHost_52 : decode cX0_setHost 52 = .ok (.goto (-29), 3) := by decide +kernel
theorem dX0_setHost_55 : decode cX0_setHost 55 = .ok (.aload_n 0, 1) := by decide +kernel
theorem dX0_setHost_56 : decode cX0_setHost 56 = .ok (.getfield 23, 3) := by decide +kernel
theorem dX0_setHost_59 : decode cX0_setHost 59 = .ok (.iload_n 1, 1) := by decide +kernel
theorem dX0_setHost_60 : decode cX0_setHost 60 = .ok (.iload_n 2, 1) := by decide +kernel
theorem dX0_setHost_61 : decode cX0_setHost 61 = .ok (.iastore, 1) := by decide +kernel
theorem dX0_setHost_62 : decode cX0_setHost 62 = .ok (.aload_n 0, 1) := by decide +kernel
theorem dX0_setHost_63 : decode cX0_setHost 63 = .ok (.getfield 26, 3) := by decide +kernel
theorem dX0_setHost_66 : decode cX0_setHost 66 = .ok (.iload_n 1, 1) := by decide +kernel
theorem dX0_setHost_67 : decode cX0_setHost 67 = .ok (.iload_n 3, 1) := by decide +kernel
theorem dX0_setHost_68 : decode cX0_setHost 68 = .ok (.bipush 7, 2) := by decide +kernel
theorem dX0_setHost_70 : decode cX0_setHost 70 = .ok (.iand, 1) := by decide +kernel
theorem dX0_setHost_71 : decode cX0_setHost 71 = .ok (.iastore, 1) := by decide +kernel
theorem dX0_setHost_72 : decode cX0_setHost 72 = .ok (.aload_n 0, 1) := by decide +kernel
theorem dX0_setHost_73 : decode cX0_setHost 73 = .ok (.getfield 29, 3) := by decide +kernel
theorem dX0_setHost_76 : decode cX0_setHost 76 = .ok (.iload_n 1, 1) := by decide +kernel
theorem dX0_setHost_77 : decode cX0_setHost 77 = .ok (.iconst 0, 1) := by decide +kernel
theorem dX0_setHost_78 : decode cX0_setHost 78 = .ok (.bastore, 1) := by decide +kernel
theorem dX0_setHost_79 : decode cX0_setHost 79 = .ok (.iconst 0, 1) := by decide +kernel
theorem dX0_setHost_80 : decode cX0_setHost 80 = .ok (.ireturn, 1) := by decide +kernel
abbrev cX0_change : ByteArray := prog_1_method_4_code
def yX0_change : MethodName := ⟨RX0, "change", "(I)V"⟩
theorem dX0_change_0 : decode cX0_change 0 = .ok (.aload_n 0, 1) := by decide +kernel
theorem dX0_change_1 : decode cX0_change 1 = .ok (.iload_n 1, 1) := by decide +kernel
theorem dX0_change_2 : decode cX0_change 2 = .ok (.iconst 1, 1) := by decide +kernel
theorem dX0_change_3 : decode cX0_change 3 = .ok (.iand, 1) := by decide +kernel
theorem dX0_change_4 : decode cX0_change 4 = .ok (.putfield 61, 3) := by decide +kernel
theorem dX0_change_7 : decode cX0_change 7 = .ok (.return_, 1) := by decide +kernel
abbrev cX0_load : ByteArray := prog_1_method_5_code
def yX0_load : MethodName := ⟨RX0, "load", "(II)I"⟩
theorem dX0_load_0 : decode cX0_load 0 = .ok (.iload_n 1, 1) := by decide +kernel
theorem dX0_load_1 : decode cX0_load 1 = .ok (.invokestatic 54, 3) := by decide +kernel
theorem dX0_load_4 : decode cX0_load 4 = .ok (.ifCond .eq 12, 3) := by decide +kernel
theorem dX0_load_7 : decode cX0_load 7 = .ok (.iload_n 2, 1) := by decide +kernel
theorem dX0_load_8 : decode cX0_load 8 = .ok (.ifCond .lt 8, 3) := by decide +kernel
theorem dX0_load_11 : decode cX0_load 11 = .ok (.iload_n 2, 1) := by decide +kernel
theorem dX0_load_12 : decode cX0_load 12 = .ok (.iconst 3, 1) := by decide +kernel
theorem dX0_load_13 : decode cX0_load 13 = .ok (.if_icmp .le 5, 3) := by decide +kernel
theorem dX0_load_16 : decode cX0_load 16 = .ok (.iconst (-1), 1) := by decide +kernel
theorem dX0_load_17 : decode cX0_load 17 = .ok (.ireturn, 1) := by decide +kernel
theorem dX0_load_18 : decode cX0_load 18 = .ok (.aload_n 0, 1) := by decide +kernel
theorem dX0_load_19 : decode cX0_load 19 = .ok (.iload_n 1, 1) := by decide +kernel
theorem dX0_load_20 : decode cX0_load 20 = .ok (.iconst 1, 1) := by decide +kernel
theorem dX0_load_21 : decode cX0_load 21 = .ok (.invokevirtual 65, 3) := by decide +kernel
theorem dX0_load_24 : decode cX0_load 24 = .ok (.istore_n 3, 1) := by decide +kernel
theorem dX0_load_25 : decode cX0_load 25 = .ok (.iload_n 3, 1) := by decide +kernel
theorem dX0_load_26 : decode cX0_load 26 = .ok (.ifCond .ge 5, 3) := by decide +kernel
theorem dX0_load_29 : decode cX0_load 29 = .ok (.iload_n 3, 1) := by decide +kernel
theorem dX0_load_30 : decode cX0_load 30 = .ok (.ireturn, 1) := by decide +kernel
theorem dX0_load_31 : decode cX0_load 31 = .ok (.aload_n 0, 1) := by decide +kernel
theorem dX0_load_32 : decode cX0_load 32 = .ok (.aload_n 0, 1) := by decide +kernel
theorem dX0_load_33 : decode cX0_load 33 = .ok (.getfield 32, 3) := by decide +kernel
theorem dX0_load_36 : decode cX0_load 36 = .ok (.iconst 4, 1) := by decide +kernel
theorem dX0_load_37 : decode cX0_load 37 = .ok (.iload_n 3, 1) := by decide +kernel
theorem dX0_load_38 : decode cX0_load 38 = .ok (.imul, 1) := by decide +kernel
theorem dX0_load_39 : decode cX0_load 39 = .ok (.iload_n 2, 1) := by decide +kernel
theorem dX0_load_40 : decode cX0_load 40 = .ok (.iadd, 1) := by decide +kernel
theorem dX0_load_41 : decode cX0_load 41 = .ok (.iaload, 1) := by decide +kernel
theorem dX0_load_42 : decode cX0_load 42 = .ok (.putfield 69, 3) := by decide +kernel
theorem dX0_load_45 : decode cX0_load 45 = .ok (.iconst 0, 1) := by decide +kernel
theorem dX0_load_46 : decode cX0_load 46 = .ok (.ireturn, 1) := by decide +kernel
abbrev cX0_reach : ByteArray := prog_1_method_15_code
def yX0_reach : MethodName := ⟨RX0, "reach", "(II)I"⟩
theorem dX0_reach_0 : decode cX0_reach 0 = .ok (.bipush 8, 2) := by decide +kernel
theorem dX0_reach_2 : decode cX0_reach 2 = .ok (.aload_n 0, 1) := by decide +kernel
theorem dX0_reach_3 : decode cX0_reach 3 = .ok (.getfield 61, 3) := by decide +kernel
theorem dX0_reach_6 : decode cX0_reach 6 = .ok (.imul, 1) := by decide +kernel
theorem dX0_reach_7 : decode cX0_reach 7 = .ok (.iload_n 1, 1) := by decide +kernel
theorem dX0_reach_8 : decode cX0_reach 8 = .ok (.iadd, 1) := by decide +kernel
theorem dX0_reach_9 : decode cX0_reach 9 = .ok (.istore_n 3, 1) := by decide +kernel
theorem dX0_reach_10 : decode cX0_reach 10 = .ok (.aload_n 0, 1) := by decide +kernel
theorem dX0_reach_11 : decode cX0_reach 11 = .ok (.getfield 35, 3) := by decide +kernel
theorem dX0_reach_14 : decode cX0_reach 14 = .ok (.iload_n 3, 1) := by decide +kernel
theorem dX0_reach_15 : decode cX0_reach 15 = .ok (.iaload, 1) := by decide +kernel
theorem dX0_reach_16 : decode cX0_reach 16 = .ok (.ifCond .lt 21, 3) := by decide +kernel
theorem dX0_reach_19 : decode cX0_reach 19 = .ok (.aload_n 0, 1) := by decide +kernel
theorem dX0_reach_20 : decode cX0_reach 20 = .ok (.getfield 38, 3) := by decide +kernel
theorem dX0_reach_23 : decode cX0_reach 23 = .ok (.iload_n 3, 1) := by decide +kernel
theorem dX0_reach_24 : decode cX0_reach 24 = .ok (.iaload, 1) := by decide +kernel
theorem dX0_reach_25 : decode cX0_reach 25 = .ok (.iload_n 2, 1) := by decide +kernel
theorem dX0_reach_26 : decode cX0_reach 26 = .ok (.iand, 1) := by decide +kernel
theorem dX0_reach_27 : decode cX0_reach 27 = .ok (.ifCond .eq 10, 3) := by decide +kernel
theorem dX0_reach_30 : decode cX0_reach 30 = .ok (.aload_n 0, 1) := by decide +kernel
theorem dX0_reach_31 : decode cX0_reach 31 = .ok (.getfield 35, 3) := by decide +kernel
theorem dX0_reach_34 : decode cX0_reach 34 = .ok (.iload_n 3, 1) := by decide +kernel
theorem dX0_reach_35 : decode cX0_reach 35 = .ok (.iaload, 1) := by decide +kernel
theorem dX0_reach_36 : decode cX0_reach 36 = .ok (.ireturn, 1) := by decide +kernel
theorem dX0_reach_37 : decode cX0_reach 37 = .ok (.aload_n 0, 1) := by decide +kernel
theorem dX0_reach_38 : decode cX0_reach 38 = .ok (.getfield 7, 3) := by decide +kernel
theorem dX0_reach_41 : decode cX0_reach 41 = .ok (.iload_n 3, 1) := by decide +kernel
theorem dX0_reach_42 : decode cX0_reach 42 = .ok (.iaload, 1) := by decide +kernel
theorem dX0_reach_43 : decode cX0_reach 43 = .ok (.istore 4, 2) := by decide +kernel
theorem dX0_reach_45 : decode cX0_reach 45 = .ok (.iload 4, 2) := by decide +kernel
theorem dX0_reach_47 : decode cX0_reach 47 = .ok (.ifCond .lt 14, 3) := by decide +kernel
theorem dX0_reach_50 : decode cX0_reach 50 = .ok (.aload_n 0, 1) := by decide +kernel
theorem dX0_reach_51 : decode cX0_reach 51 = .ok (.getfield 13, 3) := by decide +kernel
theorem dX0_reach_54 : decode cX0_reach 54 = .ok (.iload_n 3, 1) := by decide +kernel
theorem dX0_reach_55 : decode cX0_reach 55 = .ok (.iaload, 1) := by decide +kernel
theorem dX0_reach_56 : decode cX0_reach 56 = .ok (.iload_n 2, 1) := by decide +kernel
theorem dX0_reach_57 : decode cX0_reach 57 = .ok (.iand, 1) := by decide +kernel
theorem dX0_reach_58 : decode cX0_reach 58 = .ok (.ifCond .ne 6, 3) := by decide +kernel
theorem dX0_reach_61 : decode cX0_reach 61 = .ok (.bipush (-2), 2) := by decide +kernel
theorem dX0_reach_63 : decode cX0_reach 63 = .ok (.ireturn, 1) := by decide +kernel
theorem dX0_reach_64 : decode cX0_reach 64 = .ok (.aload_n 0, 1) := by decide +kernel
theorem dX0_reach_65 : decode cX0_reach 65 = .ok (.getfield 23, 3) := by decide +kernel
theorem dX0_reach_68 : decode cX0_reach 68 = .ok (.iload 4, 2) := by decide +kernel
theorem dX0_reach_70 : decode cX0_reach 70 = .ok (.iaload, 1) := by decide +kernel
theorem dX0_reach_71 : decode cX0_reach 71 = .ok (.ifCond .lt 15, 3) := by decide +kernel
theorem dX0_reach_74 : decode cX0_reach 74 = .ok (.aload_n 0, 1) := by decide +kernel
theorem dX0_reach_75 : decode cX0_reach 75 = .ok (.getfield 26, 3) := by decide +kernel
theorem dX0_reach_78 : decode cX0_reach 78 = .ok (.iload 4, 2) := by decide +kernel
theorem dX0_reach_80 : decode cX0_reach 80 = .ok (.iaload, 1) := by decide +kernel
theorem dX0_reach_81 : decode cX0_reach 81 = .ok (.iload_n 2, 1) := by decide +kernel
theorem dX0_reach_82 : decode cX0_reach 82 = .ok (.iand, 1) := by decide +kernel
theorem dX0_reach_83 : decode cX0_reach 83 = .ok (.ifCond .ne 6, 3) := by decide +kernel
theorem dX0_reach_86 : decode cX0_reach 86 = .ok (.bipush (-3), 2) := by decide +kernel
theorem dX0_reach_88 : decode cX0_reach 88 = .ok (.ireturn, 1) := by decide +kernel
theorem dX0_reach_89 : decode cX0_reach 89 = .ok (.aload_n 0, 1) := by decide +kernel
theorem dX0_reach_90 : decode cX0_reach 90 = .ok (.getfield 16, 3) := by decide +kernel
theorem dX0_reach_93 : decode cX0_reach 93 = .ok (.iload_n 3, 1) := by decide +kernel
theorem dX0_reach_94 : decode cX0_reach 94 = .ok (.iconst 1, 1) := by decide +kernel
theorem dX0_reach_95 : decode cX0_reach 95 = .ok (.bastore, 1) := by decide +kernel
theorem dX0_reach_96 : decode cX0_reach 96 = .ok (.iload_n 2, 1) := by decide +kernel
theorem dX0_reach_97 : decode cX0_reach 97 = .ok (.iconst 2, 1) := by decide +kernel
theorem dX0_reach_98 : decode cX0_reach 98 = .ok (.if_icmp .ne 18, 3) := by decide +kernel
theorem dX0_reach_101 : decode cX0_reach 101 = .ok (.aload_n 0, 1) := by decide +kernel
theorem dX0_reach_102 : decode cX0_reach 102 = .ok (.getfield 20, 3) := by decide +kernel
theorem dX0_reach_105 : decode cX0_reach 105 = .ok (.iload_n 3, 1) := by decide +kernel
theorem dX0_reach_106 : decode cX0_reach 106 = .ok (.iconst 1, 1) := by decide +kernel
theorem dX0_reach_107 : decode cX0_reach 107 = .ok (.bastore, 1) := by decide +kernel
theorem dX0_reach_108 : decode cX0_reach 108 = .ok (.aload_n 0, 1) := by decide +kernel
theorem dX0_reach_109 : decode cX0_reach 109 = .ok (.getfield 29, 3) := by decide +kernel
theorem dX0_reach_112 : decode cX0_reach 112 = .ok (.iload 4, 2) := by decide +kernel
theorem dX0_reach_114 : decode cX0_reach 114 = .ok (.iconst 1, 1) := by decide +kernel
theorem dX0_reach_115 : decode cX0_reach 115 = .ok (.bastore, 1) := by decide +kernel
theorem dX0_reach_116 : decode cX0_reach 116 = .ok (.aload_n 0, 1) := by decide +kernel
theorem dX0_reach_117 : decode cX0_reach 117 = .ok (.iload_n 3, 1) := by decide +kernel
theorem dX0_reach_118 : decode cX0_reach 118 = .ok (.iload 4, 2) := by decide +kernel
theorem dX0_reach_120 : decode cX0_reach 120 = .ok (.invokevirtual 72, 3) := by decide +kernel
theorem dX0_reach_123 : decode cX0_reach 123 = .ok (.aload_n 0, 1) := by decide +kernel
theorem dX0_reach_124 : decode cX0_reach 124 = .ok (.getfield 23, 3) := by decide +kernel
theorem dX0_reach_127 : decode cX0_reach 127 = .ok (.iload 4, 2) := by decide +kernel
theorem dX0_reach_129 : decode cX0_reach 129 = .ok (.iaload, 1) := by decide +kernel
theorem dX0_reach_130 : decode cX0_reach 130 = .ok (.ireturn, 1) := by decide +kernel
abbrev cX0_fillIn : ByteArray := prog_1_method_16_code
def yX0_fillIn : MethodName := ⟨RX0, "fillIn", "(II)V"⟩
theorem dX0_fillIn_0 : decode cX0_fillIn 0 = .ok (.aload_n 0, 1) := by decide +kernel
theorem dX0_fillIn_1 : decode cX0_fillIn 1 = .ok (.iload_n 1, 1) := by decide +kernel
theorem dX0_fillIn_2 : decode cX0_fillIn 2 = .ok (.invokevirtual 57, 3) := by decide +kernel
theorem dX0_fillIn_5 : decode cX0_fillIn 5 = .ok (.aload_n 0, 1) := by decide +kernel
theorem dX0_fillIn_6 : decode cX0_fillIn 6 = .ok (.getfield 13, 3) := by decide +kernel
theorem dX0_fillIn_9 : decode cX0_fillIn 9 = .ok (.iload_n 1, 1) := by decide +kernel
theorem dX0_fillIn_10 : decode cX0_fillIn 10 = .ok (.iaload, 1) := by decide +kernel
theorem dX0_fillIn_11 : decode cX0_fillIn 11 = .ok (.aload_n 0, 1) := by decide +kernel
theorem dX0_fillIn_12 : decode cX0_fillIn 12 = .ok (.getfield 26, 3) := by decide +kernel
theorem dX0_fillIn_15 : decode cX0_fillIn 15 = .ok (.iload_n 2, 1) := by decide +kernel
theorem dX0_fillIn_16 : decode cX0_fillIn 16 = .ok (.iaload, 1) := by decide +kernel
theorem dX0_fillIn_17 : decode cX0_fillIn 17 = .ok (.iand, 1) := by decide +kernel
theorem dX0_fillIn_18 : decode cX0_fillIn 18 = .ok (.istore_n 3, 1) := by decide +kernel
theorem dX0_fillIn_19 : decode cX0_fillIn 19 = .ok (.aload_n 0, 1) := by decide +kernel
theorem dX0_fillIn_20 : decode cX0_fillIn 20 = .ok (.getfield 20, 3) := by decide +kernel
theorem dX0_fillIn_23 : decode cX0_fillIn 23 = .ok (.iload_n 1, 1) := by decide +kernel
theorem dX0_fillIn_24 : decode cX0_fillIn 24 = .ok (.baload, 1) := by decide +kernel
theorem dX0_fillIn_25 : decode cX0_fillIn 25 = .ok (.ifCond .eq 16, 3) := by decide +kernel
theorem dX0_fillIn_28 : decode cX0_fillIn 28 = .ok (.aload_n 0, 1) := by decide +kernel
theorem dX0_fillIn_29 : decode cX0_fillIn 29 = .ok (.getfield 29, 3) := by decide +kernel
theorem dX0_fillIn_32 : decode cX0_fillIn 32 = .ok (.iload_n 2, 1) := by decide +kernel
theorem dX0_fillIn_33 : decode cX0_fillIn 33 = .ok (.baload, 1) := by decide +kernel
theorem dX0_fillIn_34 : decode cX0_fillIn 34 = .ok (.ifCond .eq 7, 3) := by decide +kernel
theorem dX0_fillIn_37 : decode cX0_fillIn 37 = .ok (.iconst 1, 1) := by decide +kernel
theorem dX0_fillIn_38 : decode cX0_fillIn 38 = .ok (.goto 4, 3) := by decide +kernel
theorem dX0_fillIn_41 : decode cX0_fillIn 41 = .ok (.iconst 0, 1) := by decide +kernel
theorem dX0_fillIn_42 : decode cX0_fillIn 42 = .ok (.istore 4, 2) := by decide +kernel
theorem dX0_fillIn_44 : decode cX0_fillIn 44 = .ok (.aload_n 0, 1) := by decide +kernel
theorem dX0_fillIn_45 : decode cX0_fillIn 45 = .ok (.getfield 35, 3) := by decide +kernel
theorem dX0_fillIn_48 : decode cX0_fillIn 48 = .ok (.iload_n 1, 1) := by decide +kernel
theorem dX0_fillIn_49 : decode cX0_fillIn 49 = .ok (.aload_n 0, 1) := by decide +kernel
theorem dX0_fillIn_50 : decode cX0_fillIn 50 = .ok (.getfield 23, 3) := by decide +kernel
theorem dX0_fillIn_53 : decode cX0_fillIn 53 = .ok (.iload_n 2, 1) := by decide +kernel
theorem dX0_fillIn_54 : decode cX0_fillIn 54 = .ok (.iaload, 1) := by decide +kernel
theorem dX0_fillIn_55 : decode cX0_fillIn 55 = .ok (.iastore, 1) := by decide +kernel
theorem dX0_fillIn_56 : decode cX0_fillIn 56 = .ok (.aload_n 0, 1) := by decide +kernel
theorem dX0_fillIn_57 : decode cX0_fillIn 57 = .ok (.getfield 38, 3) := by decide +kernel
theorem dX0_fillIn_60 : decode cX0_fillIn 60 = .ok (.iload_n 1, 1) := by decide +kernel
theorem dX0_fillIn_61 : decode cX0_fillIn 61 = .ok (.iload 4, 2) := by decide +kernel
theorem dX0_fillIn_63 : decode cX0_fillIn 63 = .ok (.ifCond .eq 7, 3) := by decide +kernel
theorem dX0_fillIn_66 : decode cX0_fillIn 66 = .ok (.iload_n 3, 1) := by decide +kernel
theorem dX0_fillIn_67 : decode cX0_fillIn 67 = .ok (.goto 7, 3) := by decide +kernel
theorem dX0_fillIn_70 : decode cX0_fillIn 70 = .ok (.iload_n 3, 1) := by decide +kernel
theorem dX0_fillIn_71 : decode cX0_fillIn 71 = .ok (.bipush (-3), 2) := by decide +kernel
theorem dX0_fillIn_73 : decode cX0_fillIn 73 = .ok (.iand, 1) := by decide +kernel
theorem dX0_fillIn_74 : decode cX0_fillIn 74 = .ok (.iastore, 1) := by decide +kernel
theorem dX0_fillIn_75 : decode cX0_fillIn 75 = .ok (.aload_n 0, 1) := by decide +kernel
theorem dX0_fillIn_76 : decode cX0_fillIn 76 = .ok (.getfield 41, 3) := by decide +kernel
theorem dX0_fillIn_79 : decode cX0_fillIn 79 = .ok (.iload_n 1, 1) := by decide +kernel
theorem dX0_fillIn_80 : decode cX0_fillIn 80 = .ok (.iload_n 2, 1) := by decide +kernel
theorem dX0_fillIn_81 : decode cX0_fillIn 81 = .ok (.iastore, 1) := by decide +kernel
theorem dX0_fillIn_82 : decode cX0_fillIn 82 = .ok (.aload_n 0, 1) := by decide +kernel
theorem dX0_fillIn_83 : decode cX0_fillIn 83 = .ok (.getfield 47, 3) := by decide +kernel
theorem dX0_fillIn_86 : decode cX0_fillIn 86 = .ok (.iload_n 1, 1) := by decide +kernel
theorem dX0_fillIn_87 : decode cX0_fillIn 87 = .ok (.aload_n 0, 1) := by decide +kernel
theorem dX0_fillIn_88 : decode cX0_fillIn 88 = .ok (.getfield 44, 3) := by decide +kernel
theorem dX0_fillIn_91 : decode cX0_fillIn 91 = .ok (.iload_n 2, 1) := by decide +kernel
theorem dX0_fillIn_92 : decode cX0_fillIn 92 = .ok (.iaload, 1) := by decide +kernel
theorem dX0_fillIn_93 : decode cX0_fillIn 93 = .ok (.iastore, 1) := by decide +kernel
theorem dX0_fillIn_94 : decode cX0_fillIn 94 = .ok (.aload_n 0, 1) := by decide +kernel
theorem dX0_fillIn_95 : decode cX0_fillIn 95 = .ok (.getfield 44, 3) := by decide +kernel
theorem dX0_fillIn_98 : decode cX0_fillIn 98 = .ok (.iload_n 2, 1) := by decide +kernel
theorem dX0_fillIn_99 : decode cX0_fillIn 99 = .ok (.iload_n 1, 1) := by decide +kernel
theorem dX0_fillIn_100 : decode cX0_fillIn 100 = .ok (.iastore, 1) := by decide +kernel
theorem dX0_fillIn_101 : decode cX0_fillIn 101 = .ok (.return_, 1) := by decide +kernel
abbrev cX0_store : ByteArray := prog_1_method_6_code
def yX0_store : MethodName := ⟨RX0, "store", "(III)I"⟩
theorem dX0_store_0 : decode cX0_store 0 = .ok (.iload_n 1, 1) := by decide +kernel
theorem dX0_store_1 : decode cX0_store 1 = .ok (.invokestatic 54, 3) := by decide +kernel
theorem dX0_store_4 : decode cX0_store 4 = .ok (.ifCond .eq 12, 3) := by decide +kernel
theorem dX0_store_7 : decode cX0_store 7 = .ok (.iload_n 2, 1) := by decide +kernel
theorem dX0_store_8 : decode cX0_store 8 = .ok (.ifCond .lt 8, 3) := by decide +kernel
theorem dX0_store_11 : decode cX0_store 11 = .ok (.iload_n 2, 1) := by decide +kernel
theorem dX0_store_12 : decode cX0_store 12 = .ok (.iconst 3, 1) := by decide +kernel
theorem dX0_store_13 : decode cX0_store 13 = .ok (.if_icmp .le 5, 3) := by decide +kernel
theorem dX0_store_16 : decode cX0_store 16 = .ok (.iconst (-1), 1) := by decide +kernel
theorem dX0_store_17 : decode cX0_store 17 = .ok (.ireturn, 1) := by decide +kernel
theorem dX0_store_18 : decode cX0_store 18 = .ok (.aload_n 0, 1) := by decide +kernel
theorem dX0_store_19 : decode cX0_store 19 = .ok (.iload_n 1, 1) := by decide +kernel
theorem dX0_store_20 : decode cX0_store 20 = .ok (.iconst 2, 1) := by decide +kernel
theorem dX0_store_21 : decode cX0_store 21 = .ok (.invokevirtual 65, 3) := by decide +kernel
theorem dX0_store_24 : decode cX0_store 24 = .ok (.istore 4, 2) := by decide +kernel
theorem dX0_store_26 : decode cX0_store 26 = .ok (.iload 4, 2) := by decide +kernel
theorem dX0_store_28 : decode cX0_store 28 = .ok (.ifCond .ge 6, 3) := by decide +kernel
theorem dX0_store_31 : decode cX0_store 31 = .ok (.iload 4, 2) := by decide +kernel
theorem dX0_store_33 : decode cX0_store 33 = .ok (.ireturn, 1) := by decide +kernel
theorem dX0_store_34 : decode cX0_store 34 = .ok (.aload_n 0, 1) := by decide +kernel
theorem dX0_store_35 : decode cX0_store 35 = .ok (.getfield 32, 3) := by decide +kernel
theorem dX0_store_38 : decode cX0_store 38 = .ok (.iconst 4, 1) := by decide +kernel
theorem dX0_store_39 : decode cX0_store 39 = .ok (.iload 4, 2) := by decide +kernel
theorem dX0_store_41 : decode cX0_store 41 = .ok (.imul, 1) := by decide +kernel
theorem dX0_store_42 : decode cX0_store 42 = .ok (.iload_n 2, 1) := by decide +kernel
theorem dX0_store_43 : decode cX0_store 43 = .ok (.iadd, 1) := by decide +kernel
theorem dX0_store_44 : decode cX0_store 44 = .ok (.iload_n 3, 1) := by decide +kernel
theorem dX0_store_45 : decode cX0_store 45 = .ok (.iastore, 1) := by decide +kernel
theorem dX0_store_46 : decode cX0_store 46 = .ok (.iconst 0, 1) := by decide +kernel
theorem dX0_store_47 : decode cX0_store 47 = .ok (.ireturn, 1) := by decide +kernel
abbrev cX0_fetch : ByteArray := prog_1_method_7_code
def yX0_fetch : MethodName := ⟨RX0, "fetch", "(I)I"⟩
theorem dX0_fetch_0 : decode cX0_fetch 0 = .ok (.iload_n 1, 1) := by decide +kernel
theorem dX0_fetch_1 : decode cX0_fetch 1 = .ok (.invokestatic 54, 3) := by decide +kernel
theorem dX0_fetch_4 : decode cX0_fetch 4 = .ok (.ifCond .eq 12, 3) := by decide +kernel
theorem dX0_fetch_7 : decode cX0_fetch 7 = .ok (.aload_n 0, 1) := by decide +kernel
theorem dX0_fetch_8 : decode cX0_fetch 8 = .ok (.iload_n 1, 1) := by decide +kernel
theorem dX0_fetch_9 : decode cX0_fetch 9 = .ok (.iconst 4, 1) := by decide +kernel
theorem dX0_fetch_10 : decode cX0_fetch 10 = .ok (.invokevirtual 65, 3) := by decide +kernel
theorem dX0_fetch_13 : decode cX0_fetch 13 = .ok (.goto 4, 3) := by decide +kernel
theorem dX0_fetch_16 : decode cX0_fetch 16 = .ok (.iconst (-1), 1) := by decide +kernel
theorem dX0_fetch_17 : decode cX0_fetch 17 = .ok (.ireturn, 1) := by decide +kernel
abbrev cX0_last : ByteArray := prog_1_method_8_code
def yX0_last : MethodName := ⟨RX0, "last", "()I"⟩
theorem dX0_last_0 : decode cX0_last 0 = .ok (.aload_n 0, 1) := by decide +kernel
theorem dX0_last_1 : decode cX0_last 1 = .ok (.getfield 69, 3) := by decide +kernel
theorem dX0_last_4 : decode cX0_last 4 = .ok (.ireturn, 1) := by decide +kernel
abbrev cX0_marks : ByteArray := prog_1_method_9_code
def yX0_marks : MethodName := ⟨RX0, "marks", "(II)I"⟩
theorem dX0_marks_0 : decode cX0_marks 0 = .ok (.iload_n 1, 1) := by decide +kernel
theorem dX0_marks_1 : decode cX0_marks 1 = .ok (.invokestatic 50, 3) := by decide +kernel
theorem dX0_marks_4 : decode cX0_marks 4 = .ok (.ifCond .eq 10, 3) := by decide +kernel
theorem dX0_marks_7 : decode cX0_marks 7 = .ok (.iload_n 2, 1) := by decide +kernel
theorem dX0_marks_8 : decode cX0_marks 8 = .ok (.invokestatic 54, 3) := by decide +kernel
theorem dX0_marks_11 : decode cX0_marks 11 = .ok (.ifCond .ne 5, 3) := by decide +kernel
theorem dX0_marks_14 : decode cX0_marks 14 = .ok (.iconst (-1), 1) := by decide +kernel
theorem dX0_marks_15 : decode cX0_marks 15 = .ok (.ireturn, 1) := by decide +kernel
theorem dX0_marks_16 : decode cX0_marks 16 = .ok (.bipush 8, 2) := by decide +kernel
theorem dX0_marks_18 : decode cX0_marks 18 = .ok (.iload_n 1, 1) := by decide +kernel
theorem dX0_marks_19 : decode cX0_marks 19 = .ok (.imul, 1) := by decide +kernel
theorem dX0_marks_20 : decode cX0_marks 20 = .ok (.iload_n 2, 1) := by decide +kernel
theorem dX0_marks_21 : decode cX0_marks 21 = .ok (.iadd, 1) := by decide +kernel
theorem dX0_marks_22 : decode cX0_marks 22 = .ok (.istore_n 3, 1) := by decide +kernel
theorem dX0_marks_23 : decode cX0_marks 23 = .ok (.aload_n 0, 1) := by decide +kernel
theorem dX0_marks_24 : decode cX0_marks 24 = .ok (.getfield 7, 3) := by decide +kernel
theorem dX0_marks_27 : decode cX0_marks 27 = .ok (.iload_n 3, 1) := by decide +kernel
theorem dX0_marks_28 : decode cX0_marks 28 = .ok (.iaload, 1) := by decide +kernel
theorem dX0_marks_29 : decode cX0_marks 29 = .ok (.ifCond .ge 5, 3) := by decide +kernel
theorem dX0_marks_32 : decode cX0_marks 32 = .ok (.iconst 0, 1) := by decide +kernel
theorem dX0_marks_33 : decode cX0_marks 33 = .ok (.ireturn, 1) := by decide +kernel
theorem dX0_marks_34 : decode cX0_marks 34 = .ok (.aload_n 0, 1) := by decide +kernel
theorem dX0_marks_35 : decode cX0_marks 35 = .ok (.getfield 16, 3) := by decide +kernel
theorem dX0_marks_38 : decode cX0_marks 38 = .ok (.iload_n 3, 1) := by decide +kernel
theorem dX0_marks_39 : decode cX0_marks 39 = .ok (.baload, 1) := by decide +kernel
theorem dX0_marks_40 : decode cX0_marks 40 = .ok (.ifCond .eq 7, 3) := by decide +kernel
theorem dX0_marks_43 : decode cX0_marks 43 = .ok (.iconst 1, 1) := by decide +kernel
theorem dX0_marks_44 : decode cX0_marks 44 = .ok (.goto 4, 3) := by decide +kernel
theorem dX0_marks_47 : decode cX0_marks 47 = .ok (.iconst 0, 1) := by decide +kernel
theorem dX0_marks_48 : decode cX0_marks 48 = .ok (.aload_n 0, 1) := by decide +kernel
theorem dX0_marks_49 : decode cX0_marks 49 = .ok (.getfield 20, 3) := by decide +kernel
theorem dX0_marks_52 : decode cX0_marks 52 = .ok (.iload_n 3, 1) := by decide +kernel
theorem dX0_marks_53 : decode cX0_marks 53 = .ok (.baload, 1) := by decide +kernel
theorem dX0_marks_54 : decode cX0_marks 54 = .ok (.ifCond .eq 7, 3) := by decide +kernel
theorem dX0_marks_57 : decode cX0_marks 57 = .ok (.iconst 2, 1) := by decide +kernel
theorem dX0_marks_58 : decode cX0_marks 58 = .ok (.goto 4, 3) := by decide +kernel
theorem dX0_marks_61 : decode cX0_marks 61 = .ok (.iconst 0, 1) := by decide +kernel
theorem dX0_marks_62 : decode cX0_marks 62 = .ok (.iadd, 1) := by decide +kernel
theorem dX0_marks_63 : decode cX0_marks 63 = .ok (.ireturn, 1) := by decide +kernel
abbrev cX0_hostMark : ByteArray := prog_1_method_10_code
def yX0_hostMark : MethodName := ⟨RX0, "hostMark", "(I)I"⟩
theorem dX0_hostMark_0 : decode cX0_hostMark 0 = .ok (.iload_n 1, 1) := by decide +kernel
theorem dX0_hostMark_1 : decode cX0_hostMark 1 = .ok (.invokestatic 54, 3) := by decide +kernel
theorem dX0_hostMark_4 : decode cX0_hostMark 4 = .ok (.ifCond .ne 5, 3) := by decide +kernel
theorem dX0_hostMark_7 : decode cX0_hostMark 7 = .ok (.iconst (-1), 1) := by decide +kernel
theorem dX0_hostMark_8 : decode cX0_hostMark 8 = .ok (.ireturn, 1) := by decide +kernel
theorem dX0_hostMark_9 : decode cX0_hostMark 9 = .ok (.aload_n 0, 1) := by decide +kernel
theorem dX0_hostMark_10 : decode cX0_hostMark 10 = .ok (.getfield 23, 3) := by decide +kernel
theorem dX0_hostMark_13 : decode cX0_hostMark 13 = .ok (.iload_n 1, 1) := by decide +kernel
theorem dX0_hostMark_14 : decode cX0_hostMark 14 = .ok (.iaload, 1) := by decide +kernel
theorem dX0_hostMark_15 : decode cX0_hostMark 15 = .ok (.ifCond .lt 16, 3) := by decide +kernel
theorem dX0_hostMark_18 : decode cX0_hostMark 18 = .ok (.aload_n 0, 1) := by decide +kernel
theorem dX0_hostMark_19 : decode cX0_hostMark 19 = .ok (.getfield 29, 3) := by decide +kernel
theorem dX0_hostMark_22 : decode cX0_hostMark 22 = .ok (.iload_n 1, 1) := by decide +kernel
theorem dX0_hostMark_23 : decode cX0_hostMark 23 = .ok (.baload, 1) := by decide +kernel
theorem dX0_hostMark_24 : decode cX0_hostMark 24 = .ok (.ifCond .eq 7, 3) := by decide +kernel
theorem dX0_hostMark_27 : decode cX0_hostMark 27 = .ok (.iconst 1, 1) := by decide +kernel
theorem dX0_hostMark_28 : decode cX0_hostMark 28 = .ok (.goto 4, 3) := by decide +kernel
theorem dX0_hostMark_31 : decode cX0_hostMark 31 = .ok (.iconst 0, 1) := by decide +kernel
theorem dX0_hostMark_32 : decode cX0_hostMark 32 = .ok (.ireturn, 1) := by decide +kernel
abbrev cX0_age : ByteArray := prog_1_method_11_code
def yX0_age : MethodName := ⟨RX0, "age", "(I)I"⟩
theorem dX0_age_0 : decode cX0_age 0 = .ok (.iload_n 1, 1) := by decide +kernel
theorem dX0_age_1 : decode cX0_age 1 = .ok (.invokestatic 50, 3) := by decide +kernel
theorem dX0_age_4 : decode cX0_age 4 = .ok (.ifCond .ne 5, 3) := by decide +kernel
theorem dX0_age_7 : decode cX0_age 7 = .ok (.iconst (-1), 1) := by decide +kernel
theorem dX0_age_8 : decode cX0_age 8 = .ok (.ireturn, 1) := by decide +kernel
theorem dX0_age_9 : decode cX0_age 9 = .ok (.iconst 0, 1) := by decide +kernel
theorem dX0_age_10 : decode cX0_age 10 = .ok (.istore_n 2, 1) := by decide +kernel
theorem dX0_age_11 : decode cX0_age 11 = .ok (.bipush 8, 2) := by decide +kernel
theorem dX0_age_13 : decode cX0_age 13 = .ok (.iload_n 1, 1) := by decide +kernel
theorem dX0_age_14 : decode cX0_age 14 = .ok (.imul, 1) := by decide +kernel
theorem dX0_age_15 : decode cX0_age 15 = .ok (.istore_n 3, 1) := by decide +kernel
theorem dX0_age_16 : decode cX0_age 16 = .ok (.iload_n 3, 1) := by decide +kernel
theorem dX0_age_17 : decode cX0_age 17 = .ok (.bipush 8, 2) := by decide +kernel
theorem dX0_age_19 : decode cX0_age 19 = .ok (.iload_n 1, 1) := by decide +kernel
theorem dX0_age_20 : decode cX0_age 20 = .ok (.imul, 1) := by decide +kernel
theorem dX0_age_21 : decode cX0_age 21 = .ok (.bipush 8, 2) := by decide +kernel
theorem dX0_age_23 : decode cX0_age 23 = .ok (.iadd, 1) := by decide +kernel
theorem dX0_age_24 : decode cX0_age 24 = .ok (.if_icmp .ge 38, 3) := by decide +kernel
theorem dX0_age_27 : decode cX0_age 27 = .ok (.iload_n 2, 1) := by decide +kernel
theorem dX0_age_28 : decode cX0_age 28 = .ok (.aload_n 0, 1) := by decide +kernel
theorem dX0_age_29 : decode cX0_age 29 = .ok (.getfield 16, 3) := by decide +kernel
theorem dX0_age_32 : decode cX0_age 32 = .ok (.iload_n 3, 1) := by decide +kernel
theorem dX0_age_33 : decode cX0_age 33 = .ok (.baload, 1) := by decide +kernel
theorem dX0_age_34 : decode cX0_age 34 = .ok (.ifCond .eq 7, 3) := by decide +kernel
theorem dX0_age_37 : decode cX0_age 37 = .ok (.iconst 1, 1) := by decide +kernel
theorem dX0_age_38 : decode cX0_age 38 = .ok (.goto 4, 3) := by decide +kernel
theorem dX0_age_41 : decode cX0_age 41 = .ok (.iconst 0, 1) := by decide +kernel
theorem dX0_age_42 : decode cX0_age 42 = .ok (.iadd, 1) := by decide +kernel
theorem dX0_age_43 : decode cX0_age 43 = .ok (.istore_n 2, 1) := by decide +kernel
theorem dX0_age_44 : decode cX0_age 44 = .ok (.aload_n 0, 1) := by decide +kernel
theorem dX0_age_45 : decode cX0_age 45 = .ok (.getfield 16, 3) := by decide +kernel
theorem dX0_age_48 : decode cX0_age 48 = .ok (.iload_n 3, 1) := by decide +kernel
theorem dX0_age_49 : decode cX0_age 49 = .ok (.iconst 0, 1) := by decide +kernel
theorem dX0_age_50 : decode cX0_age 50 = .ok (.bastore, 1) := by decide +kernel
theorem dX0_age_51 : decode cX0_age 51 = .ok (.aload_n 0, 1) := by decide +kernel
theorem dX0_age_52 : decode cX0_age 52 = .ok (.iload_n 3, 1) := by decide +kernel
theorem dX0_age_53 : decode cX0_age 53 = .ok (.invokevirtual 57, 3) := by decide +kernel
theorem dX0_age_56 : decode cX0_age 56 = .ok (.iinc 3 1, 3) := by decide +kernel
theorem dX0_age_59 : decode cX0_age 59 = .ok (.goto (-43), 3) := by decide +kernel
theorem dX0_age_62 : decode cX0_age 62 = .ok (.iload_n 2, 1) := by decide +kernel
theorem dX0_age_63 : decode cX0_age 63 = .ok (.ireturn, 1) := by decide +kernel
abbrev cX0_frameCell : ByteArray := prog_1_method_12_code
def yX0_frameCell : MethodName := ⟨RX0, "frameCell", "(II)I"⟩
theorem dX0_frameCell_0 : decode cX0_frameCell 0 = .ok (.iload_n 1, 1) := by decide +kernel
theorem dX0_frameCell_1 : decode cX0_frameCell 1 = .ok (.invokestatic 54, 3) := by decide +kernel
theorem dX0_frameCell_4 : decode cX0_frameCell 4 = .ok (.ifCond .eq 25, 3) := by decide +kernel
theorem dX0_frameCell_7 : decode cX0_frameCell 7 = .ok (.iload_n 2, 1) := by decide +kernel
theorem dX0_frameCell_8 : decode cX0_frameCell 8 = .ok (.ifCond .lt 21, 3) := by decide +kernel
theorem dX0_frameCell_11 : decode cX0_frameCell 11 = .ok (.iload_n 2, 1) := by decide +kernel
theorem dX0_frameCell_12 : decode cX0_frameCell 12 = .ok (.iconst 3, 1) := by decide +kernel
theorem dX0_frameCell_13 : decode cX0_frameCell 13 = .ok (.if_icmp .gt 16, 3) := by decide +kernel
theorem dX0_frameCell_16 : decode cX0_frameCell 16 = .ok (.aload_n 0, 1) := by decide +kernel
theorem dX0_frameCell_17 : decode cX0_frameCell 17 = .ok (.getfield 32, 3) := by decide +kernel
theorem dX0_frameCell_20 : decode cX0_frameCell 20 = .ok (.iconst 4, 1) := by decide +kernel
theorem dX0_frameCell_21 : decode cX0_frameCell 21 = .ok (.iload_n 1, 1) := by decide +kernel
theorem dX0_frameCell_22 : decode cX0_frameCell 22 = .ok (.imul, 1) := by decide +kernel
theorem dX0_frameCell_23 : decode cX0_frameCell 23 = .ok (.iload_n 2, 1) := by decide +kernel
theorem dX0_frameCell_24 : decode cX0_frameCell 24 = .ok (.iadd, 1) := by decide +kernel
theorem dX0_frameCell_25 : decode cX0_frameCell 25 = .ok (.iaload, 1) := by decide +kernel
theorem dX0_frameCell_26 : decode cX0_frameCell 26 = .ok (.goto 4, 3) := by decide +kernel
theorem dX0_frameCell_29 : decode cX0_frameCell 29 = .ok (.iconst 0, 1) := by decide +kernel
theorem dX0_frameCell_30 : decode cX0_frameCell 30 = .ok (.ireturn, 1) := by decide +kernel
theorem q5 : (Jvm.Cond.initialized "ShadowPager") ∈ lw_all := lw_g (lw_at lw_m0 1 rfl) rfl
theorem q8 : (Jvm.Cond.instantiable "ShadowPager" (15 : Nat)) ∈ lw_all := lw_g (lw_at lw_m0 4 rfl) rfl
theorem q10 : (Jvm.Cond.instanceMethod ({ cls := "ShadowPager", name := "<init>", desc := "()V" } : Jvm.MethodName)) ∈ lw_all := lw_g (lw_at lw_m0 6 rfl) rfl
theorem q11 : (Jvm.Cond.code ({ cls := "ShadowPager", name := "<init>", desc := "()V" } : Jvm.MethodName) prog_1_method_1_code (2 : Nat) (Option.none : Option Jvm.ClassFile.FieldType)) ∈ lw_all := lw_g (lw_at lw_m0 7 rfl) rfl
theorem q12 : (Jvm.Cond.methodLink "ShadowPager" (1 : Nat) ({ cls := "java/lang/Object", name := "<init>", desc := "()V" } : Jvm.MethodName)) ∈ lw_all := lw_g (lw_at lw_m0 8 rfl) rfl
theorem q15 : (Jvm.Cond.fieldLink "ShadowPager" (61 : Nat) "ShadowPager" "present" "I") ∈ lw_all := lw_g (lw_at lw_m0 11 rfl) rfl
theorem q16 : (Jvm.Cond.fieldLink "ShadowPager" (7 : Nat) "ShadowPager" "guestMiddle" "[I") ∈ lw_all := lw_g (lw_at lw_m0 12 rfl) rfl
theorem q17 : (Jvm.Cond.fieldLink "ShadowPager" (13 : Nat) "ShadowPager" "guestRights" "[I") ∈ lw_all := lw_g (lw_at lw_m0 13 rfl) rfl
theorem q18 : (Jvm.Cond.fieldLink "ShadowPager" (16 : Nat) "ShadowPager" "touched" "[Z") ∈ lw_all := lw_g (lw_at lw_m0 14 rfl) rfl
theorem q19 : (Jvm.Cond.fieldLink "ShadowPager" (20 : Nat) "ShadowPager" "changed" "[Z") ∈ lw_all := lw_g (lw_at lw_m0 15 rfl) rfl
theorem q20 : (Jvm.Cond.fieldLink "ShadowPager" (23 : Nat) "ShadowPager" "hostFrame" "[I") ∈ lw_all := lw_g (lw_at lw_m0 16 rfl) rfl
theorem q21 : (Jvm.Cond.fieldLink "ShadowPager" (26 : Nat) "ShadowPager" "hostRights" "[I") ∈ lw_all := lw_g (lw_at lw_m0 17 rfl) rfl
theorem q22 : (Jvm.Cond.fieldLink "ShadowPager" (29 : Nat) "ShadowPager" "hostChanged" "[Z") ∈ lw_all := lw_g (lw_at lw_m0 18 rfl) rfl
theorem q23 : (Jvm.Cond.fieldLink "ShadowPager" (32 : Nat) "ShadowPager" "cells" "[I") ∈ lw_all := lw_g (lw_at lw_m0 19 rfl) rfl
theorem q24 : (Jvm.Cond.fieldLink "ShadowPager" (69 : Nat) "ShadowPager" "lastLoad" "I") ∈ lw_all := lw_g (lw_at lw_m0 20 rfl) rfl
theorem q25 : (Jvm.Cond.fieldLink "ShadowPager" (35 : Nat) "ShadowPager" "shadowFrame" "[I") ∈ lw_all := lw_g (lw_at lw_m0 21 rfl) rfl
theorem q26 : (Jvm.Cond.fieldLink "ShadowPager" (38 : Nat) "ShadowPager" "shadowRights" "[I") ∈ lw_all := lw_g (lw_at lw_m0 22 rfl) rfl
theorem q27 : (Jvm.Cond.fieldLink "ShadowPager" (41 : Nat) "ShadowPager" "shadowMiddle" "[I") ∈ lw_all := lw_g (lw_at lw_m0 23 rfl) rfl
theorem q28 : (Jvm.Cond.fieldLink "ShadowPager" (44 : Nat) "ShadowPager" "head" "[I") ∈ lw_all := lw_g (lw_at lw_m0 24 rfl) rfl
theorem q29 : (Jvm.Cond.fieldLink "ShadowPager" (47 : Nat) "ShadowPager" "next" "[I") ∈ lw_all := lw_g (lw_at lw_m0 25 rfl) rfl
theorem q30 : (Jvm.Cond.lays "ShadowPager" "ShadowPager" "present" "I") ∈ lw_all := lw_g (lw_at lw_m0 26 rfl) rfl
theorem q31 : (Jvm.Cond.soleField "ShadowPager" "present") ∈ lw_all := lw_g (lw_at lw_m0 27 rfl) rfl
theorem q32 : (Jvm.Cond.laysFinal "ShadowPager" "ShadowPager" "guestMiddle" "[I") ∈ lw_all := lw_g (lw_at lw_m0 28 rfl) rfl
theorem q33 : (Jvm.Cond.soleField "ShadowPager" "guestMiddle") ∈ lw_all := lw_g (lw_at lw_m0 29 rfl) rfl
theorem q34 : (Jvm.Cond.laysFinal "ShadowPager" "ShadowPager" "guestRights" "[I") ∈ lw_all := lw_g (lw_at lw_m0 30 rfl) rfl
theorem q35 : (Jvm.Cond.soleField "ShadowPager" "guestRights") ∈ lw_all := lw_g (lw_at lw_m0 31 rfl) rfl
theorem q36 : (Jvm.Cond.laysFinal "ShadowPager" "ShadowPager" "touched" "[Z") ∈ lw_all := lw_g (lw_at lw_m0 32 rfl) rfl
theorem q37 : (Jvm.Cond.soleField "ShadowPager" "touched") ∈ lw_all := lw_g (lw_at lw_m0 33 rfl) rfl
theorem q38 : (Jvm.Cond.laysFinal "ShadowPager" "ShadowPager" "changed" "[Z") ∈ lw_all := lw_g (lw_at lw_m0 34 rfl) rfl
theorem q39 : (Jvm.Cond.soleField "ShadowPager" "changed") ∈ lw_all := lw_g (lw_at lw_m0 35 rfl) rfl
theorem q40 : (Jvm.Cond.laysFinal "ShadowPager" "ShadowPager" "hostFrame" "[I") ∈ lw_all := lw_g (lw_at lw_m0 36 rfl) rfl
theorem q41 : (Jvm.Cond.soleField "ShadowPager" "hostFrame") ∈ lw_all := lw_g (lw_at lw_m0 37 rfl) rfl
theorem q42 : (Jvm.Cond.laysFinal "ShadowPager" "ShadowPager" "hostRights" "[I") ∈ lw_all := lw_g (lw_at lw_m0 38 rfl) rfl
theorem q43 : (Jvm.Cond.soleField "ShadowPager" "hostRights") ∈ lw_all := lw_g (lw_at lw_m0 39 rfl) rfl
theorem q44 : (Jvm.Cond.laysFinal "ShadowPager" "ShadowPager" "hostChanged" "[Z") ∈ lw_all := lw_g (lw_at lw_m0 40 rfl) rfl
theorem q45 : (Jvm.Cond.soleField "ShadowPager" "hostChanged") ∈ lw_all := lw_g (lw_at lw_m0 41 rfl) rfl
theorem q46 : (Jvm.Cond.laysFinal "ShadowPager" "ShadowPager" "cells" "[I") ∈ lw_all := lw_g (lw_at lw_m0 42 rfl) rfl
theorem q47 : (Jvm.Cond.soleField "ShadowPager" "cells") ∈ lw_all := lw_g (lw_at lw_m0 43 rfl) rfl
theorem q48 : (Jvm.Cond.lays "ShadowPager" "ShadowPager" "lastLoad" "I") ∈ lw_all := lw_g (lw_at lw_m0 44 rfl) rfl
theorem q49 : (Jvm.Cond.soleField "ShadowPager" "lastLoad") ∈ lw_all := lw_g (lw_at lw_m0 45 rfl) rfl
theorem q50 : (Jvm.Cond.laysFinal "ShadowPager" "ShadowPager" "shadowFrame" "[I") ∈ lw_all := lw_g (lw_at lw_m0 46 rfl) rfl
theorem q51 : (Jvm.Cond.soleField "ShadowPager" "shadowFrame") ∈ lw_all := lw_g (lw_at lw_m0 47 rfl) rfl
theorem q52 : (Jvm.Cond.laysFinal "ShadowPager" "ShadowPager" "shadowRights" "[I") ∈ lw_all := lw_g (lw_at lw_m0 48 rfl) rfl
theorem q53 : (Jvm.Cond.soleField "ShadowPager" "shadowRights") ∈ lw_all := lw_g (lw_at lw_m0 49 rfl) rfl
theorem q54 : (Jvm.Cond.laysFinal "ShadowPager" "ShadowPager" "shadowMiddle" "[I") ∈ lw_all := lw_g (lw_at lw_m0 50 rfl) rfl
theorem q55 : (Jvm.Cond.soleField "ShadowPager" "shadowMiddle") ∈ lw_all := lw_g (lw_at lw_m0 51 rfl) rfl
theorem q56 : (Jvm.Cond.laysFinal "ShadowPager" "ShadowPager" "head" "[I") ∈ lw_all := lw_g (lw_at lw_m0 52 rfl) rfl
theorem q57 : (Jvm.Cond.soleField "ShadowPager" "head") ∈ lw_all := lw_g (lw_at lw_m0 53 rfl) rfl
theorem q58 : (Jvm.Cond.laysFinal "ShadowPager" "ShadowPager" "next" "[I") ∈ lw_all := lw_g (lw_at lw_m0 54 rfl) rfl
theorem q59 : (Jvm.Cond.soleField "ShadowPager" "next") ∈ lw_all := lw_g (lw_at lw_m0 55 rfl) rfl
theorem q60 : (Jvm.Cond.superclass "ShadowPager" "java/lang/Object") ∈ lw_all := lw_g (lw_at lw_m0 56 rfl) rfl
theorem q64 : (Jvm.Cond.instanceMethod ({ cls := "ShadowPager", name := "setGuest", desc := "(IIII)I" } : Jvm.MethodName)) ∈ lw_all := lw_g (lw_at lw_m0 60 rfl) rfl
theorem q65 : (Jvm.Cond.selects "ShadowPager" ({ cls := "ShadowPager", name := "setGuest", desc := "(IIII)I" } : Jvm.MethodName) ({ cls := "ShadowPager", name := "setGuest", desc := "(IIII)I" } : Jvm.MethodName)) ∈ lw_all := lw_g (lw_at lw_m0 61 rfl) rfl
theorem q66 : (Jvm.Cond.code ({ cls := "ShadowPager", name := "setGuest", desc := "(IIII)I" } : Jvm.MethodName) prog_1_method_2_code (6 : Nat) (Option.some Jvm.ClassFile.FieldType.int)) ∈ lw_all := lw_g (lw_at lw_m0 62 rfl) rfl
theorem q67 : (Jvm.Cond.methodLink "ShadowPager" (50 : Nat) ({ cls := "ShadowPager", name := "isSpace", desc := "(I)Z" } : Jvm.MethodName)) ∈ lw_all := lw_g (lw_at lw_m0 63 rfl) rfl
theorem q68 : (Jvm.Cond.static ({ cls := "ShadowPager", name := "isSpace", desc := "(I)Z" } : Jvm.MethodName)) ∈ lw_all := lw_g (lw_at lw_m0 64 rfl) rfl
theorem q69 : (Jvm.Cond.code ({ cls := "ShadowPager", name := "isSpace", desc := "(I)Z" } : Jvm.MethodName) prog_1_method_13_code (1 : Nat) (Option.some Jvm.ClassFile.FieldType.boolean)) ∈ lw_all := lw_g (lw_at lw_m0 65 rfl) rfl
theorem q70 : (Jvm.Cond.methodLink "ShadowPager" (54 : Nat) ({ cls := "ShadowPager", name := "isNumber", desc := "(I)Z" } : Jvm.MethodName)) ∈ lw_all := lw_g (lw_at lw_m0 66 rfl) rfl
theorem q71 : (Jvm.Cond.static ({ cls := "ShadowPager", name := "isNumber", desc := "(I)Z" } : Jvm.MethodName)) ∈ lw_all := lw_g (lw_at lw_m0 67 rfl) rfl
theorem q72 : (Jvm.Cond.code ({ cls := "ShadowPager", name := "isNumber", desc := "(I)Z" } : Jvm.MethodName) prog_1_method_14_code (1 : Nat) (Option.some Jvm.ClassFile.FieldType.boolean)) ∈ lw_all := lw_g (lw_at lw_m0 68 rfl) rfl
theorem q73 : (Jvm.Cond.methodLink "ShadowPager" (57 : Nat) ({ cls := "ShadowPager", name := "takeBack", desc := "(I)V" } : Jvm.MethodName)) ∈ lw_all := lw_g (lw_at lw_m0 69 rfl) rfl
theorem q74 : (Jvm.Cond.privateMethod ({ cls := "ShadowPager", name := "takeBack", desc := "(I)V" } : Jvm.MethodName)) ∈ lw_tbl := lw_at lw_m0 70 rfl
theorem q75 : (Jvm.Cond.instanceMethod ({ cls := "ShadowPager", name := "takeBack", desc := "(I)V" } : Jvm.MethodName)) ∈ lw_all := lw_g (lw_at lw_m0 71 rfl) rfl
theorem q76 : (Jvm.Cond.code ({ cls := "ShadowPager", name := "takeBack", desc := "(I)V" } : Jvm.MethodName) prog_1_method_17_code (5 : Nat) (Option.none : Option Jvm.ClassFile.FieldType)) ∈ lw_all := lw_g (lw_at lw_m0 72 rfl) rfl
theorem q78 : (Jvm.Cond.instanceMethod ({ cls := "ShadowPager", name := "setHost", desc := "(III)I" } : Jvm.MethodName)) ∈ lw_all := lw_g (lw_at lw_m0 74 rfl) rfl
theorem q79 : (Jvm.Cond.selects "ShadowPager" ({ cls := "ShadowPager", name := "setHost", desc := "(III)I" } : Jvm.MethodName) ({ cls := "ShadowPager", name := "setHost", desc := "(III)I" } : Jvm.MethodName)) ∈ lw_all := lw_g (lw_at lw_m0 75 rfl) rfl
theorem q80 : (Jvm.Cond.code ({ cls := "ShadowPager", name := "setHost", desc := "(III)I" } : Jvm.MethodName) prog_1_method_3_code (5 : Nat) (Option.some Jvm.ClassFile.FieldType.int)) ∈ lw_all := lw_g (lw_at lw_m0 76 rfl) rfl
theorem q82 : (Jvm.Cond.instanceMethod ({ cls := "ShadowPager", name := "change", desc := "(I)V" } : Jvm.MethodName)) ∈ lw_all := lw_g (lw_at lw_m0 78 rfl) rfl
theorem q83 : (Jvm.Cond.selects "ShadowPager" ({ cls := "ShadowPager", name := "change", desc := "(I)V" } : Jvm.MethodName) ({ cls := "ShadowPager", name := "change", desc := "(I)V" } : Jvm.MethodName)) ∈ lw_all := lw_g (lw_at lw_m0 79 rfl) rfl
theorem q84 : (Jvm.Cond.code ({ cls := "ShadowPager", name := "change", desc := "(I)V" } : Jvm.MethodName) prog_1_method_4_code (2 : Nat) (Option.none : Option Jvm.ClassFile.FieldType)) ∈ lw_all := lw_g (lw_at lw_m0 80 rfl) rfl
theorem q86 : (Jvm.Cond.instanceMethod ({ cls := "ShadowPager", name := "load", desc := "(II)I" } : Jvm.MethodName)) ∈ lw_all := lw_g (lw_at lw_m0 82 rfl) rfl
theorem q87 : (Jvm.Cond.selects "ShadowPager" ({ cls := "ShadowPager", name := "load", desc := "(II)I" } : Jvm.MethodName) ({ cls := "ShadowPager", name := "load", desc := "(II)I" } : Jvm.MethodName)) ∈ lw_all := lw_g (lw_at lw_m0 83 rfl) rfl
theorem q88 : (Jvm.Cond.code ({ cls := "ShadowPager", name := "load", desc := "(II)I" } : Jvm.MethodName) prog_1_method_5_code (4 : Nat) (Option.some Jvm.ClassFile.FieldType.int)) ∈ lw_all := lw_g (lw_at lw_m0 84 rfl) rfl
theorem q89 : (Jvm.Cond.methodLink "ShadowPager" (65 : Nat) ({ cls := "ShadowPager", name := "reach", desc := "(II)I" } : Jvm.MethodName)) ∈ lw_all := lw_g (lw_at lw_m0 85 rfl) rfl
theorem q90 : (Jvm.Cond.privateMethod ({ cls := "ShadowPager", name := "reach", desc := "(II)I" } : Jvm.MethodName)) ∈ lw_tbl := lw_at lw_m0 86 rfl
theorem q91 : (Jvm.Cond.instanceMethod ({ cls := "ShadowPager", name := "reach", desc := "(II)I" } : Jvm.MethodName)) ∈ lw_all := lw_g (lw_at lw_m0 87 rfl) rfl
theorem q92 : (Jvm.Cond.code ({ cls := "ShadowPager", name := "reach", desc := "(II)I" } : Jvm.MethodName) prog_1_method_15_code (5 : Nat) (Option.some Jvm.ClassFile.FieldType.int)) ∈ lw_all := lw_g (lw_at lw_m0 88 rfl) rfl
theorem q93 : (Jvm.Cond.methodLink "ShadowPager" (72 : Nat) ({ cls := "ShadowPager", name := "fillIn", desc := "(II)V" } : Jvm.MethodName)) ∈ lw_all := lw_g (lw_at lw_m0 89 rfl) rfl
theorem q94 : (Jvm.Cond.privateMethod ({ cls := "ShadowPager", name := "fillIn", desc := "(II)V" } : Jvm.MethodName)) ∈ lw_tbl := lw_at lw_m0 90 rfl
theorem q95 : (Jvm.Cond.instanceMethod ({ cls := "ShadowPager", name := "fillIn", desc := "(II)V" } : Jvm.MethodName)) ∈ lw_all := lw_g (lw_at lw_m0 91 rfl) rfl
theorem q96 : (Jvm.Cond.code ({ cls := "ShadowPager", name := "fillIn", desc := "(II)V" } : Jvm.MethodName) prog_1_method_16_code (5 : Nat) (Option.none : Option Jvm.ClassFile.FieldType)) ∈ lw_all := lw_g (lw_at lw_m0 92 rfl) rfl
theorem q98 : (Jvm.Cond.instanceMethod ({ cls := "ShadowPager", name := "store", desc := "(III)I" } : Jvm.MethodName)) ∈ lw_all := lw_g (lw_at lw_m0 94 rfl) rfl
theorem q99 : (Jvm.Cond.selects "ShadowPager" ({ cls := "ShadowPager", name := "store", desc := "(III)I" } : Jvm.MethodName) ({ cls := "ShadowPager", name := "store", desc := "(III)I" } : Jvm.MethodName)) ∈ lw_all := lw_g (lw_at lw_m0 95 rfl) rfl
theorem q100 : (Jvm.Cond.code ({ cls := "ShadowPager", name := "store", desc := "(III)I" } : Jvm.MethodName) prog_1_method_6_code (5 : Nat) (Option.some Jvm.ClassFile.FieldType.int)) ∈ lw_all := lw_g (lw_at lw_m0 96 rfl) rfl
theorem q102 : (Jvm.Cond.instanceMethod ({ cls := "ShadowPager", name := "fetch", desc := "(I)I" } : Jvm.MethodName)) ∈ lw_all := lw_g (lw_at lw_m0 98 rfl) rfl
theorem q103 : (Jvm.Cond.selects "ShadowPager" ({ cls := "ShadowPager", name := "fetch", desc := "(I)I" } : Jvm.MethodName) ({ cls := "ShadowPager", name := "fetch", desc := "(I)I" } : Jvm.MethodName)) ∈ lw_all := lw_g (lw_at lw_m0 99 rfl) rfl
theorem q104 : (Jvm.Cond.code ({ cls := "ShadowPager", name := "fetch", desc := "(I)I" } : Jvm.MethodName) prog_1_method_7_code (2 : Nat) (Option.some Jvm.ClassFile.FieldType.int)) ∈ lw_all := lw_g (lw_at lw_m0 100 rfl) rfl
theorem q106 : (Jvm.Cond.instanceMethod ({ cls := "ShadowPager", name := "last", desc := "()I" } : Jvm.MethodName)) ∈ lw_all := lw_g (lw_at lw_m0 102 rfl) rfl
theorem q107 : (Jvm.Cond.selects "ShadowPager" ({ cls := "ShadowPager", name := "last", desc := "()I" } : Jvm.MethodName) ({ cls := "ShadowPager", name := "last", desc := "()I" } : Jvm.MethodName)) ∈ lw_all := lw_g (lw_at lw_m0 103 rfl) rfl
theorem q108 : (Jvm.Cond.code ({ cls := "ShadowPager", name := "last", desc := "()I" } : Jvm.MethodName) prog_1_method_8_code (1 : Nat) (Option.some Jvm.ClassFile.FieldType.int)) ∈ lw_all := lw_g (lw_at lw_m0 104 rfl) rfl
theorem q110 : (Jvm.Cond.instanceMethod ({ cls := "ShadowPager", name := "marks", desc := "(II)I" } : Jvm.MethodName)) ∈ lw_all := lw_g (lw_at lw_m0 106 rfl) rfl
theorem q111 : (Jvm.Cond.selects "ShadowPager" ({ cls := "ShadowPager", name := "marks", desc := "(II)I" } : Jvm.MethodName) ({ cls := "ShadowPager", name := "marks", desc := "(II)I" } : Jvm.MethodName)) ∈ lw_all := lw_g (lw_at lw_m0 107 rfl) rfl
theorem q112 : (Jvm.Cond.code ({ cls := "ShadowPager", name := "marks", desc := "(II)I" } : Jvm.MethodName) prog_1_method_9_code (4 : Nat) (Option.some Jvm.ClassFile.FieldType.int)) ∈ lw_all := lw_g (lw_at lw_m0 108 rfl) rfl
theorem q114 : (Jvm.Cond.instanceMethod ({ cls := "ShadowPager", name := "hostMark", desc := "(I)I" } : Jvm.MethodName)) ∈ lw_all := lw_g (lw_at lw_m0 110 rfl) rfl
theorem q115 : (Jvm.Cond.selects "ShadowPager" ({ cls := "ShadowPager", name := "hostMark", desc := "(I)I" } : Jvm.MethodName) ({ cls := "ShadowPager", name := "hostMark", desc := "(I)I" } : Jvm.MethodName)) ∈ lw_all := lw_g (lw_at lw_m0 111 rfl) rfl
theorem q116 : (Jvm.Cond.code ({ cls := "ShadowPager", name := "hostMark", desc := "(I)I" } : Jvm.MethodName) prog_1_method_10_code (2 : Nat) (Option.some Jvm.ClassFile.FieldType.int)) ∈ lw_all := lw_g (lw_at lw_m0 112 rfl) rfl
theorem q118 : (Jvm.Cond.instanceMethod ({ cls := "ShadowPager", name := "age", desc := "(I)I" } : Jvm.MethodName)) ∈ lw_all := lw_g (lw_at lw_m0 114 rfl) rfl
theorem q119 : (Jvm.Cond.selects "ShadowPager" ({ cls := "ShadowPager", name := "age", desc := "(I)I" } : Jvm.MethodName) ({ cls := "ShadowPager", name := "age", desc := "(I)I" } : Jvm.MethodName)) ∈ lw_all := lw_g (lw_at lw_m0 115 rfl) rfl
theorem q120 : (Jvm.Cond.code ({ cls := "ShadowPager", name := "age", desc := "(I)I" } : Jvm.MethodName) prog_1_method_11_code (4 : Nat) (Option.some Jvm.ClassFile.FieldType.int)) ∈ lw_all := lw_g (lw_at lw_m0 116 rfl) rfl
theorem q122 : (Jvm.Cond.instanceMethod ({ cls := "ShadowPager", name := "frameCell", desc := "(II)I" } : Jvm.MethodName)) ∈ lw_all := lw_g (lw_at lw_m0 118 rfl) rfl
theorem q123 : (Jvm.Cond.selects "ShadowPager" ({ cls := "ShadowPager", name := "frameCell", desc := "(II)I" } : Jvm.MethodName) ({ cls := "ShadowPager", name := "frameCell", desc := "(II)I" } : Jvm.MethodName)) ∈ lw_all := lw_g (lw_at lw_m0 119 rfl) rfl
theorem q124 : (Jvm.Cond.code ({ cls := "ShadowPager", name := "frameCell", desc := "(II)I" } : Jvm.MethodName) prog_1_method_12_code (3 : Nat) (Option.some Jvm.ClassFile.FieldType.int)) ∈ lw_all := lw_g (lw_at lw_m0 120 rfl) rfl
theorem in_X0 : ∀ w ∈ wsX00, w ∈ lw_all := lw_in wsX00 [30, 32, 34, 36, 38, 40, 42, 44, 46, 48, 50, 52, 54, 56, 58] (by decide +kernel) (by decide +kernel)
/-! java/lang/Object -/
set_option maxRecDepth 100000
def RJ0 : String := "java/lang/Object"
abbrev cJ0_init : ByteArray := object_method_1_code
def yJ0_init : MethodName := ⟨RJ0, "<init>", "()V"⟩
theorem dJ0_init_0 : decode cJ0_init 0 = .ok (.return_, 1) := by decide +kernel
theorem q13 : (Jvm.Cond.instanceMethod ({ cls := "java/lang/Object", name := "<init>", desc := "()V" } : Jvm.MethodName)) ∈ lw_all := lw_g (lw_at lw_m0 9 rfl) rfl
theorem q14 : (Jvm.Cond.code ({ cls := "java/lang/Object", name := "<init>", desc := "()V" } : Jvm.MethodName) object_method_1_code (1 : Nat) (Option.none : Option Jvm.ClassFile.FieldType)) ∈ lw_all := lw_g (lw_at lw_m0 10 rfl) rfl
end
section
/-! ShadowPagerModel -/
set_option maxRecDepth 100000
def RX1 : String := "ShadowPagerModel"
def TX1 : u_T := fun k => match k with
  | 0 => ("ShadowPagerModel", "middles", "[I", true)
  | 1 => ("ShadowPagerModel", "guestRights", "[I", true)
  | 2 => ("ShadowPagerModel", "touched", "[Z", true)
  | 3 => ("ShadowPagerModel", "changed", "[Z", true)
  | 4 => ("ShadowPagerModel", "frames", "[I", true)
  | 5 => ("ShadowPagerModel", "hostRights", "[I", true)
  | 6 => ("ShadowPagerModel", "hostChanged", "[Z", true)
  | 7 => ("ShadowPagerModel", "cells", "[I", true)
  | 8 => ("ShadowPagerModel", "present", "I", false)
  | _ => ("ShadowPagerModel", "loaded", "I", false)
def tyX1 : Nat → FieldType := fun k => match k with
  | 0 => .array .int
  | 1 => .array .int
  | 2 => .array .boolean
  | 3 => .array .boolean
  | 4 => .array .int
  | 5 => .array .int
  | 6 => .array .boolean
  | 7 => .array .int
  | 8 => .int
  | _ => .int
abbrev wsX10 : List Cond := u_ws RX1 TX1 10
theorem nmX1 : ∀ a, a < 10 → ∀ b, b < 10 → a ≠ b → (TX1 a).2.1 ≠ (TX1 b).2.1 := by decide +kernel
theorem tyX1_ok : ∀ k, k < 10 → parseFieldDescriptor (TX1 k).2.2.1 = some (tyX1 k) := by decide +kernel
abbrev cX1_init : ByteArray := prog_3_method_1_code
def yX1_init : MethodName := ⟨RX1, "<init>", "()V"⟩
theorem dX1_init_0 : decode cX1_init 0 = .ok (.aload_n 0, 1) := by decide +kernel
theorem dX1_init_1 : decode cX1_init 1 = .ok (.invokespecial 1, 3) := by decide +kernel
theorem dX1_init_4 : decode cX1_init 4 = .ok (.aload_n 0, 1) := by decide +kernel
theorem dX1_init_5 : decode cX1_init 5 = .ok (.bipush 16, 2) := by decide +kernel
theorem dX1_init_7 : decode cX1_init 7 = .ok (.newarray .int, 2) := by decide +kernel
theorem dX1_init_9 : decode cX1_init 9 = .ok (.putfield 7, 3) := by decide +kernel
theorem dX1_init_12 : decode cX1_init 12 = .ok (.aload_n 0, 1) := by decide +kernel
theorem dX1_init_13 : decode cX1_init 13 = .ok (.bipush 16, 2) := by decide +kernel
theorem dX1_init_15 : decode cX1_init 15 = .ok (.newarray .int, 2) := by decide +kernel
theorem dX1_init_17 : decode cX1_init 17 = .ok (.putfield 13, 3) := by decide +kernel
theorem dX1_init_20 : decode cX1_init 20 = .ok (.aload_n 0, 1) := by decide +kernel
theorem dX1_init_21 : decode cX1_init 21 = .ok (.bipush 16, 2) := by decide +kernel
theorem dX1_init_23 : decode cX1_init 23 = .ok (.newarray .boolean, 2) := by decide +kernel
theorem dX1_init_25 : decode cX1_init 25 = .ok (.putfield 16, 3) := by decide +kernel
theorem dX1_init_28 : decode cX1_init 28 = .ok (.aload_n 0, 1) := by decide +kernel
theorem dX1_init_29 : decode cX1_init 29 = .ok (.bipush 16, 2) := by decide +kernel
theorem dX1_init_31 : decode cX1_init 31 = .ok (.newarray .boolean, 2) := by decide +kernel
theorem dX1_init_33 : decode cX1_init 33 = .ok (.putfield 20, 3) := by decide +kernel
theorem dX1_init_36 : decode cX1_init 36 = .ok (.aload_n 0, 1) := by decide +kernel
theorem dX1_init_37 : decode cX1_init 37 = .ok (.bipush 8, 2) := by decide +kernel
theorem dX1_init_39 : decode cX1_init 39 = .ok (.newarray .int, 2) := by decide +kernel
theorem dX1_init_41 : decode cX1_init 41 = .ok (.putfield 23, 3) := by decide +kernel
theorem dX1_init_44 : decode cX1_init 44 = .ok (.aload_n 0, 1) := by decide +kernel
theorem dX1_init_45 : decode cX1_init 45 = .ok (.bipush 8, 2) := by decide +kernel
theorem dX1_init_47 : decode cX1_init 47 = .ok (.newarray .int, 2) := by decide +kernel
theorem dX1_init_49 : decode cX1_init 49 = .ok (.putfield 26, 3) := by decide +kernel
theorem dX1_init_52 : decode cX1_init 52 = .ok (.aload_n 0, 1) := by decide +kernel
theorem dX1_init_53 : decode cX1_init 53 = .ok (.bipush 8, 2) := by decide +kernel
theorem dX1_init_55 : decode cX1_init 55 = .ok (.newarray .boolean, 2) := by decide +kernel
theorem dX1_init_57 : decode cX1_init 57 = .ok (.putfield 29, 3) := by decide +kernel
theorem dX1_init_60 : decode cX1_init 60 = .ok (.aload_n 0, 1) := by decide +kernel
theorem dX1_init_61 : decode cX1_init 61 = .ok (.bipush 32, 2) := by decide +kernel
theorem dX1_init_63 : decode cX1_init 63 = .ok (.newarray .int, 2) := by decide +kernel
theorem dX1_init_65 : decode cX1_init 65 = .ok (.putfield 32, 3) := by decide +kernel
theorem dX1_init_68 : decode cX1_init 68 = .ok (.iconst 0, 1) := by decide +kernel
theorem dX1_init_69 : decode cX1_init 69 = .ok (.istore_n 1, 1) := by decide +kernel
theorem dX1_init_70 : decode cX1_init 70 = .ok (.iload_n 1, 1) := by decide +kernel
theorem dX1_init_71 : decode cX1_init 71 = .ok (.bipush 16, 2) := by decide +kernel
theorem dX1_init_73 : decode cX1_init 73 = .ok (.if_icmp .ge 16, 3) := by decide +kernel
theorem dX1_init_76 : decode cX1_init 76 = .ok (.aload_n 0, 1) := by decide +kernel
theorem dX1_init_77 : decode cX1_init 77 = .ok (.getfield 7, 3) := by decide +kernel
theorem dX1_init_80 : decode cX1_init 80 = .ok (.iload_n 1, 1) := by decide +kernel
theorem dX1_init_81 : decode cX1_init 81 = .ok (.iconst (-1), 1) := by decide +kernel
theorem dX1_init_82 : decode cX1_init 82 = .ok (.iastore, 1) := by decide +kernel
theorem dX1_init_83 : decode cX1_init 83 = .ok (.iinc 1 1, 3) := by decide +kernel
theorem dX1_init_86 : decode cX1_init 86 = .ok (.goto (-16), 3) := by decide +kernel
theorem dX1_init_89 : decode cX1_init 89 = .ok (.iconst 0, 1) := by decide +kernel
theorem dX1_init_90 : decode cX1_init 90 = .ok (.istore_n 1, 1) := by decide +kernel
theorem dX1_init_91 : decode cX1_init 91 = .ok (.iload_n 1, 1) := by decide +kernel
theorem dX1_init_92 : decode cX1_init 92 = .ok (.bipush 8, 2) := by decide +kernel
theorem dX1_init_94 : decode cX1_init 94 = .ok (.if_icmp .ge 16, 3) := by decide +kernel
theorem dX1_init_97 : decode cX1_init 97 = .ok (.aload_n 0, 1) := by decide +kernel
theorem dX1_init_98 : decode cX1_init 98 = .ok (.getfield 23, 3) := by decide +kernel
theorem dX1_init_101 : decode cX1_init 101 = .ok (.iload_n 1, 1) := by decide +kernel
theorem dX1_init_102 : decode cX1_init 102 = .ok (.iconst (-1), 1) := by decide +kernel
theorem dX1_init_103 : decode cX1_init 103 = .ok (.iastore, 1) := by decide +kernel
theorem dX1_init_104 : decode cX1_init 104 = .ok (.iinc 1 1, 3) := by decide +kernel
theorem dX1_init_107 : decode cX1_init 107 = .ok (.goto (-16), 3) := by decide +kernel
theorem dX1_init_110 : decode cX1_init 110 = .ok (.return_, 1) := by decide +kernel
abbrev cX1_setGuest : ByteArray := prog_3_method_3_code
def yX1_setGuest : MethodName := ⟨RX1, "setGuest", "(IIII)I"⟩
theorem dX1_setGuest_0 : decode cX1_setGuest 0 = .ok (.iload_n 1, 1) := by decide +kernel
theorem dX1_setGuest_1 : decode cX1_setGuest 1 = .ok (.iconst 1, 1) := by decide +kernel
theorem dX1_setGuest_2 : decode cX1_setGuest 2 = .ok (.invokestatic 35, 3) := by decide +kernel
theorem dX1_setGuest_5 : decode cX1_setGuest 5 = .ok (.ifCond .ne 23, 3) := by decide +kernel
theorem dX1_setGuest_8 : decode cX1_setGuest 8 = .ok (.iload_n 2, 1) := by decide +kernel
theorem dX1_setGuest_9 : decode cX1_setGuest 9 = .ok (.bipush 7, 2) := by decide +kernel
theorem dX1_setGuest_11 : decode cX1_setGuest 11 = .ok (.invokestatic 35, 3) := by decide +kernel
theorem dX1_setGuest_14 : decode cX1_setGuest 14 = .ok (.ifCond .ne 14, 3) := by decide +kernel
theorem dX1_setGuest_17 : decode cX1_setGuest 17 = .ok (.iload_n 3, 1) := by decide +kernel
theorem dX1_setGuest_18 : decode cX1_setGuest 18 = .ok (.iconst (-1), 1) := by decide +kernel
theorem dX1_setGuest_19 : decode cX1_setGuest 19 = .ok (.if_icmp .lt 9, 3) := by decide +kernel
theorem dX1_setGuest_22 : decode cX1_setGuest 22 = .ok (.iload_n 3, 1) := by decide +kernel
theorem dX1_setGuest_23 : decode cX1_setGuest 23 = .ok (.bipush 7, 2) := by decide +kernel
theorem dX1_setGuest_25 : decode cX1_setGuest 25 = .ok (.if_icmp .le 5, 3) := by decide +kernel
theorem dX1_setGuest_28 : decode cX1_setGuest 28 = .ok (.iconst (-1), 1) := by decide +kernel
theorem dX1_setGuest_29 : decode cX1_setGuest 29 = .ok (.ireturn, 1) := by decide +kernel
theorem dX1_setGuest_30 : decode cX1_setGuest 30 = .ok (.bipush 8, 2) := by decide +kernel
theorem dX1_setGuest_32 : decode cX1_setGuest 32 = .ok (.iload_n 1, 1) := by decide +kernel
theorem dX1_setGuest_33 : decode cX1_setGuest 33 = .ok (.imul, 1) := by decide +kernel
theorem dX1_setGuest_34 : decode cX1_setGuest 34 = .ok (.iload_n 2, 1) := by decide +kernel
theorem dX1_setGuest_35 : decode cX1_setGuest 35 = .ok (.iadd, 1) := by decide +kernel
theorem dX1_setGuest_36 : decode cX1_setGuest 36 = .ok (.istore 5, 2) := by decide +kernel
theorem dX1_setGuest_38 : decode cX1_setGuest 38 = .ok (.aload_n 0, 1) := by decide +kernel
theorem dX1_setGuest_39 : decode cX1_setGuest 39 = .ok (.getfield 7, 3) := by decide +kernel
theorem dX1_setGuest_42 : decode cX1_setGuest 42 = .ok (.iload 5, 2) := by decide +kernel
theorem dX1_setGuest_44 : decode cX1_setGuest 44 = .ok (.iload_n 3, 1) := by decide +kernel
theorem dX1_setGuest_45 : decode cX1_setGuest 45 = .ok (.iastore, 1) := by decide +kernel
theorem dX1_setGuest_46 : decode cX1_setGuest 46 = .ok (.aload_n 0, 1) := by decide +kernel
theorem dX1_setGuest_47 : decode cX1_setGuest 47 = .ok (.getfield 13, 3) := by decide +kernel
theorem dX1_setGuest_50 : decode cX1_setGuest 50 = .ok (.iload 5, 2) := by decide +kernel
theorem dX1_setGuest_52 : decode cX1_setGuest 52 = .ok (.iload 4, 2) := by decide +kernel
theorem dX1_setGuest_54 : decode cX1_setGuest 54 = .ok (.bipush 7, 2) := by decide +kernel
theorem dX1_setGuest_56 : decode cX1_setGuest 56 = .ok (.iand, 1) := by decide +kernel
theorem dX1_setGuest_57 : decode cX1_setGuest 57 = .ok (.iastore, 1) := by decide +kernel
theorem dX1_setGuest_58 : decode cX1_setGuest 58 = .ok (.aload_n 0, 1) := by decide +kernel
theorem dX1_setGuest_59 : decode cX1_setGuest 59 = .ok (.getfield 16, 3) := by decide +kernel
theorem dX1_setGuest_62 : decode cX1_setGuest 62 = .ok (.iload 5, 2) := by decide +kernel
theorem dX1_setGuest_64 : decode cX1_setGuest 64 = .ok (.iconst 0, 1) := by decide +kernel
theorem dX1_setGuest_65 : decode cX1_setGuest 65 = .ok (.bastore, 1) := by decide +kernel
theorem dX1_setGuest_66 : decode cX1_setGuest 66 = .ok (.aload_n 0, 1) := by decide +kernel
theorem dX1_setGuest_67 : decode cX1_setGuest 67 = .ok (.getfield 20, 3) := by decide +kernel
theorem dX1_setGuest_70 : decode cX1_setGuest 70 = .ok (.iload 5, 2) := by decide +kernel
theorem dX1_setGuest_72 : decode cX1_setGuest 72 = .ok (.iconst 0, 1) := by decide +kernel
theorem dX1_setGuest_73 : decode cX1_setGuest 73 = .ok (.bastore, 1) := by decide +kernel
theorem dX1_setGuest_74 : decode cX1_setGuest 74 = .ok (.iconst 0, 1) := by decide +kernel
theorem dX1_setGuest_75 : decode cX1_setGuest 75 = .ok (.ireturn, 1) := by decide +kernel
abbrev cX1_outside : ByteArray := prog_3_method_2_code
def yX1_outside : MethodName := ⟨RX1, "outside", "(II)Z"⟩
theorem dX1_outside_0 : decode cX1_outside 0 = .ok (.iload_n 0, 1) := by decide +kernel
theorem dX1_outside_1 : decode cX1_outside 1 = .ok (.ifCond .lt 8, 3) := by decide +kernel
theorem dX1_outside_4 : decode cX1_outside 4 = .ok (.iload_n 0, 1) := by decide +kernel
theorem dX1_outside_5 : decode cX1_outside 5 = .ok (.iload_n 1, 1) := by decide +kernel
theorem dX1_outside_6 : decode cX1_outside 6 = .ok (.if_icmp .le 7, 3) := by decide +kernel
theorem dX1_outside_9 : decode cX1_outside 9 = .ok (.iconst 1, 1) := by decide +kernel
theorem dX1_outside_10 : decode cX1_outside 10 = .ok (.goto 4, 3) := by decide +kernel
theorem dX1_outside_13 : decode cX1_outside 13 = .ok (.iconst 0, 1) := by decide +kernel
theorem dX1_outside_14 : decode cX1_outside 14 = .ok (.ireturn, 1) := by decide +kernel
abbrev cX1_setHost : ByteArray := prog_3_method_4_code
def yX1_setHost : MethodName := ⟨RX1, "setHost", "(III)I"⟩
theorem dX1_setHost_0 : decode cX1_setHost 0 = .ok (.iload_n 1, 1) := by decide +kernel
theorem dX1_setHost_1 : decode cX1_setHost 1 = .ok (.bipush 7, 2) := by decide +kernel
theorem dX1_setHost_3 : decode cX1_setHost 3 = .ok (.invokestatic 35, 3) := by decide +kernel
theorem dX1_setHost_6 : decode cX1_setHost 6 = .ok (.ifCond .ne 14, 3) := by decide +kernel
theorem dX1_setHost_9 : decode cX1_setHost 9 = .ok (.iload_n 2, 1) := by decide +kernel
theorem dX1_setHost_10 : decode cX1_setHost 10 = .ok (.iconst (-1), 1) := by decide +kernel
theorem dX1_setHost_11 : decode cX1_setHost 11 = .ok (.if_icmp .lt 9, 3) := by decide +kernel
theorem dX1_setHost_14 : decode cX1_setHost 14 = .ok (.iload_n 2, 1) := by decide +kernel
theorem dX1_setHost_15 : decode cX1_setHost 15 = .ok (.bipush 7, 2) := by decide +kernel
theorem dX1_setHost_17 : decode cX1_setHost 17 = .ok (.if_icmp .le 5, 3) := by decide +kernel
theorem dX1_setHost_20 : decode cX1_setHost 20 = .ok (.iconst (-1), 1) := by decide +kernel
theorem dX1_setHost_21 : decode cX1_setHost 21 = .ok (.ireturn, 1) := by decide +kernel
theorem dX1_setHost_22 : decode cX1_setHost 22 = .ok (.aload_n 0, 1) := by decide +kernel
theorem dX1_setHost_23 : decode cX1_setHost 23 = .ok (.getfield 23, 3) := by decide +kernel
theorem dX1_setHost_26 : decode cX1_setHost 26 = .ok (.iload_n 1, 1) := by decide +kernel
theorem dX1_setHost_27 : decode cX1_setHost 27 = .ok (.iload_n 2, 1) := by decide +kernel
theorem dX1_setHost_28 : decode cX1_setHost 28 = .ok (.iastore, 1) := by decide +kernel
theorem dX1_setHost_29 : decode cX1_setHost 29 = .ok (.aload_n 0, 1) := by decide +kernel
theorem dX1_setHost_30 : decode cX1_setHost 30 = .ok (.getfield 26, 3) := by decide +kernel
theorem dX1_setHost_33 : decode cX1_setHost 33 = .ok (.iload_n 1, 1) := by decide +kernel
theorem dX1_setHost_34 : decode cX1_setHost 34 = .ok (.iload_n 3, 1) := by decide +kernel
theorem dX1_setHost_35 : decode cX1_setHost 35 = .ok (.bipush 7, 2) := by decide +kernel
theorem dX1_setHost_37 : decode cX1_setHost 37 = .ok (.iand, 1) := by decide +kernel
theorem dX1_setHost_38 : decode cX1_setHost 38 = .ok (.iastore, 1) := by decide +kernel
theorem dX1_setHost_39 : decode cX1_setHost 39 = .ok (.aload_n 0, 1) := by decide +kernel
theorem dX1_setHost_40 : decode cX1_setHost 40 = .ok (.getfield 29, 3) := by decide +kernel
theorem dX1_setHost_43 : decode cX1_setHost 43 = .ok (.iload_n 1, 1) := by decide +kernel
theorem dX1_setHost_44 : decode cX1_setHost 44 = .ok (.iconst 0, 1) := by decide +kernel
theorem dX1_setHost_45 : decode cX1_setHost 45 = .ok (.bastore, 1) := by decide +kernel
theorem dX1_setHost_46 : decode cX1_setHost 46 = .ok (.iconst 0, 1) := by decide +kernel
theorem dX1_setHost_47 : decode cX1_setHost 47 = .ok (.ireturn, 1) := by decide +kernel
abbrev cX1_change : ByteArray := prog_3_method_5_code
def yX1_change : MethodName := ⟨RX1, "change", "(I)V"⟩
theorem dX1_change_0 : decode cX1_change 0 = .ok (.aload_n 0, 1) := by decide +kernel
theorem dX1_change_1 : decode cX1_change 1 = .ok (.iload_n 1, 1) := by decide +kernel
theorem dX1_change_2 : decode cX1_change 2 = .ok (.iconst 1, 1) := by decide +kernel
theorem dX1_change_3 : decode cX1_change 3 = .ok (.iand, 1) := by decide +kernel
theorem dX1_change_4 : decode cX1_change 4 = .ok (.putfield 39, 3) := by decide +kernel
theorem dX1_change_7 : decode cX1_change 7 = .ok (.return_, 1) := by decide +kernel
abbrev cX1_load : ByteArray := prog_3_method_7_code
def yX1_load : MethodName := ⟨RX1, "load", "(II)I"⟩
theorem dX1_load_0 : decode cX1_load 0 = .ok (.iload_n 1, 1) := by decide +kernel
theorem dX1_load_1 : decode cX1_load 1 = .ok (.bipush 7, 2) := by decide +kernel
theorem dX1_load_3 : decode cX1_load 3 = .ok (.invokestatic 35, 3) := by decide +kernel
theorem dX1_load_6 : decode cX1_load 6 = .ok (.ifCond .ne 11, 3) := by decide +kernel
theorem dX1_load_9 : decode cX1_load 9 = .ok (.iload_n 2, 1) := by decide +kernel
theorem dX1_load_10 : decode cX1_load 10 = .ok (.iconst 3, 1) := by decide +kernel
theorem dX1_load_11 : decode cX1_load 11 = .ok (.invokestatic 35, 3) := by decide +kernel
theorem dX1_load_14 : decode cX1_load 14 = .ok (.ifCond .eq 5, 3) := by decide +kernel
theorem dX1_load_17 : decode cX1_load 17 = .ok (.iconst (-1), 1) := by decide +kernel
theorem dX1_load_18 : decode cX1_load 18 = .ok (.ireturn, 1) := by decide +kernel
theorem dX1_load_19 : decode cX1_load 19 = .ok (.aload_n 0, 1) := by decide +kernel
theorem dX1_load_20 : decode cX1_load 20 = .ok (.iload_n 1, 1) := by decide +kernel
theorem dX1_load_21 : decode cX1_load 21 = .ok (.iconst 1, 1) := by decide +kernel
theorem dX1_load_22 : decode cX1_load 22 = .ok (.invokevirtual 43, 3) := by decide +kernel
theorem dX1_load_25 : decode cX1_load 25 = .ok (.istore_n 3, 1) := by decide +kernel
theorem dX1_load_26 : decode cX1_load 26 = .ok (.iload_n 3, 1) := by decide +kernel
theorem dX1_load_27 : decode cX1_load 27 = .ok (.ifCond .ge 5, 3) := by decide +kernel
theorem dX1_load_30 : decode cX1_load 30 = .ok (.iload_n 3, 1) := by decide +kernel
theorem dX1_load_31 : decode cX1_load 31 = .ok (.ireturn, 1) := by decide +kernel
theorem dX1_load_32 : decode cX1_load 32 = .ok (.aload_n 0, 1) := by decide +kernel
theorem dX1_load_33 : decode cX1_load 33 = .ok (.aload_n 0, 1) := by decide +kernel
theorem dX1_load_34 : decode cX1_load 34 = .ok (.getfield 32, 3) := by decide +kernel
theorem dX1_load_37 : decode cX1_load 37 = .ok (.iconst 4, 1) := by decide +kernel
theorem dX1_load_38 : decode cX1_load 38 = .ok (.iload_n 3, 1) := by decide +kernel
theorem dX1_load_39 : decode cX1_load 39 = .ok (.imul, 1) := by decide +kernel
theorem dX1_load_40 : decode cX1_load 40 = .ok (.iload_n 2, 1) := by decide +kernel
theorem dX1_load_41 : decode cX1_load 41 = .ok (.iadd, 1) := by decide +kernel
theorem dX1_load_42 : decode cX1_load 42 = .ok (.iaload, 1) := by decide +kernel
theorem dX1_load_43 : decode cX1_load 43 = .ok (.putfield 47, 3) := by decide +kernel
theorem dX1_load_46 : decode cX1_load 46 = .ok (.iconst 0, 1) := by decide +kernel
theorem dX1_load_47 : decode cX1_load 47 = .ok (.ireturn, 1) := by decide +kernel
abbrev cX1_reach : ByteArray := prog_3_method_6_code
def yX1_reach : MethodName := ⟨RX1, "reach", "(II)I"⟩
theorem dX1_reach_0 : decode cX1_reach 0 = .ok (.bipush 8, 2) := by decide +kernel
theorem dX1_reach_2 : decode cX1_reach 2 = .ok (.aload_n 0, 1) := by decide +kernel
theorem dX1_reach_3 : decode cX1_reach 3 = .ok (.getfield 39, 3) := by decide +kernel
theorem dX1_reach_6 : decode cX1_reach 6 = .ok (.imul, 1) := by decide +kernel
theorem dX1_reach_7 : decode cX1_reach 7 = .ok (.iload_n 1, 1) := by decide +kernel
theorem dX1_reach_8 : decode cX1_reach 8 = .ok (.iadd, 1) := by decide +kernel
theorem dX1_reach_9 : decode cX1_reach 9 = .ok (.istore_n 3, 1) := by decide +kernel
theorem dX1_reach_10 : decode cX1_reach 10 = .ok (.aload_n 0, 1) := by decide +kernel
theorem dX1_reach_11 : decode cX1_reach 11 = .ok (.getfield 7, 3) := by decide +kernel
theorem dX1_reach_14 : decode cX1_reach 14 = .ok (.iload_n 3, 1) := by decide +kernel
theorem dX1_reach_15 : decode cX1_reach 15 = .ok (.iaload, 1) := by decide +kernel
theorem dX1_reach_16 : decode cX1_reach 16 = .ok (.istore 4, 2) := by decide +kernel
theorem dX1_reach_18 : decode cX1_reach 18 = .ok (.iload 4, 2) := by decide +kernel
theorem dX1_reach_20 : decode cX1_reach 20 = .ok (.ifCond .lt 14, 3) := by decide +kernel
theorem dX1_reach_23 : decode cX1_reach 23 = .ok (.aload_n 0, 1) := by decide +kernel
theorem dX1_reach_24 : decode cX1_reach 24 = .ok (.getfield 13, 3) := by decide +kernel
theorem dX1_reach_27 : decode cX1_reach 27 = .ok (.iload_n 3, 1) := by decide +kernel
theorem dX1_reach_28 : decode cX1_reach 28 = .ok (.iaload, 1) := by decide +kernel
theorem dX1_reach_29 : decode cX1_reach 29 = .ok (.iload_n 2, 1) := by decide +kernel
theorem dX1_reach_30 : decode cX1_reach 30 = .ok (.iand, 1) := by decide +kernel
theorem dX1_reach_31 : decode cX1_reach 31 = .ok (.ifCond .ne 6, 3) := by decide +kernel
theorem dX1_reach_34 : decode cX1_reach 34 = .ok (.bipush (-2), 2) := by decide +kernel
theorem dX1_reach_36 : decode cX1_reach 36 = .ok (.ireturn, 1) := by decide +kernel
theorem dX1_reach_37 : decode cX1_reach 37 = .ok (.aload_n 0, 1) := by decide +kernel
theorem dX1_reach_38 : decode cX1_reach 38 = .ok (.getfield 23, 3) := by decide +kernel
theorem dX1_reach_41 : decode cX1_reach 41 = .ok (.iload 4, 2) := by decide +kernel
theorem dX1_reach_43 : decode cX1_reach 43 = .ok (.iaload, 1) := by decide +kernel
theorem dX1_reach_44 : decode cX1_reach 44 = .ok (.ifCond .lt 15, 3) := by decide +kernel
theorem dX1_reach_47 : decode cX1_reach 47 = .ok (.aload_n 0, 1) := by decide +kernel
theorem dX1_reach_48 : decode cX1_reach 48 = .ok (.getfield 26, 3) := by decide +kernel
theorem dX1_reach_51 : decode cX1_reach 51 = .ok (.iload 4, 2) := by decide +kernel
theorem dX1_reach_53 : decode cX1_reach 53 = .ok (.iaload, 1) := by decide +kernel
theorem dX1_reach_54 : decode cX1_reach 54 = .ok (.iload_n 2, 1) := by decide +kernel
theorem dX1_reach_55 : decode cX1_reach 55 = .ok (.iand, 1) := by decide +kernel
theorem dX1_reach_56 : decode cX1_reach 56 = .ok (.ifCond .ne 6, 3) := by decide +kernel
theorem dX1_reach_59 : decode cX1_reach 59 = .ok (.bipush (-3), 2) := by decide +kernel
theorem dX1_reach_61 : decode cX1_reach 61 = .ok (.ireturn, 1) := by decide +kernel
theorem dX1_reach_62 : decode cX1_reach 62 = .ok (.aload_n 0, 1) := by decide +kernel
theorem dX1_reach_63 : decode cX1_reach 63 = .ok (.getfield 16, 3) := by decide +kernel
theorem dX1_reach_66 : decode cX1_reach 66 = .ok (.iload_n 3, 1) := by decide +kernel
theorem dX1_reach_67 : decode cX1_reach 67 = .ok (.iconst 1, 1) := by decide +kernel
theorem dX1_reach_68 : decode cX1_reach 68 = .ok (.bastore, 1) := by decide +kernel
theorem dX1_reach_69 : decode cX1_reach 69 = .ok (.iload_n 2, 1) := by decide +kernel
theorem dX1_reach_70 : decode cX1_reach 70 = .ok (.iconst 2, 1) := by decide +kernel
theorem dX1_reach_71 : decode cX1_reach 71 = .ok (.if_icmp .ne 18, 3) := by decide +kernel
theorem dX1_reach_74 : decode cX1_reach 74 = .ok (.aload_n 0, 1) := by decide +kernel
theorem dX1_reach_75 : decode cX1_reach 75 = .ok (.getfield 20, 3) := by decide +kernel
theorem dX1_reach_78 : decode cX1_reach 78 = .ok (.iload_n 3, 1) := by decide +kernel
theorem dX1_reach_79 : decode cX1_reach 79 = .ok (.iconst 1, 1) := by decide +kernel
theorem dX1_reach_80 : decode cX1_reach 80 = .ok (.bastore, 1) := by decide +kernel
theorem dX1_reach_81 : decode cX1_reach 81 = .ok (.aload_n 0, 1) := by decide +kernel
theorem dX1_reach_82 : decode cX1_reach 82 = .ok (.getfield 29, 3) := by decide +kernel
theorem dX1_reach_85 : decode cX1_reach 85 = .ok (.iload 4, 2) := by decide +kernel
theorem dX1_reach_87 : decode cX1_reach 87 = .ok (.iconst 1, 1) := by decide +kernel
theorem dX1_reach_88 : decode cX1_reach 88 = .ok (.bastore, 1) := by decide +kernel
theorem dX1_reach_89 : decode cX1_reach 89 = .ok (.aload_n 0, 1) := by decide +kernel
theorem dX1_reach_90 : decode cX1_reach 90 = .ok (.getfield 23, 3) := by decide +kernel
theorem dX1_reach_93 : decode cX1_reach 93 = .ok (.iload 4, 2) := by decide +kernel
theorem dX1_reach_95 : decode cX1_reach 95 = .ok (.iaload, 1) := by decide +kernel
theorem dX1_reach_96 : decode cX1_reach 96 = .ok (.ireturn, 1) := by decide +kernel
abbrev cX1_store : ByteArray := prog_3_method_8_code
def yX1_store : MethodName := ⟨RX1, "store", "(III)I"⟩
theorem dX1_store_0 : decode cX1_store 0 = .ok (.iload_n 1, 1) := by decide +kernel
theorem dX1_store_1 : decode cX1_store 1 = .ok (.bipush 7, 2) := by decide +kernel
theorem dX1_store_3 : decode cX1_store 3 = .ok (.invokestatic 35, 3) := by decide +kernel
theorem dX1_store_6 : decode cX1_store 6 = .ok (.ifCond .ne 11, 3) := by decide +kernel
theorem dX1_store_9 : decode cX1_store 9 = .ok (.iload_n 2, 1) := by decide +kernel
theorem dX1_store_10 : decode cX1_store 10 = .ok (.iconst 3, 1) := by decide +kernel
theorem dX1_store_11 : decode cX1_store 11 = .ok (.invokestatic 35, 3) := by decide +kernel
theorem dX1_store_14 : decode cX1_store 14 = .ok (.ifCond .eq 5, 3) := by decide +kernel
theorem dX1_store_17 : decode cX1_store 17 = .ok (.iconst (-1), 1) := by decide +kernel
theorem dX1_store_18 : decode cX1_store 18 = .ok (.ireturn, 1) := by decide +kernel
theorem dX1_store_19 : decode cX1_store 19 = .ok (.aload_n 0, 1) := by decide +kernel
theorem dX1_store_20 : decode cX1_store 20 = .ok (.iload_n 1, 1) := by decide +kernel
theorem dX1_store_21 : decode cX1_store 21 = .ok (.iconst 2, 1) := by decide +kernel
theorem dX1_store_22 : decode cX1_store 22 = .ok (.invokevirtual 43, 3) := by decide +kernel
theorem dX1_store_25 : decode cX1_store 25 = .ok (.istore 4, 2) := by decide +kernel
theorem dX1_store_27 : decode cX1_store 27 = .ok (.iload 4, 2) := by decide +kernel
theorem dX1_store_29 : decode cX1_store 29 = .ok (.ifCond .ge 6, 3) := by decide +kernel
theorem dX1_store_32 : decode cX1_store 32 = .ok (.iload 4, 2) := by decide +kernel
theorem dX1_store_34 : decode cX1_store 34 = .ok (.ireturn, 1) := by decide +kernel
theorem dX1_store_35 : decode cX1_store 35 = .ok (.aload_n 0, 1) := by decide +kernel
theorem dX1_store_36 : decode cX1_store 36 = .ok (.getfield 32, 3) := by decide +kernel
theorem dX1_store_39 : decode cX1_store 39 = .ok (.iconst 4, 1) := by decide +kernel
theorem dX1_store_40 : decode cX1_store 40 = .ok (.iload 4, 2) := by decide +kernel
theorem dX1_store_42 : decode cX1_store 42 = .ok (.imul, 1) := by decide +kernel
theorem dX1_store_43 : decode cX1_store 43 = .ok (.iload_n 2, 1) := by decide +kernel
theorem dX1_store_44 : decode cX1_store 44 = .ok (.iadd, 1) := by decide +kernel
theorem dX1_store_45 : decode cX1_store 45 = .ok (.iload_n 3, 1) := by decide +kernel
theorem dX1_store_46 : decode cX1_store 46 = .ok (.iastore, 1) := by decide +kernel
theorem dX1_store_47 : decode cX1_store 47 = .ok (.iconst 0, 1) := by decide +kernel
theorem dX1_store_48 : decode cX1_store 48 = .ok (.ireturn, 1) := by decide +kernel
abbrev cX1_fetch : ByteArray := prog_3_method_9_code
def yX1_fetch : MethodName := ⟨RX1, "fetch", "(I)I"⟩
theorem dX1_fetch_0 : decode cX1_fetch 0 = .ok (.iload_n 1, 1) := by decide +kernel
theorem dX1_fetch_1 : decode cX1_fetch 1 = .ok (.bipush 7, 2) := by decide +kernel
theorem dX1_fetch_3 : decode cX1_fetch 3 = .ok (.invokestatic 35, 3) := by decide +kernel
theorem dX1_fetch_6 : decode cX1_fetch 6 = .ok (.ifCond .eq 7, 3) := by decide +kernel
theorem dX1_fetch_9 : decode cX1_fetch 9 = .ok (.iconst (-1), 1) := by decide +kernel
theorem dX1_fetch_10 : decode cX1_fetch 10 = .ok (.goto 9, 3) := by decide +kernel
theorem dX1_fetch_13 : decode cX1_fetch 13 = .ok (.aload_n 0, 1) := by decide +kernel
theorem dX1_fetch_14 : decode cX1_fetch 14 = .ok (.iload_n 1, 1) := by decide +kernel
theorem dX1_fetch_15 : decode cX1_fetch 15 = .ok (.iconst 4, 1) := by decide +kernel
theorem dX1_fetch_16 : decode cX1_fetch 16 = .ok (.invokevirtual 43, 3) := by decide +kernel
theorem dX1_fetch_19 : decode cX1_fetch 19 = .ok (.ireturn, 1) := by decide +kernel
abbrev cX1_last : ByteArray := prog_3_method_10_code
def yX1_last : MethodName := ⟨RX1, "last", "()I"⟩
theorem dX1_last_0 : decode cX1_last 0 = .ok (.aload_n 0, 1) := by decide +kernel
theorem dX1_last_1 : decode cX1_last 1 = .ok (.getfield 47, 3) := by decide +kernel
theorem dX1_last_4 : decode cX1_last 4 = .ok (.ireturn, 1) := by decide +kernel
abbrev cX1_marks : ByteArray := prog_3_method_11_code
def yX1_marks : MethodName := ⟨RX1, "marks", "(II)I"⟩
theorem dX1_marks_0 : decode cX1_marks 0 = .ok (.iload_n 1, 1) := by decide +kernel
theorem dX1_marks_1 : decode cX1_marks 1 = .ok (.iconst 1, 1) := by decide +kernel
theorem dX1_marks_2 : decode cX1_marks 2 = .ok (.invokestatic 35, 3) := by decide +kernel
theorem dX1_marks_5 : decode cX1_marks 5 = .ok (.ifCond .ne 12, 3) := by decide +kernel
theorem dX1_marks_8 : decode cX1_marks 8 = .ok (.iload_n 2, 1) := by decide +kernel
theorem dX1_marks_9 : decode cX1_marks 9 = .ok (.bipush 7, 2) := by decide +kernel
theorem dX1_marks_11 : decode cX1_marks 11 = .ok (.invokestatic 35, 3) := by decide +kernel
theorem dX1_marks_14 : decode cX1_marks 14 = .ok (.ifCond .eq 5, 3) := by decide +kernel
theorem dX1_marks_17 : decode cX1_marks 17 = .ok (.iconst (-1), 1) := by decide +kernel
theorem dX1_marks_18 : decode cX1_marks 18 = .ok (.ireturn, 1) := by decide +kernel
theorem dX1_marks_19 : decode cX1_marks 19 = .ok (.bipush 8, 2) := by decide +kernel
theorem dX1_marks_21 : decode cX1_marks 21 = .ok (.iload_n 1, 1) := by decide +kernel
theorem dX1_marks_22 : decode cX1_marks 22 = .ok (.imul, 1) := by decide +kernel
theorem dX1_marks_23 : decode cX1_marks 23 = .ok (.iload_n 2, 1) := by decide +kernel
theorem dX1_marks_24 : decode cX1_marks 24 = .ok (.iadd, 1) := by decide +kernel
theorem dX1_marks_25 : decode cX1_marks 25 = .ok (.istore_n 3, 1) := by decide +kernel
theorem dX1_marks_26 : decode cX1_marks 26 = .ok (.aload_n 0, 1) := by decide +kernel
theorem dX1_marks_27 : decode cX1_marks 27 = .ok (.getfield 7, 3) := by decide +kernel
theorem dX1_marks_30 : decode cX1_marks 30 = .ok (.iload_n 3, 1) := by decide +kernel
theorem dX1_marks_31 : decode cX1_marks 31 = .ok (.iaload, 1) := by decide +kernel
theorem dX1_marks_32 : decode cX1_marks 32 = .ok (.ifCond .ge 5, 3) := by decide +kernel
theorem dX1_marks_35 : decode cX1_marks 35 = .ok (.iconst 0, 1) := by decide +kernel
theorem dX1_marks_36 : decode cX1_marks 36 = .ok (.ireturn, 1) := by decide +kernel
theorem dX1_marks_37 : decode cX1_marks 37 = .ok (.aload_n 0, 1) := by decide +kernel
theorem dX1_marks_38 : decode cX1_marks 38 = .ok (.getfield 16, 3) := by decide +kernel
theorem dX1_marks_41 : decode cX1_marks 41 = .ok (.iload_n 3, 1) := by decide +kernel
theorem dX1_marks_42 : decode cX1_marks 42 = .ok (.baload, 1) := by decide +kernel
theorem dX1_marks_43 : decode cX1_marks 43 = .ok (.ifCond .eq 7, 3) := by decide +kernel
theorem dX1_marks_46 : decode cX1_marks 46 = .ok (.iconst 1, 1) := by decide +kernel
theorem dX1_marks_47 : decode cX1_marks 47 = .ok (.goto 4, 3) := by decide +kernel
theorem dX1_marks_50 : decode cX1_marks 50 = .ok (.iconst 0, 1) := by decide +kernel
theorem dX1_marks_51 : decode cX1_marks 51 = .ok (.aload_n 0, 1) := by decide +kernel
theorem dX1_marks_52 : decode cX1_marks 52 = .ok (.getfield 20, 3) := by decide +kernel
theorem dX1_marks_55 : decode cX1_marks 55 = .ok (.iload_n 3, 1) := by decide +kernel
theorem dX1_marks_56 : decode cX1_marks 56 = .ok (.baload, 1) := by decide +kernel
theorem dX1_marks_57 : decode cX1_marks 57 = .ok (.ifCond .eq 7, 3) := by decide +kernel
theorem dX1_marks_60 : decode cX1_marks 60 = .ok (.iconst 2, 1) := by decide +kernel
theorem dX1_marks_61 : decode cX1_marks 61 = .ok (.goto 4, 3) := by decide +kernel
theorem dX1_marks_64 : decode cX1_marks 64 = .ok (.iconst 0, 1) := by decide +kernel
theorem dX1_marks_65 : decode cX1_marks 65 = .ok (.iadd, 1) := by decide +kernel
theorem dX1_marks_66 : decode cX1_marks 66 = .ok (.ireturn, 1) := by decide +kernel
abbrev cX1_hostMark : ByteArray := prog_3_method_12_code
def yX1_hostMark : MethodName := ⟨RX1, "hostMark", "(I)I"⟩
theorem dX1_hostMark_0 : decode cX1_hostMark 0 = .ok (.iload_n 1, 1) := by decide +kernel
theorem dX1_hostMark_1 : decode cX1_hostMark 1 = .ok (.bipush 7, 2) := by decide +kernel
theorem dX1_hostMark_3 : decode cX1_hostMark 3 = .ok (.invokestatic 35, 3) := by decide +kernel
theorem dX1_hostMark_6 : decode cX1_hostMark 6 = .ok (.ifCond .eq 5, 3) := by decide +kernel
theorem dX1_hostMark_9 : decode cX1_hostMark 9 = .ok (.iconst (-1), 1) := by decide +kernel
theorem dX1_hostMark_10 : decode cX1_hostMark 10 = .ok (.ireturn, 1) := by decide +kernel
theorem dX1_hostMark_11 : decode cX1_hostMark 11 = .ok (.aload_n 0, 1) := by decide +kernel
theorem dX1_hostMark_12 : decode cX1_hostMark 12 = .ok (.getfield 23, 3) := by decide +kernel
theorem dX1_hostMark_15 : decode cX1_hostMark 15 = .ok (.iload_n 1, 1) := by decide +kernel
theorem dX1_hostMark_16 : decode cX1_hostMark 16 = .ok (.iaload, 1) := by decide +kernel
theorem dX1_hostMark_17 : decode cX1_hostMark 17 = .ok (.ifCond .lt 16, 3) := by decide +kernel
theorem dX1_hostMark_20 : decode cX1_hostMark 20 = .ok (.aload_n 0, 1) := by decide +kernel
theorem dX1_hostMark_21 : decode cX1_hostMark 21 = .ok (.getfield 29, 3) := by decide +kernel
theorem dX1_hostMark_24 : decode cX1_hostMark 24 = .ok (.iload_n 1, 1) := by decide +kernel
theorem dX1_hostMark_25 : decode cX1_hostMark 25 = .ok (.baload, 1) := by decide +kernel
theorem dX1_hostMark_26 : decode cX1_hostMark 26 = .ok (.ifCond .eq 7, 3) := by decide +kernel
theorem dX1_hostMark_29 : decode cX1_hostMark 29 = .ok (.iconst 1, 1) := by decide +kernel
theorem dX1_hostMark_30 : decode cX1_hostMark 30 = .ok (.goto 4, 3) := by decide +kernel
theorem dX1_hostMark_33 : decode cX1_hostMark 33 = .ok (.iconst 0, 1) := by decide +kernel
theorem dX1_hostMark_34 : decode cX1_hostMark 34 = .ok (.ireturn, 1) := by decide +kernel
abbrev cX1_age : ByteArray := prog_3_method_13_code
def yX1_age : MethodName := ⟨RX1, "age", "(I)I"⟩
theorem dX1_age_0 : decode cX1_age 0 = .ok (.iload_n 1, 1) := by decide +kernel
theorem dX1_age_1 : decode cX1_age 1 = .ok (.iconst 1, 1) := by decide +kernel
theorem dX1_age_2 : decode cX1_age 2 = .ok (.invokestatic 35, 3) := by decide +kernel
theorem dX1_age_5 : decode cX1_age 5 = .ok (.ifCond .eq 5, 3) := by decide +kernel
theorem dX1_age_8 : decode cX1_age 8 = .ok (.iconst (-1), 1) := by decide +kernel
theorem dX1_age_9 : decode cX1_age 9 = .ok (.ireturn, 1) := by decide +kernel
theorem dX1_age_10 : decode cX1_age 10 = .ok (.iconst 0, 1) := by decide +kernel
theorem dX1_age_11 : decode cX1_age 11 = .ok (.istore_n 2, 1) := by decide +kernel
theorem dX1_age_12 : decode cX1_age 12 = .ok (.iconst 0, 1) := by decide +kernel
theorem dX1_age_13 : decode cX1_age 13 = .ok (.istore_n 3, 1) := by decide +kernel
theorem dX1_age_14 : decode cX1_age 14 = .ok (.iload_n 3, 1) := by decide +kernel
theorem dX1_age_15 : decode cX1_age 15 = .ok (.bipush 8, 2) := by decide +kernel
theorem dX1_age_17 : decode cX1_age 17 = .ok (.if_icmp .ge 38, 3) := by decide +kernel
theorem dX1_age_20 : decode cX1_age 20 = .ok (.aload_n 0, 1) := by decide +kernel
theorem dX1_age_21 : decode cX1_age 21 = .ok (.getfield 16, 3) := by decide +kernel
theorem dX1_age_24 : decode cX1_age 24 = .ok (.bipush 8, 2) := by decide +kernel
theorem dX1_age_26 : decode cX1_age 26 = .ok (.iload_n 1, 1) := by decide +kernel
theorem dX1_age_27 : decode cX1_age 27 = .ok (.imul, 1) := by decide +kernel
theorem dX1_age_28 : decode cX1_age 28 = .ok (.iload_n 3, 1) := by decide +kernel
theorem dX1_age_29 : decode cX1_age 29 = .ok (.iadd, 1) := by decide +kernel
theorem dX1_age_30 : decode cX1_age 30 = .ok (.baload, 1) := by decide +kernel
theorem dX1_age_31 : decode cX1_age 31 = .ok (.ifCond .eq 6, 3) := by decide +kernel
theorem dX1_age_34 : decode cX1_age 34 = .ok (.iinc 2 1, 3) := by decide +kernel
theorem dX1_age_37 : decode cX1_age 37 = .ok (.aload_n 0, 1) := by decide +kernel
theorem dX1_age_38 : decode cX1_age 38 = .ok (.getfield 16, 3) := by decide +kernel
theorem dX1_age_41 : decode cX1_age 41 = .ok (.bipush 8, 2) := by decide +kernel
theorem dX1_age_43 : decode cX1_age 43 = .ok (.iload_n 1, 1) := by decide +kernel
theorem dX1_age_44 : decode cX1_age 44 = .ok (.imul, 1) := by decide +kernel
theorem dX1_age_45 : decode cX1_age 45 = .ok (.iload_n 3, 1) := by decide +kernel
theorem dX1_age_46 : decode cX1_age 46 = .ok (.iadd, 1) := by decide +kernel
theorem dX1_age_47 : decode cX1_age 47 = .ok (.iconst 0, 1) := by decide +kernel
theorem dX1_age_48 : decode cX1_age 48 = .ok (.bastore, 1) := by decide +kernel
theorem dX1_age_49 : decode cX1_age 49 = .ok (.iinc 3 1, 3) := by decide +kernel
theorem dX1_age_52 : decode cX1_age 52 = .ok (.goto (-38), 3) := by decide +kernel
theorem dX1_age_55 : decode cX1_age 55 = .ok (.iload_n 2, 1) := by decide +kernel
theorem dX1_age_56 : decode cX1_age 56 = .ok (.ireturn, 1) := by decide +kernel
abbrev cX1_frameCell : ByteArray := prog_3_method_14_code
def yX1_frameCell : MethodName := ⟨RX1, "frameCell", "(II)I"⟩
theorem dX1_frameCell_0 : decode cX1_frameCell 0 = .ok (.iload_n 1, 1) := by decide +kernel
theorem dX1_frameCell_1 : decode cX1_frameCell 1 = .ok (.bipush 7, 2) := by decide +kernel
theorem dX1_frameCell_3 : decode cX1_frameCell 3 = .ok (.invokestatic 35, 3) := by decide +kernel
theorem dX1_frameCell_6 : decode cX1_frameCell 6 = .ok (.ifCond .ne 11, 3) := by decide +kernel
theorem dX1_frameCell_9 : decode cX1_frameCell 9 = .ok (.iload_n 2, 1) := by decide +kernel
theorem dX1_frameCell_10 : decode cX1_frameCell 10 = .ok (.iconst 3, 1) := by decide +kernel
theorem dX1_frameCell_11 : decode cX1_frameCell 11 = .ok (.invokestatic 35, 3) := by decide +kernel
theorem dX1_frameCell_14 : decode cX1_frameCell 14 = .ok (.ifCond .eq 7, 3) := by decide +kernel
theorem dX1_frameCell_17 : decode cX1_frameCell 17 = .ok (.iconst 0, 1) := by decide +kernel
theorem dX1_frameCell_18 : decode cX1_frameCell 18 = .ok (.goto 13, 3) := by decide +kernel
theorem dX1_frameCell_21 : decode cX1_frameCell 21 = .ok (.aload_n 0, 1) := by decide +kernel
theorem dX1_frameCell_22 : decode cX1_frameCell 22 = .ok (.getfield 32, 3) := by decide +kernel
theorem dX1_frameCell_25 : decode cX1_frameCell 25 = .ok (.iconst 4, 1) := by decide +kernel
theorem dX1_frameCell_26 : decode cX1_frameCell 26 = .ok (.iload_n 1, 1) := by decide +kernel
theorem dX1_frameCell_27 : decode cX1_frameCell 27 = .ok (.imul, 1) := by decide +kernel
theorem dX1_frameCell_28 : decode cX1_frameCell 28 = .ok (.iload_n 2, 1) := by decide +kernel
theorem dX1_frameCell_29 : decode cX1_frameCell 29 = .ok (.iadd, 1) := by decide +kernel
theorem dX1_frameCell_30 : decode cX1_frameCell 30 = .ok (.iaload, 1) := by decide +kernel
theorem dX1_frameCell_31 : decode cX1_frameCell 31 = .ok (.ireturn, 1) := by decide +kernel
theorem q6 : (Jvm.Cond.initialized "ShadowPagerModel") ∈ lw_all := lw_g (lw_at lw_m0 2 rfl) rfl
theorem q126 : (Jvm.Cond.instantiable "ShadowPagerModel" (10 : Nat)) ∈ lw_all := lw_g (lw_at lw_m0 122 rfl) rfl
theorem q128 : (Jvm.Cond.instanceMethod ({ cls := "ShadowPagerModel", name := "<init>", desc := "()V" } : Jvm.MethodName)) ∈ lw_all := lw_g (lw_at lw_m0 124 rfl) rfl
theorem q129 : (Jvm.Cond.code ({ cls := "ShadowPagerModel", name := "<init>", desc := "()V" } : Jvm.MethodName) prog_3_method_1_code (2 : Nat) (Option.none : Option Jvm.ClassFile.FieldType)) ∈ lw_all := lw_g (lw_at lw_m0 125 rfl) rfl
theorem q130 : (Jvm.Cond.methodLink "ShadowPagerModel" (1 : Nat) ({ cls := "java/lang/Object", name := "<init>", desc := "()V" } : Jvm.MethodName)) ∈ lw_all := lw_g (lw_at lw_m0 126 rfl) rfl
theorem q131 : (Jvm.Cond.fieldLink "ShadowPagerModel" (7 : Nat) "ShadowPagerModel" "middles" "[I") ∈ lw_all := lw_g (lw_at lw_m0 127 rfl) rfl
theorem q132 : (Jvm.Cond.fieldLink "ShadowPagerModel" (13 : Nat) "ShadowPagerModel" "guestRights" "[I") ∈ lw_all := lw_g (lw_at lw_m0 128 rfl) rfl
theorem q133 : (Jvm.Cond.fieldLink "ShadowPagerModel" (16 : Nat) "ShadowPagerModel" "touched" "[Z") ∈ lw_all := lw_g (lw_at lw_m0 129 rfl) rfl
theorem q134 : (Jvm.Cond.fieldLink "ShadowPagerModel" (20 : Nat) "ShadowPagerModel" "changed" "[Z") ∈ lw_all := lw_g (lw_at lw_m0 130 rfl) rfl
theorem q135 : (Jvm.Cond.fieldLink "ShadowPagerModel" (23 : Nat) "ShadowPagerModel" "frames" "[I") ∈ lw_all := lw_g (lw_at lw_m0 131 rfl) rfl
theorem q136 : (Jvm.Cond.fieldLink "ShadowPagerModel" (26 : Nat) "ShadowPagerModel" "hostRights" "[I") ∈ lw_all := lw_g (lw_at lw_m0 132 rfl) rfl
theorem q137 : (Jvm.Cond.fieldLink "ShadowPagerModel" (29 : Nat) "ShadowPagerModel" "hostChanged" "[Z") ∈ lw_all := lw_g (lw_at lw_m0 133 rfl) rfl
theorem q138 : (Jvm.Cond.fieldLink "ShadowPagerModel" (32 : Nat) "ShadowPagerModel" "cells" "[I") ∈ lw_all := lw_g (lw_at lw_m0 134 rfl) rfl
theorem q139 : (Jvm.Cond.fieldLink "ShadowPagerModel" (39 : Nat) "ShadowPagerModel" "present" "I") ∈ lw_all := lw_g (lw_at lw_m0 135 rfl) rfl
theorem q140 : (Jvm.Cond.fieldLink "ShadowPagerModel" (47 : Nat) "ShadowPagerModel" "loaded" "I") ∈ lw_all := lw_g (lw_at lw_m0 136 rfl) rfl
theorem q141 : (Jvm.Cond.laysFinal "ShadowPagerModel" "ShadowPagerModel" "middles" "[I") ∈ lw_all := lw_g (lw_at lw_m0 137 rfl) rfl
theorem q142 : (Jvm.Cond.soleField "ShadowPagerModel" "middles") ∈ lw_all := lw_g (lw_at lw_m0 138 rfl) rfl
theorem q143 : (Jvm.Cond.laysFinal "ShadowPagerModel" "ShadowPagerModel" "guestRights" "[I") ∈ lw_all := lw_g (lw_at lw_m0 139 rfl) rfl
theorem q144 : (Jvm.Cond.soleField "ShadowPagerModel" "guestRights") ∈ lw_all := lw_g (lw_at lw_m0 140 rfl) rfl
theorem q145 : (Jvm.Cond.laysFinal "ShadowPagerModel" "ShadowPagerModel" "touched" "[Z") ∈ lw_all := lw_g (lw_at lw_m0 141 rfl) rfl
theorem q146 : (Jvm.Cond.soleField "ShadowPagerModel" "touched") ∈ lw_all := lw_g (lw_at lw_m0 142 rfl) rfl
theorem q147 : (Jvm.Cond.laysFinal "ShadowPagerModel" "ShadowPagerModel" "changed" "[Z") ∈ lw_all := lw_g (lw_at lw_m0 143 rfl) rfl
theorem q148 : (Jvm.Cond.soleField "ShadowPagerModel" "changed") ∈ lw_all := lw_g (lw_at lw_m0 144 rfl) rfl
theorem q149 : (Jvm.Cond.laysFinal "ShadowPagerModel" "ShadowPagerModel" "frames" "[I") ∈ lw_all := lw_g (lw_at lw_m0 145 rfl) rfl
theorem q150 : (Jvm.Cond.soleField "ShadowPagerModel" "frames") ∈ lw_all := lw_g (lw_at lw_m0 146 rfl) rfl
theorem q151 : (Jvm.Cond.laysFinal "ShadowPagerModel" "ShadowPagerModel" "hostRights" "[I") ∈ lw_all := lw_g (lw_at lw_m0 147 rfl) rfl
theorem q152 : (Jvm.Cond.soleField "ShadowPagerModel" "hostRights") ∈ lw_all := lw_g (lw_at lw_m0 148 rfl) rfl
theorem q153 : (Jvm.Cond.laysFinal "ShadowPagerModel" "ShadowPagerModel" "hostChanged" "[Z") ∈ lw_all := lw_g (lw_at lw_m0 149 rfl) rfl
theorem q154 : (Jvm.Cond.soleField "ShadowPagerModel" "hostChanged") ∈ lw_all := lw_g (lw_at lw_m0 150 rfl) rfl
theorem q155 : (Jvm.Cond.laysFinal "ShadowPagerModel" "ShadowPagerModel" "cells" "[I") ∈ lw_all := lw_g (lw_at lw_m0 151 rfl) rfl
theorem q156 : (Jvm.Cond.soleField "ShadowPagerModel" "cells") ∈ lw_all := lw_g (lw_at lw_m0 152 rfl) rfl
theorem q157 : (Jvm.Cond.lays "ShadowPagerModel" "ShadowPagerModel" "present" "I") ∈ lw_all := lw_g (lw_at lw_m0 153 rfl) rfl
theorem q158 : (Jvm.Cond.soleField "ShadowPagerModel" "present") ∈ lw_all := lw_g (lw_at lw_m0 154 rfl) rfl
theorem q159 : (Jvm.Cond.lays "ShadowPagerModel" "ShadowPagerModel" "loaded" "I") ∈ lw_all := lw_g (lw_at lw_m0 155 rfl) rfl
theorem q160 : (Jvm.Cond.soleField "ShadowPagerModel" "loaded") ∈ lw_all := lw_g (lw_at lw_m0 156 rfl) rfl
theorem q161 : (Jvm.Cond.superclass "ShadowPagerModel" "java/lang/Object") ∈ lw_all := lw_g (lw_at lw_m0 157 rfl) rfl
theorem q163 : (Jvm.Cond.instanceMethod ({ cls := "ShadowPagerModel", name := "setGuest", desc := "(IIII)I" } : Jvm.MethodName)) ∈ lw_all := lw_g (lw_at lw_m0 159 rfl) rfl
theorem q164 : (Jvm.Cond.selects "ShadowPagerModel" ({ cls := "ShadowPagerModel", name := "setGuest", desc := "(IIII)I" } : Jvm.MethodName) ({ cls := "ShadowPagerModel", name := "setGuest", desc := "(IIII)I" } : Jvm.MethodName)) ∈ lw_all := lw_g (lw_at lw_m0 160 rfl) rfl
theorem q165 : (Jvm.Cond.code ({ cls := "ShadowPagerModel", name := "setGuest", desc := "(IIII)I" } : Jvm.MethodName) prog_3_method_3_code (6 : Nat) (Option.some Jvm.ClassFile.FieldType.int)) ∈ lw_all := lw_g (lw_at lw_m0 161 rfl) rfl
theorem q166 : (Jvm.Cond.methodLink "ShadowPagerModel" (35 : Nat) ({ cls := "ShadowPagerModel", name := "outside", desc := "(II)Z" } : Jvm.MethodName)) ∈ lw_all := lw_g (lw_at lw_m0 162 rfl) rfl
theorem q167 : (Jvm.Cond.static ({ cls := "ShadowPagerModel", name := "outside", desc := "(II)Z" } : Jvm.MethodName)) ∈ lw_all := lw_g (lw_at lw_m0 163 rfl) rfl
theorem q168 : (Jvm.Cond.code ({ cls := "ShadowPagerModel", name := "outside", desc := "(II)Z" } : Jvm.MethodName) prog_3_method_2_code (2 : Nat) (Option.some Jvm.ClassFile.FieldType.boolean)) ∈ lw_all := lw_g (lw_at lw_m0 164 rfl) rfl
theorem q170 : (Jvm.Cond.instanceMethod ({ cls := "ShadowPagerModel", name := "setHost", desc := "(III)I" } : Jvm.MethodName)) ∈ lw_all := lw_g (lw_at lw_m0 166 rfl) rfl
theorem q171 : (Jvm.Cond.selects "ShadowPagerModel" ({ cls := "ShadowPagerModel", name := "setHost", desc := "(III)I" } : Jvm.MethodName) ({ cls := "ShadowPagerModel", name := "setHost", desc := "(III)I" } : Jvm.MethodName)) ∈ lw_all := lw_g (lw_at lw_m0 167 rfl) rfl
theorem q172 : (Jvm.Cond.code ({ cls := "ShadowPagerModel", name := "setHost", desc := "(III)I" } : Jvm.MethodName) prog_3_method_4_code (4 : Nat) (Option.some Jvm.ClassFile.FieldType.int)) ∈ lw_all := lw_g (lw_at lw_m0 168 rfl) rfl
theorem q174 : (Jvm.Cond.instanceMethod ({ cls := "ShadowPagerModel", name := "change", desc := "(I)V" } : Jvm.MethodName)) ∈ lw_all := lw_g (lw_at lw_m0 170 rfl) rfl
theorem q175 : (Jvm.Cond.selects "ShadowPagerModel" ({ cls := "ShadowPagerModel", name := "change", desc := "(I)V" } : Jvm.MethodName) ({ cls := "ShadowPagerModel", name := "change", desc := "(I)V" } : Jvm.MethodName)) ∈ lw_all := lw_g (lw_at lw_m0 171 rfl) rfl
theorem q176 : (Jvm.Cond.code ({ cls := "ShadowPagerModel", name := "change", desc := "(I)V" } : Jvm.MethodName) prog_3_method_5_code (2 : Nat) (Option.none : Option Jvm.ClassFile.FieldType)) ∈ lw_all := lw_g (lw_at lw_m0 172 rfl) rfl
theorem q178 : (Jvm.Cond.instanceMethod ({ cls := "ShadowPagerModel", name := "load", desc := "(II)I" } : Jvm.MethodName)) ∈ lw_all := lw_g (lw_at lw_m0 174 rfl) rfl
theorem q179 : (Jvm.Cond.selects "ShadowPagerModel" ({ cls := "ShadowPagerModel", name := "load", desc := "(II)I" } : Jvm.MethodName) ({ cls := "ShadowPagerModel", name := "load", desc := "(II)I" } : Jvm.MethodName)) ∈ lw_all := lw_g (lw_at lw_m0 175 rfl) rfl
theorem q180 : (Jvm.Cond.code ({ cls := "ShadowPagerModel", name := "load", desc := "(II)I" } : Jvm.MethodName) prog_3_method_7_code (4 : Nat) (Option.some Jvm.ClassFile.FieldType.int)) ∈ lw_all := lw_g (lw_at lw_m0 176 rfl) rfl
theorem q181 : (Jvm.Cond.methodLink "ShadowPagerModel" (43 : Nat) ({ cls := "ShadowPagerModel", name := "reach", desc := "(II)I" } : Jvm.MethodName)) ∈ lw_all := lw_g (lw_at lw_m0 177 rfl) rfl
theorem q182 : (Jvm.Cond.privateMethod ({ cls := "ShadowPagerModel", name := "reach", desc := "(II)I" } : Jvm.MethodName)) ∈ lw_tbl := lw_at lw_m0 178 rfl
theorem q183 : (Jvm.Cond.instanceMethod ({ cls := "ShadowPagerModel", name := "reach", desc := "(II)I" } : Jvm.MethodName)) ∈ lw_all := lw_g (lw_at lw_m0 179 rfl) rfl
theorem q184 : (Jvm.Cond.code ({ cls := "ShadowPagerModel", name := "reach", desc := "(II)I" } : Jvm.MethodName) prog_3_method_6_code (5 : Nat) (Option.some Jvm.ClassFile.FieldType.int)) ∈ lw_all := lw_g (lw_at lw_m0 180 rfl) rfl
theorem q186 : (Jvm.Cond.instanceMethod ({ cls := "ShadowPagerModel", name := "store", desc := "(III)I" } : Jvm.MethodName)) ∈ lw_all := lw_g (lw_at lw_m0 182 rfl) rfl
theorem q187 : (Jvm.Cond.selects "ShadowPagerModel" ({ cls := "ShadowPagerModel", name := "store", desc := "(III)I" } : Jvm.MethodName) ({ cls := "ShadowPagerModel", name := "store", desc := "(III)I" } : Jvm.MethodName)) ∈ lw_all := lw_g (lw_at lw_m0 183 rfl) rfl
theorem q188 : (Jvm.Cond.code ({ cls := "ShadowPagerModel", name := "store", desc := "(III)I" } : Jvm.MethodName) prog_3_method_8_code (5 : Nat) (Option.some Jvm.ClassFile.FieldType.int)) ∈ lw_all := lw_g (lw_at lw_m0 184 rfl) rfl
theorem q190 : (Jvm.Cond.instanceMethod ({ cls := "ShadowPagerModel", name := "fetch", desc := "(I)I" } : Jvm.MethodName)) ∈ lw_all := lw_g (lw_at lw_m0 186 rfl) rfl
theorem q191 : (Jvm.Cond.selects "ShadowPagerModel" ({ cls := "ShadowPagerModel", name := "fetch", desc := "(I)I" } : Jvm.MethodName) ({ cls := "ShadowPagerModel", name := "fetch", desc := "(I)I" } : Jvm.MethodName)) ∈ lw_all := lw_g (lw_at lw_m0 187 rfl) rfl
theorem q192 : (Jvm.Cond.code ({ cls := "ShadowPagerModel", name := "fetch", desc := "(I)I" } : Jvm.MethodName) prog_3_method_9_code (2 : Nat) (Option.some Jvm.ClassFile.FieldType.int)) ∈ lw_all := lw_g (lw_at lw_m0 188 rfl) rfl
theorem q194 : (Jvm.Cond.instanceMethod ({ cls := "ShadowPagerModel", name := "last", desc := "()I" } : Jvm.MethodName)) ∈ lw_all := lw_g (lw_at lw_m0 190 rfl) rfl
theorem q195 : (Jvm.Cond.selects "ShadowPagerModel" ({ cls := "ShadowPagerModel", name := "last", desc := "()I" } : Jvm.MethodName) ({ cls := "ShadowPagerModel", name := "last", desc := "()I" } : Jvm.MethodName)) ∈ lw_all := lw_g (lw_at lw_m0 191 rfl) rfl
theorem q196 : (Jvm.Cond.code ({ cls := "ShadowPagerModel", name := "last", desc := "()I" } : Jvm.MethodName) prog_3_method_10_code (1 : Nat) (Option.some Jvm.ClassFile.FieldType.int)) ∈ lw_all := lw_g (lw_at lw_m0 192 rfl) rfl
theorem q198 : (Jvm.Cond.instanceMethod ({ cls := "ShadowPagerModel", name := "marks", desc := "(II)I" } : Jvm.MethodName)) ∈ lw_all := lw_g (lw_at lw_m0 194 rfl) rfl
theorem q199 : (Jvm.Cond.selects "ShadowPagerModel" ({ cls := "ShadowPagerModel", name := "marks", desc := "(II)I" } : Jvm.MethodName) ({ cls := "ShadowPagerModel", name := "marks", desc := "(II)I" } : Jvm.MethodName)) ∈ lw_all := lw_g (lw_at lw_m0 195 rfl) rfl
theorem q200 : (Jvm.Cond.code ({ cls := "ShadowPagerModel", name := "marks", desc := "(II)I" } : Jvm.MethodName) prog_3_method_11_code (4 : Nat) (Option.some Jvm.ClassFile.FieldType.int)) ∈ lw_all := lw_g (lw_at lw_m0 196 rfl) rfl
theorem q202 : (Jvm.Cond.instanceMethod ({ cls := "ShadowPagerModel", name := "hostMark", desc := "(I)I" } : Jvm.MethodName)) ∈ lw_all := lw_g (lw_at lw_m0 198 rfl) rfl
theorem q203 : (Jvm.Cond.selects "ShadowPagerModel" ({ cls := "ShadowPagerModel", name := "hostMark", desc := "(I)I" } : Jvm.MethodName) ({ cls := "ShadowPagerModel", name := "hostMark", desc := "(I)I" } : Jvm.MethodName)) ∈ lw_all := lw_g (lw_at lw_m0 199 rfl) rfl
theorem q204 : (Jvm.Cond.code ({ cls := "ShadowPagerModel", name := "hostMark", desc := "(I)I" } : Jvm.MethodName) prog_3_method_12_code (2 : Nat) (Option.some Jvm.ClassFile.FieldType.int)) ∈ lw_all := lw_g (lw_at lw_m0 200 rfl) rfl
theorem q206 : (Jvm.Cond.instanceMethod ({ cls := "ShadowPagerModel", name := "age", desc := "(I)I" } : Jvm.MethodName)) ∈ lw_all := lw_g (lw_at lw_m0 202 rfl) rfl
theorem q207 : (Jvm.Cond.selects "ShadowPagerModel" ({ cls := "ShadowPagerModel", name := "age", desc := "(I)I" } : Jvm.MethodName) ({ cls := "ShadowPagerModel", name := "age", desc := "(I)I" } : Jvm.MethodName)) ∈ lw_all := lw_g (lw_at lw_m0 203 rfl) rfl
theorem q208 : (Jvm.Cond.code ({ cls := "ShadowPagerModel", name := "age", desc := "(I)I" } : Jvm.MethodName) prog_3_method_13_code (4 : Nat) (Option.some Jvm.ClassFile.FieldType.int)) ∈ lw_all := lw_g (lw_at lw_m0 204 rfl) rfl
theorem q210 : (Jvm.Cond.instanceMethod ({ cls := "ShadowPagerModel", name := "frameCell", desc := "(II)I" } : Jvm.MethodName)) ∈ lw_all := lw_g (lw_at lw_m0 206 rfl) rfl
theorem q211 : (Jvm.Cond.selects "ShadowPagerModel" ({ cls := "ShadowPagerModel", name := "frameCell", desc := "(II)I" } : Jvm.MethodName) ({ cls := "ShadowPagerModel", name := "frameCell", desc := "(II)I" } : Jvm.MethodName)) ∈ lw_all := lw_g (lw_at lw_m0 207 rfl) rfl
theorem q212 : (Jvm.Cond.code ({ cls := "ShadowPagerModel", name := "frameCell", desc := "(II)I" } : Jvm.MethodName) prog_3_method_14_code (3 : Nat) (Option.some Jvm.ClassFile.FieldType.int)) ∈ lw_all := lw_g (lw_at lw_m0 208 rfl) rfl
theorem in_X1 : ∀ w ∈ wsX10, w ∈ lw_all := lw_in wsX10 [141, 143, 145, 147, 149, 151, 153, 155, 157, 159] (by decide +kernel) (by decide +kernel)
end
section
/-! the law's own entry -/
set_option maxRecDepth 100000
abbrev cL_law : ByteArray := code
theorem dL_law_0 : decode cL_law 0 = .ok (.new 7, 3) := by decide +kernel
theorem dL_law_3 : decode cL_law 3 = .ok (.dup, 1) := by decide +kernel
theorem dL_law_4 : decode cL_law 4 = .ok (.invokespecial 9, 3) := by decide +kernel
theorem dL_law_7 : decode cL_law 7 = .ok (.astore_n 1, 1) := by decide +kernel
theorem dL_law_8 : decode cL_law 8 = .ok (.new 10, 3) := by decide +kernel
theorem dL_law_11 : decode cL_law 11 = .ok (.dup, 1) := by decide +kernel
theorem dL_law_12 : decode cL_law 12 = .ok (.invokespecial 12, 3) := by decide +kernel
theorem dL_law_15 : decode cL_law 15 = .ok (.astore_n 2, 1) := by decide +kernel
theorem dL_law_16 : decode cL_law 16 = .ok (.iconst 0, 1) := by decide +kernel
theorem dL_law_17 : decode cL_law 17 = .ok (.istore_n 3, 1) := by decide +kernel
theorem dL_law_18 : decode cL_law 18 = .ok (.iload_n 3, 1) := by decide +kernel
theorem dL_law_19 : decode cL_law 19 = .ok (.aload_n 0, 1) := by decide +kernel
theorem dL_law_20 : decode cL_law 20 = .ok (.arraylength, 1) := by decide +kernel
theorem dL_law_21 : decode cL_law 21 = .ok (.iconst 5, 1) := by decide +kernel
theorem dL_law_22 : decode cL_law 22 = .ok (.isub, 1) := by decide +kernel
theorem dL_law_23 : decode cL_law 23 = .ok (.if_icmp .gt 416, 3) := by decide +kernel
theorem dL_law_26 : decode cL_law 26 = .ok (.aload_n 0, 1) := by decide +kernel
theorem dL_law_27 : decode cL_law 27 = .ok (.iload_n 3, 1) := by decide +kernel
theorem dL_law_28 : decode cL_law 28 = .ok (.iaload, 1) := by decide +kernel
theorem dL_law_29 : decode cL_law 29 = .ok (.bipush 15, 2) := by decide +kernel
theorem dL_law_31 : decode cL_law 31 = .ok (.iand, 1) := by decide +kernel
theorem dL_law_32 : decode cL_law 32 = .ok (.tableswitch 401 0 10 #[60, 113, 156, 177, 210, 253, 276, 289, 322, 345, 368], 60) := by decide +kernel
theorem dL_law_92 : decode cL_law 92 = .ok (.aload_n 1, 1) := by decide +kernel
theorem dL_law_93 : decode cL_law 93 = .ok (.aload_n 0, 1) := by decide +kernel
theorem dL_law_94 : decode cL_law 94 = .ok (.iload_n 3, 1) := by decide +kernel
theorem dL_law_95 : decode cL_law 95 = .ok (.iconst 1, 1) := by decide +kernel
theorem dL_law_96 : decode cL_law 96 = .ok (.iadd, 1) := by decide +kernel
theorem dL_law_97 : decode cL_law 97 = .ok (.iaload, 1) := by decide +kernel
theorem dL_law_98 : decode cL_law 98 = .ok (.aload_n 0, 1) := by decide +kernel
theorem dL_law_99 : decode cL_law 99 = .ok (.iload_n 3, 1) := by decide +kernel
theorem dL_law_100 : decode cL_law 100 = .ok (.iconst 2, 1) := by decide +kernel
theorem dL_law_101 : decode cL_law 101 = .ok (.iadd, 1) := by decide +kernel
theorem dL_law_102 : decode cL_law 102 = .ok (.iaload, 1) := by decide +kernel
theorem dL_law_103 : decode cL_law 103 = .ok (.aload_n 0, 1) := by decide +kernel
theorem dL_law_104 : decode cL_law 104 = .ok (.iload_n 3, 1) := by decide +kernel
theorem dL_law_105 : decode cL_law 105 = .ok (.iconst 3, 1) := by decide +kernel
theorem dL_law_106 : decode cL_law 106 = .ok (.iadd, 1) := by decide +kernel
theorem dL_law_107 : decode cL_law 107 = .ok (.iaload, 1) := by decide +kernel
theorem dL_law_108 : decode cL_law 108 = .ok (.aload_n 0, 1) := by decide +kernel
theorem dL_law_109 : decode cL_law 109 = .ok (.iload_n 3, 1) := by decide +kernel
theorem dL_law_110 : decode cL_law 110 = .ok (.iconst 4, 1) := by decide +kernel
theorem dL_law_111 : decode cL_law 111 = .ok (.iadd, 1) := by decide +kernel
theorem dL_law_112 : decode cL_law 112 = .ok (.iaload, 1) := by decide +kernel
theorem dL_law_113 : decode cL_law 113 = .ok (.invokevirtual 13, 3) := by decide +kernel
theorem dL_law_116 : decode cL_law 116 = .ok (.aload_n 2, 1) := by decide +kernel
theorem dL_law_117 : decode cL_law 117 = .ok (.aload_n 0, 1) := by decide +kernel
theorem dL_law_118 : decode cL_law 118 = .ok (.iload_n 3, 1) := by decide +kernel
theorem dL_law_119 : decode cL_law 119 = .ok (.iconst 1, 1) := by decide +kernel
theorem dL_law_120 : decode cL_law 120 = .ok (.iadd, 1) := by decide +kernel
theorem dL_law_121 : decode cL_law 121 = .ok (.iaload, 1) := by decide +kernel
theorem dL_law_122 : decode cL_law 122 = .ok (.aload_n 0, 1) := by decide +kernel
theorem dL_law_123 : decode cL_law 123 = .ok (.iload_n 3, 1) := by decide +kernel
theorem dL_law_124 : decode cL_law 124 = .ok (.iconst 2, 1) := by decide +kernel
theorem dL_law_125 : decode cL_law 125 = .ok (.iadd, 1) := by decide +kernel
theorem dL_law_126 : decode cL_law 126 = .ok (.iaload, 1) := by decide +kernel
theorem dL_law_127 : decode cL_law 127 = .ok (.aload_n 0, 1) := by decide +kernel
theorem dL_law_128 : decode cL_law 128 = .ok (.iload_n 3, 1) := by decide +kernel
theorem dL_law_129 : decode cL_law 129 = .ok (.iconst 3, 1) := by decide +kernel
theorem dL_law_130 : decode cL_law 130 = .ok (.iadd, 1) := by decide +kernel
theorem dL_law_131 : decode cL_law 131 = .ok (.iaload, 1) := by decide +kernel
theorem dL_law_132 : decode cL_law 132 = .ok (.aload_n 0, 1) := by decide +kernel
theorem dL_law_133 : decode cL_law 133 = .ok (.iload_n 3, 1) := by decide +kernel
theorem dL_law_134 : decode cL_law 134 = .ok (.iconst 4, 1) := by decide +kernel
theorem dL_law_135 : decode cL_law 135 = .ok (.iadd, 1) := by decide +kernel
theorem dL_law_136 : decode cL_law 136 = .ok (.iaload, 1) := by decide +kernel
theorem dL_law_137 : decode cL_law 137 = .ok (.invokevirtual 17, 3) := by decide +kernel
theorem dL_law_140 : decode cL_law 140 = .ok (.if_icmp .eq 293, 3) := by decide +kernel
theorem dL_law_143 : decode cL_law 143 = .ok (.iconst 0, 1) := by decide +kernel
theorem dL_law_144 : decode cL_law 144 = .ok (.ireturn, 1) := by decide +kernel
theorem dL_law_145 : decode cL_law 145 = .ok (.aload_n 1, 1) := by decide +kernel
theorem dL_law_146 : decode cL_law 146 = .ok (.aload_n 0, 1) := by decide +kernel
theorem dL_law_147 : decode cL_law 147 = .ok (.iload_n 3, 1) := by decide +kernel
theorem dL_law_148 : decode cL_law 148 = .ok (.iconst 1, 1) := by decide +kernel
theorem dL_law_149 : decode cL_law 149 = .ok (.iadd, 1) := by decide +kernel
theorem dL_law_150 : decode cL_law 150 = .ok (.iaload, 1) := by decide +kernel
theorem dL_law_151 : decode cL_law 151 = .ok (.aload_n 0, 1) := by decide +kernel
theorem dL_law_152 : decode cL_law 152 = .ok (.iload_n 3, 1) := by decide +kernel
theorem dL_law_153 : decode cL_law 153 = .ok (.iconst 2, 1) := by decide +kernel
theorem dL_law_154 : decode cL_law 154 = .ok (.iadd, 1) := by decide +kernel
theorem dL_law_155 : decode cL_law 155 = .ok (.iaload, 1) := by decide +kernel
theorem dL_law_156 : decode cL_law 156 = .ok (.aload_n 0, 1) := by decide +kernel
theorem dL_law_157 : decode cL_law 157 = .ok (.iload_n 3, 1) := by decide +kernel
theorem dL_law_158 : decode cL_law 158 = .ok (.iconst 3, 1) := by decide +kernel
theorem dL_law_159 : decode cL_law 159 = .ok (.iadd, 1) := by decide +kernel
theorem dL_law_160 : decode cL_law 160 = .ok (.iaload, 1) := by decide +kernel
theorem dL_law_161 : decode cL_law 161 = .ok (.invokevirtual 18, 3) := by decide +kernel
theorem dL_law_164 : decode cL_law 164 = .ok (.aload_n 2, 1) := by decide +kernel
theorem dL_law_165 : decode cL_law 165 = .ok (.aload_n 0, 1) := by decide +kernel
theorem dL_law_166 : decode cL_law 166 = .ok (.iload_n 3, 1) := by decide +kernel
theorem dL_law_167 : decode cL_law 167 = .ok (.iconst 1, 1) := by decide +kernel
theorem dL_law_168 : decode cL_law 168 = .ok (.iadd, 1) := by decide +kernel
theorem dL_law_169 : decode cL_law 169 = .ok (.iaload, 1) := by decide +kernel
theorem dL_law_170 : decode cL_law 170 = .ok (.aload_n 0, 1) := by decide +kernel
theorem dL_law_171 : decode cL_law 171 = .ok (.iload_n 3, 1) := by decide +kernel
theorem dL_law_172 : decode cL_law 172 = .ok (.iconst 2, 1) := by decide +kernel
theorem dL_law_173 : decode cL_law 173 = .ok (.iadd, 1) := by decide +kernel
theorem dL_law_174 : decode cL_law 174 = .ok (.iaload, 1) := by decide +kernel
theorem dL_law_175 : decode cL_law 175 = .ok (.aload_n 0, 1) := by decide +kernel
theorem dL_law_176 : decode cL_law 176 = .ok (.iload_n 3, 1) := by decide +kernel
theorem dL_law_177 : decode cL_law 177 = .ok (.iconst 3, 1) := by decide +kernel
theorem dL_law_178 : decode cL_law 178 = .ok (.iadd, 1) := by decide +kernel
theorem dL_law_179 : decode cL_law 179 = .ok (.iaload, 1) := by decide +kernel
theorem dL_law_180 : decode cL_law 180 = .ok (.invokevirtual 22, 3) := by decide +kernel
theorem dL_law_183 : decode cL_law 183 = .ok (.if_icmp .eq 250, 3) := by decide +kernel
theorem dL_law_186 : decode cL_law 186 = .ok (.iconst 0, 1) := by decide +kernel
theorem dL_law_187 : decode cL_law 187 = .ok (.ireturn, 1) := by decide +kernel
theorem dL_law_188 : decode cL_law 188 = .ok (.aload_n 1, 1) := by decide +kernel
theorem dL_law_189 : decode cL_law 189 = .ok (.aload_n 0, 1) := by decide +kernel
theorem dL_law_190 : decode cL_law 190 = .ok (.iload_n 3, 1) := by decide +kernel
theorem dL_law_191 : decode cL_law 191 = .ok (.iconst 1, 1) := by decide +kernel
theorem dL_law_192 : decode cL_law 192 = .ok (.iadd, 1) := by decide +kernel
theorem dL_law_193 : decode cL_law 193 = .ok (.iaload, 1) := by decide +kernel
theorem dL_law_194 : decode cL_law 194 = .ok (.invokevirtual 23, 3) := by decide +kernel
theorem dL_law_197 : decode cL_law 197 = .ok (.aload_n 2, 1) := by decide +kernel
theorem dL_law_198 : decode cL_law 198 = .ok (.aload_n 0, 1) := by decide +kernel
theorem dL_law_199 : decode cL_law 199 = .ok (.iload_n 3, 1) := by decide +kernel
theorem dL_law_200 : decode cL_law 200 = .ok (.iconst 1, 1) := by decide +kernel
theorem dL_law_201 : decode cL_law 201 = .ok (.iadd, 1) := by decide +kernel
theorem dL_law_202 : decode cL_law 202 = .ok (.iaload, 1) := by decide +kernel
theorem dL_law_203 : decode cL_law 203 = .ok (.invokevirtual 27, 3) := by decide +kernel
theorem dL_law_206 : decode cL_law 206 = .ok (.goto 227, 3) := by decide +kernel
theorem dL_law_209 : decode cL_law 209 = .ok (.aload_n 1, 1) := by decide +kernel
theorem dL_law_210 : decode cL_law 210 = .ok (.aload_n 0, 1) := by decide +kernel
theorem dL_law_211 : decode cL_law 211 = .ok (.iload_n 3, 1) := by decide +kernel
theorem dL_law_212 : decode cL_law 212 = .ok (.iconst 1, 1) := by decide +kernel
theorem dL_law_213 : decode cL_law 213 = .ok (.iadd, 1) := by decide +kernel
theorem dL_law_214 : decode cL_law 214 = .ok (.iaload, 1) := by decide +kernel
theorem dL_law_215 : decode cL_law 215 = .ok (.aload_n 0, 1) := by decide +kernel
theorem dL_law_216 : decode cL_law 216 = .ok (.iload_n 3, 1) := by decide +kernel
theorem dL_law_217 : decode cL_law 217 = .ok (.iconst 2, 1) := by decide +kernel
theorem dL_law_218 : decode cL_law 218 = .ok (.iadd, 1) := by decide +kernel
theorem dL_law_219 : decode cL_law 219 = .ok (.iaload, 1) := by decide +kernel
theorem dL_law_220 : decode cL_law 220 = .ok (.invokevirtual 28, 3) := by decide +kernel
theorem dL_law_223 : decode cL_law 223 = .ok (.aload_n 2, 1) := by decide +kernel
theorem dL_law_224 : decode cL_law 224 = .ok (.aload_n 0, 1) := by decide +kernel
theorem dL_law_225 : decode cL_law 225 = .ok (.iload_n 3, 1) := by decide +kernel
theorem dL_law_226 : decode cL_law 226 = .ok (.iconst 1, 1) := by decide +kernel
theorem dL_law_227 : decode cL_law 227 = .ok (.iadd, 1) := by decide +kernel
theorem dL_law_228 : decode cL_law 228 = .ok (.iaload, 1) := by decide +kernel
theorem dL_law_229 : decode cL_law 229 = .ok (.aload_n 0, 1) := by decide +kernel
theorem dL_law_230 : decode cL_law 230 = .ok (.iload_n 3, 1) := by decide +kernel
theorem dL_law_231 : decode cL_law 231 = .ok (.iconst 2, 1) := by decide +kernel
theorem dL_law_232 : decode cL_law 232 = .ok (.iadd, 1) := by decide +kernel
theorem dL_law_233 : decode cL_law 233 = .ok (.iaload, 1) := by decide +kernel
theorem dL_law_234 : decode cL_law 234 = .ok (.invokevirtual 32, 3) := by decide +kernel
theorem dL_law_237 : decode cL_law 237 = .ok (.if_icmp .eq 196, 3) := by decide +kernel
theorem dL_law_240 : decode cL_law 240 = .ok (.iconst 0, 1) := by decide +kernel
theorem dL_law_241 : decode cL_law 241 = .ok (.ireturn, 1) := by decide +kernel
theorem dL_law_242 : decode cL_law 242 = .ok (.aload_n 1, 1) := by decide +kernel
theorem dL_law_243 : decode cL_law 243 = .ok (.aload_n 0, 1) := by decide +kernel
theorem dL_law_244 : decode cL_law 244 = .ok (.iload_n 3, 1) := by decide +kernel
theorem dL_law_245 : decode cL_law 245 = .ok (.iconst 1, 1) := by decide +kernel
theorem dL_law_246 : decode cL_law 246 = .ok (.iadd, 1) := by decide +kernel
theorem dL_law_247 : decode cL_law 247 = .ok (.iaload, 1) := by decide +kernel
theorem dL_law_248 : decode cL_law 248 = .ok (.aload_n 0, 1) := by decide +kernel
theorem dL_law_249 : decode cL_law 249 = .ok (.iload_n 3, 1) := by decide +kernel
theorem dL_law_250 : decode cL_law 250 = .ok (.iconst 2, 1) := by decide +kernel
theorem dL_law_251 : decode cL_law 251 = .ok (.iadd, 1) := by decide +kernel
theorem dL_law_252 : decode cL_law 252 = .ok (.iaload, 1) := by decide +kernel
theorem dL_law_253 : decode cL_law 253 = .ok (.aload_n 0, 1) := by decide +kernel
theorem dL_law_254 : decode cL_law 254 = .ok (.iload_n 3, 1) := by decide +kernel
theorem dL_law_255 : decode cL_law 255 = .ok (.iconst 3, 1) := by decide +kernel
theorem dL_law_256 : decode cL_law 256 = .ok (.iadd, 1) := by decide +kernel
theorem dL_law_257 : decode cL_law 257 = .ok (.iaload, 1) := by decide +kernel
theorem dL_law_258 : decode cL_law 258 = .ok (.invokevirtual 33, 3) := by decide +kernel
theorem dL_law_261 : decode cL_law 261 = .ok (.aload_n 2, 1) := by decide +kernel
theorem dL_law_262 : decode cL_law 262 = .ok (.aload_n 0, 1) := by decide +kernel
theorem dL_law_263 : decode cL_law 263 = .ok (.iload_n 3, 1) := by decide +kernel
theorem dL_law_264 : decode cL_law 264 = .ok (.iconst 1, 1) := by decide +kernel
theorem dL_law_265 : decode cL_law 265 = .ok (.iadd, 1) := by decide +kernel
theorem dL_law_266 : decode cL_law 266 = .ok (.iaload, 1) := by decide +kernel
theorem dL_law_267 : decode cL_law 267 = .ok (.aload_n 0, 1) := by decide +kernel
theorem dL_law_268 : decode cL_law 268 = .ok (.iload_n 3, 1) := by decide +kernel
theorem dL_law_269 : decode cL_law 269 = .ok (.iconst 2, 1) := by decide +kernel
theorem dL_law_270 : decode cL_law 270 = .ok (.iadd, 1) := by decide +kernel
theorem dL_law_271 : decode cL_law 271 = .ok (.iaload, 1) := by decide +kernel
theorem dL_law_272 : decode cL_law 272 = .ok (.aload_n 0, 1) := by decide +kernel
theorem dL_law_273 : decode cL_law 273 = .ok (.iload_n 3, 1) := by decide +kernel
theorem dL_law_274 : decode cL_law 274 = .ok (.iconst 3, 1) := by decide +kernel
theorem dL_law_275 : decode cL_law 275 = .ok (.iadd, 1) := by decide +kernel
theorem dL_law_276 : decode cL_law 276 = .ok (.iaload, 1) := by decide +kernel
theorem dL_law_277 : decode cL_law 277 = .ok (.invokevirtual 36, 3) := by decide +kernel
theorem dL_law_280 : decode cL_law 280 = .ok (.if_icmp .eq 153, 3) := by decide +kernel
theorem dL_law_283 : decode cL_law 283 = .ok (.iconst 0, 1) := by decide +kernel
theorem dL_law_284 : decode cL_law 284 = .ok (.ireturn, 1) := by decide +kernel
theorem dL_law_285 : decode cL_law 285 = .ok (.aload_n 1, 1) := by decide +kernel
theorem dL_law_286 : decode cL_law 286 = .ok (.aload_n 0, 1) := by decide +kernel
theorem dL_law_287 : decode cL_law 287 = .ok (.iload_n 3, 1) := by decide +kernel
theorem dL_law_288 : decode cL_law 288 = .ok (.iconst 1, 1) := by decide +kernel
theorem dL_law_289 : decode cL_law 289 = .ok (.iadd, 1) := by decide +kernel
theorem dL_law_290 : decode cL_law 290 = .ok (.iaload, 1) := by decide +kernel
theorem dL_law_291 : decode cL_law 291 = .ok (.invokevirtual 37, 3) := by decide +kernel
theorem dL_law_294 : decode cL_law 294 = .ok (.aload_n 2, 1) := by decide +kernel
theorem dL_law_295 : decode cL_law 295 = .ok (.aload_n 0, 1) := by decide +kernel
theorem dL_law_296 : decode cL_law 296 = .ok (.iload_n 3, 1) := by decide +kernel
theorem dL_law_297 : decode cL_law 297 = .ok (.iconst 1, 1) := by decide +kernel
theorem dL_law_298 : decode cL_law 298 = .ok (.iadd, 1) := by decide +kernel
theorem dL_law_299 : decode cL_law 299 = .ok (.iaload, 1) := by decide +kernel
theorem dL_law_300 : decode cL_law 300 = .ok (.invokevirtual 41, 3) := by decide +kernel
theorem dL_law_303 : decode cL_law 303 = .ok (.if_icmp .eq 130, 3) := by decide +kernel
theorem dL_law_306 : decode cL_law 306 = .ok (.iconst 0, 1) := by decide +kernel
theorem dL_law_307 : decode cL_law 307 = .ok (.ireturn, 1) := by decide +kernel
theorem dL_law_308 : decode cL_law 308 = .ok (.aload_n 1, 1) := by decide +kernel
theorem dL_law_309 : decode cL_law 309 = .ok (.invokevirtual 42, 3) := by decide +kernel
theorem dL_law_312 : decode cL_law 312 = .ok (.aload_n 2, 1) := by decide +kernel
theorem dL_law_313 : decode cL_law 313 = .ok (.invokevirtual 46, 3) := by decide +kernel
theorem dL_law_316 : decode cL_law 316 = .ok (.if_icmp .eq 117, 3) := by decide +kernel
theorem dL_law_319 : decode cL_law 319 = .ok (.iconst 0, 1) := by decide +kernel
theorem dL_law_320 : decode cL_law 320 = .ok (.ireturn, 1) := by decide +kernel
theorem dL_law_321 : decode cL_law 321 = .ok (.aload_n 1, 1) := by decide +kernel
theorem dL_law_322 : decode cL_law 322 = .ok (.aload_n 0, 1) := by decide +kernel
theorem dL_law_323 : decode cL_law 323 = .ok (.iload_n 3, 1) := by decide +kernel
theorem dL_law_324 : decode cL_law 324 = .ok (.iconst 1, 1) := by decide +kernel
theorem dL_law_325 : decode cL_law 325 = .ok (.iadd, 1) := by decide +kernel
theorem dL_law_326 : decode cL_law 326 = .ok (.iaload, 1) := by decide +kernel
theorem dL_law_327 : decode cL_law 327 = .ok (.aload_n 0, 1) := by decide +kernel
theorem dL_law_328 : decode cL_law 328 = .ok (.iload_n 3, 1) := by decide +kernel
theorem dL_law_329 : decode cL_law 329 = .ok (.iconst 2, 1) := by decide +kernel
theorem dL_law_330 : decode cL_law 330 = .ok (.iadd, 1) := by decide +kernel
theorem dL_law_331 : decode cL_law 331 = .ok (.iaload, 1) := by decide +kernel
theorem dL_law_332 : decode cL_law 332 = .ok (.invokevirtual 47, 3) := by decide +kernel
theorem dL_law_335 : decode cL_law 335 = .ok (.aload_n 2, 1) := by decide +kernel
theorem dL_law_336 : decode cL_law 336 = .ok (.aload_n 0, 1) := by decide +kernel
theorem dL_law_337 : decode cL_law 337 = .ok (.iload_n 3, 1) := by decide +kernel
theorem dL_law_338 : decode cL_law 338 = .ok (.iconst 1, 1) := by decide +kernel
theorem dL_law_339 : decode cL_law 339 = .ok (.iadd, 1) := by decide +kernel
theorem dL_law_340 : decode cL_law 340 = .ok (.iaload, 1) := by decide +kernel
theorem dL_law_341 : decode cL_law 341 = .ok (.aload_n 0, 1) := by decide +kernel
theorem dL_law_342 : decode cL_law 342 = .ok (.iload_n 3, 1) := by decide +kernel
theorem dL_law_343 : decode cL_law 343 = .ok (.iconst 2, 1) := by decide +kernel
theorem dL_law_344 : decode cL_law 344 = .ok (.iadd, 1) := by decide +kernel
theorem dL_law_345 : decode cL_law 345 = .ok (.iaload, 1) := by decide +kernel
theorem dL_law_346 : decode cL_law 346 = .ok (.invokevirtual 50, 3) := by decide +kernel
theorem dL_law_349 : decode cL_law 349 = .ok (.if_icmp .eq 84, 3) := by decide +kernel
theorem dL_law_352 : decode cL_law 352 = .ok (.iconst 0, 1) := by decide +kernel
theorem dL_law_353 : decode cL_law 353 = .ok (.ireturn, 1) := by decide +kernel
theorem dL_law_354 : decode cL_law 354 = .ok (.aload_n 1, 1) := by decide +kernel
theorem dL_law_355 : decode cL_law 355 = .ok (.aload_n 0, 1) := by decide +kernel
theorem dL_law_356 : decode cL_law 356 = .ok (.iload_n 3, 1) := by decide +kernel
theorem dL_law_357 : decode cL_law 357 = .ok (.iconst 1, 1) := by decide +kernel
theorem dL_law_358 : decode cL_law 358 = .ok (.iadd, 1) := by decide +kernel
theorem dL_law_359 : decode cL_law 359 = .ok (.iaload, 1) := by decide +kernel
theorem dL_law_360 : decode cL_law 360 = .ok (.invokevirtual 51, 3) := by decide +kernel
theorem dL_law_363 : decode cL_law 363 = .ok (.aload_n 2, 1) := by decide +kernel
theorem dL_law_364 : decode cL_law 364 = .ok (.aload_n 0, 1) := by decide +kernel
theorem dL_law_365 : decode cL_law 365 = .ok (.iload_n 3, 1) := by decide +kernel
theorem dL_law_366 : decode cL_law 366 = .ok (.iconst 1, 1) := by decide +kernel
theorem dL_law_367 : decode cL_law 367 = .ok (.iadd, 1) := by decide +kernel
theorem dL_law_368 : decode cL_law 368 = .ok (.iaload, 1) := by decide +kernel
theorem dL_law_369 : decode cL_law 369 = .ok (.invokevirtual 54, 3) := by decide +kernel
theorem dL_law_372 : decode cL_law 372 = .ok (.if_icmp .eq 61, 3) := by decide +kernel
theorem dL_law_375 : decode cL_law 375 = .ok (.iconst 0, 1) := by decide +kernel
theorem dL_law_376 : decode cL_law 376 = .ok (.ireturn, 1) := by decide +kernel
theorem dL_law_377 : decode cL_law 377 = .ok (.aload_n 1, 1) := by decide +kernel
theorem dL_law_378 : decode cL_law 378 = .ok (.aload_n 0, 1) := by decide +kernel
theorem dL_law_379 : decode cL_law 379 = .ok (.iload_n 3, 1) := by decide +kernel
theorem dL_law_380 : decode cL_law 380 = .ok (.iconst 1, 1) := by decide +kernel
theorem dL_law_381 : decode cL_law 381 = .ok (.iadd, 1) := by decide +kernel
theorem dL_law_382 : decode cL_law 382 = .ok (.iaload, 1) := by decide +kernel
theorem dL_law_383 : decode cL_law 383 = .ok (.invokevirtual 55, 3) := by decide +kernel
theorem dL_law_386 : decode cL_law 386 = .ok (.aload_n 2, 1) := by decide +kernel
theorem dL_law_387 : decode cL_law 387 = .ok (.aload_n 0, 1) := by decide +kernel
theorem dL_law_388 : decode cL_law 388 = .ok (.iload_n 3, 1) := by decide +kernel
theorem dL_law_389 : decode cL_law 389 = .ok (.iconst 1, 1) := by decide +kernel
theorem dL_law_390 : decode cL_law 390 = .ok (.iadd, 1) := by decide +kernel
theorem dL_law_391 : decode cL_law 391 = .ok (.iaload, 1) := by decide +kernel
theorem dL_law_392 : decode cL_law 392 = .ok (.invokevirtual 58, 3) := by decide +kernel
theorem dL_law_395 : decode cL_law 395 = .ok (.if_icmp .eq 38, 3) := by decide +kernel
theorem dL_law_398 : decode cL_law 398 = .ok (.iconst 0, 1) := by decide +kernel
theorem dL_law_399 : decode cL_law 399 = .ok (.ireturn, 1) := by decide +kernel
theorem dL_law_400 : decode cL_law 400 = .ok (.aload_n 1, 1) := by decide +kernel
theorem dL_law_401 : decode cL_law 401 = .ok (.aload_n 0, 1) := by decide +kernel
theorem dL_law_402 : decode cL_law 402 = .ok (.iload_n 3, 1) := by decide +kernel
theorem dL_law_403 : decode cL_law 403 = .ok (.iconst 1, 1) := by decide +kernel
theorem dL_law_404 : decode cL_law 404 = .ok (.iadd, 1) := by decide +kernel
theorem dL_law_405 : decode cL_law 405 = .ok (.iaload, 1) := by decide +kernel
theorem dL_law_406 : decode cL_law 406 = .ok (.aload_n 0, 1) := by decide +kernel
theorem dL_law_407 : decode cL_law 407 = .ok (.iload_n 3, 1) := by decide +kernel
theorem dL_law_408 : decode cL_law 408 = .ok (.iconst 2, 1) := by decide +kernel
theorem dL_law_409 : decode cL_law 409 = .ok (.iadd, 1) := by decide +kernel
theorem dL_law_410 : decode cL_law 410 = .ok (.iaload, 1) := by decide +kernel
theorem dL_law_411 : decode cL_law 411 = .ok (.invokevirtual 59, 3) := by decide +kernel
theorem dL_law_414 : decode cL_law 414 = .ok (.aload_n 2, 1) := by decide +kernel
theorem dL_law_415 : decode cL_law 415 = .ok (.aload_n 0, 1) := by decide +kernel
theorem dL_law_416 : decode cL_law 416 = .ok (.iload_n 3, 1) := by decide +kernel
theorem dL_law_417 : decode cL_law 417 = .ok (.iconst 1, 1) := by decide +kernel
theorem dL_law_418 : decode cL_law 418 = .ok (.iadd, 1) := by decide +kernel
theorem dL_law_419 : decode cL_law 419 = .ok (.iaload, 1) := by decide +kernel
theorem dL_law_420 : decode cL_law 420 = .ok (.aload_n 0, 1) := by decide +kernel
theorem dL_law_421 : decode cL_law 421 = .ok (.iload_n 3, 1) := by decide +kernel
theorem dL_law_422 : decode cL_law 422 = .ok (.iconst 2, 1) := by decide +kernel
theorem dL_law_423 : decode cL_law 423 = .ok (.iadd, 1) := by decide +kernel
theorem dL_law_424 : decode cL_law 424 = .ok (.iaload, 1) := by decide +kernel
theorem dL_law_425 : decode cL_law 425 = .ok (.invokevirtual 62, 3) := by decide +kernel
theorem dL_law_428 : decode cL_law 428 = .ok (.if_icmp .eq 5, 3) := by decide +kernel
theorem dL_law_431 : decode cL_law 431 = .ok (.iconst 0, 1) := by decide +kernel
theorem dL_law_432 : decode cL_law 432 = .ok (.ireturn, 1) := by decide +kernel
theorem dL_law_433 : decode cL_law 433 = .ok (.iinc 3 5, 3) := by decide +kernel
theorem dL_law_436 : decode cL_law 436 = .ok (.goto (-418), 3) := by decide +kernel
theorem dL_law_439 : decode cL_law 439 = .ok (.iconst 1, 1) := by decide +kernel
theorem dL_law_440 : decode cL_law 440 = .ok (.ireturn, 1) := by decide +kernel
theorem q4 : (Jvm.Cond.initialized "ShadowPagerLaw") ∈ lw_all := lw_g (lw_at lw_m0 0 rfl) rfl
set_option maxRecDepth 100000
theorem q7 : (Jvm.Cond.classLink "ShadowPagerLaw" (7 : Nat) "ShadowPager") ∈ lw_all := lw_g (lw_at lw_m0 3 rfl) rfl
theorem q9 : (Jvm.Cond.methodLink "ShadowPagerLaw" (9 : Nat) ({ cls := "ShadowPager", name := "<init>", desc := "()V" } : Jvm.MethodName)) ∈ lw_all := lw_g (lw_at lw_m0 5 rfl) rfl
theorem q63 : (Jvm.Cond.methodLink "ShadowPagerLaw" (13 : Nat) ({ cls := "ShadowPager", name := "setGuest", desc := "(IIII)I" } : Jvm.MethodName)) ∈ lw_all := lw_g (lw_at lw_m0 59 rfl) rfl
theorem q77 : (Jvm.Cond.methodLink "ShadowPagerLaw" (18 : Nat) ({ cls := "ShadowPager", name := "setHost", desc := "(III)I" } : Jvm.MethodName)) ∈ lw_all := lw_g (lw_at lw_m0 73 rfl) rfl
theorem q81 : (Jvm.Cond.methodLink "ShadowPagerLaw" (23 : Nat) ({ cls := "ShadowPager", name := "change", desc := "(I)V" } : Jvm.MethodName)) ∈ lw_all := lw_g (lw_at lw_m0 77 rfl) rfl
theorem q85 : (Jvm.Cond.methodLink "ShadowPagerLaw" (28 : Nat) ({ cls := "ShadowPager", name := "load", desc := "(II)I" } : Jvm.MethodName)) ∈ lw_all := lw_g (lw_at lw_m0 81 rfl) rfl
theorem q97 : (Jvm.Cond.methodLink "ShadowPagerLaw" (33 : Nat) ({ cls := "ShadowPager", name := "store", desc := "(III)I" } : Jvm.MethodName)) ∈ lw_all := lw_g (lw_at lw_m0 93 rfl) rfl
theorem q101 : (Jvm.Cond.methodLink "ShadowPagerLaw" (37 : Nat) ({ cls := "ShadowPager", name := "fetch", desc := "(I)I" } : Jvm.MethodName)) ∈ lw_all := lw_g (lw_at lw_m0 97 rfl) rfl
theorem q105 : (Jvm.Cond.methodLink "ShadowPagerLaw" (42 : Nat) ({ cls := "ShadowPager", name := "last", desc := "()I" } : Jvm.MethodName)) ∈ lw_all := lw_g (lw_at lw_m0 101 rfl) rfl
theorem q109 : (Jvm.Cond.methodLink "ShadowPagerLaw" (47 : Nat) ({ cls := "ShadowPager", name := "marks", desc := "(II)I" } : Jvm.MethodName)) ∈ lw_all := lw_g (lw_at lw_m0 105 rfl) rfl
theorem q113 : (Jvm.Cond.methodLink "ShadowPagerLaw" (51 : Nat) ({ cls := "ShadowPager", name := "hostMark", desc := "(I)I" } : Jvm.MethodName)) ∈ lw_all := lw_g (lw_at lw_m0 109 rfl) rfl
theorem q117 : (Jvm.Cond.methodLink "ShadowPagerLaw" (55 : Nat) ({ cls := "ShadowPager", name := "age", desc := "(I)I" } : Jvm.MethodName)) ∈ lw_all := lw_g (lw_at lw_m0 113 rfl) rfl
theorem q121 : (Jvm.Cond.methodLink "ShadowPagerLaw" (59 : Nat) ({ cls := "ShadowPager", name := "frameCell", desc := "(II)I" } : Jvm.MethodName)) ∈ lw_all := lw_g (lw_at lw_m0 117 rfl) rfl
theorem q125 : (Jvm.Cond.classLink "ShadowPagerLaw" (10 : Nat) "ShadowPagerModel") ∈ lw_all := lw_g (lw_at lw_m0 121 rfl) rfl
theorem q127 : (Jvm.Cond.methodLink "ShadowPagerLaw" (12 : Nat) ({ cls := "ShadowPagerModel", name := "<init>", desc := "()V" } : Jvm.MethodName)) ∈ lw_all := lw_g (lw_at lw_m0 123 rfl) rfl
theorem q162 : (Jvm.Cond.methodLink "ShadowPagerLaw" (17 : Nat) ({ cls := "ShadowPagerModel", name := "setGuest", desc := "(IIII)I" } : Jvm.MethodName)) ∈ lw_all := lw_g (lw_at lw_m0 158 rfl) rfl
theorem q169 : (Jvm.Cond.methodLink "ShadowPagerLaw" (22 : Nat) ({ cls := "ShadowPagerModel", name := "setHost", desc := "(III)I" } : Jvm.MethodName)) ∈ lw_all := lw_g (lw_at lw_m0 165 rfl) rfl
theorem q173 : (Jvm.Cond.methodLink "ShadowPagerLaw" (27 : Nat) ({ cls := "ShadowPagerModel", name := "change", desc := "(I)V" } : Jvm.MethodName)) ∈ lw_all := lw_g (lw_at lw_m0 169 rfl) rfl
theorem q177 : (Jvm.Cond.methodLink "ShadowPagerLaw" (32 : Nat) ({ cls := "ShadowPagerModel", name := "load", desc := "(II)I" } : Jvm.MethodName)) ∈ lw_all := lw_g (lw_at lw_m0 173 rfl) rfl
theorem q185 : (Jvm.Cond.methodLink "ShadowPagerLaw" (36 : Nat) ({ cls := "ShadowPagerModel", name := "store", desc := "(III)I" } : Jvm.MethodName)) ∈ lw_all := lw_g (lw_at lw_m0 181 rfl) rfl
theorem q189 : (Jvm.Cond.methodLink "ShadowPagerLaw" (41 : Nat) ({ cls := "ShadowPagerModel", name := "fetch", desc := "(I)I" } : Jvm.MethodName)) ∈ lw_all := lw_g (lw_at lw_m0 185 rfl) rfl
theorem q193 : (Jvm.Cond.methodLink "ShadowPagerLaw" (46 : Nat) ({ cls := "ShadowPagerModel", name := "last", desc := "()I" } : Jvm.MethodName)) ∈ lw_all := lw_g (lw_at lw_m0 189 rfl) rfl
theorem q197 : (Jvm.Cond.methodLink "ShadowPagerLaw" (50 : Nat) ({ cls := "ShadowPagerModel", name := "marks", desc := "(II)I" } : Jvm.MethodName)) ∈ lw_all := lw_g (lw_at lw_m0 193 rfl) rfl
theorem q201 : (Jvm.Cond.methodLink "ShadowPagerLaw" (54 : Nat) ({ cls := "ShadowPagerModel", name := "hostMark", desc := "(I)I" } : Jvm.MethodName)) ∈ lw_all := lw_g (lw_at lw_m0 197 rfl) rfl
theorem q205 : (Jvm.Cond.methodLink "ShadowPagerLaw" (58 : Nat) ({ cls := "ShadowPagerModel", name := "age", desc := "(I)I" } : Jvm.MethodName)) ∈ lw_all := lw_g (lw_at lw_m0 201 rfl) rfl
theorem q209 : (Jvm.Cond.methodLink "ShadowPagerLaw" (62 : Nat) ({ cls := "ShadowPagerModel", name := "frameCell", desc := "(II)I" } : Jvm.MethodName)) ∈ lw_all := lw_g (lw_at lw_m0 205 rfl) rfl
theorem q61 : (Jvm.Cond.arrayClass Jvm.ClassFile.FieldType.int) ∈ lw_all := lw_g (lw_at lw_m0 57 rfl) rfl
set_option maxRecDepth 100000
theorem q62 : (Jvm.Cond.arrayClass Jvm.ClassFile.FieldType.boolean) ∈ lw_all := lw_g (lw_at lw_m0 58 rfl) rfl
end
section
/-! the two worlds and rows over them -/
abbrev spCl : List vw_C := [(RX0, TX0, 15), (RX1, TX1, 10)]
abbrev wX (h0 : Nat) (q : Nat → Nat) (d : Nat → ClassId) (pr la : Int32) (gm gr tc ch hf hr hc ce sf sr sm hd nx : FN) : va_W := [(h0, .inr (0, [.int pr, .ref (q 1), .ref (q 2), .ref (q 3), .ref (q 4), .ref (q 5), .ref (q 6), .ref (q 7), .ref (q 8), .int la, .ref (q 9), .ref (q 10), .ref (q 11), .ref (q 12), .ref (q 13)])), (q 1, .inl (d 1, 16, .inl gm)), (q 2, .inl (d 2, 16, .inl gr)), (q 3, .inl (d 3, 16, .inl tc)), (q 4, .inl (d 4, 16, .inl ch)), (q 5, .inl (d 5, 8, .inl hf)), (q 6, .inl (d 6, 8, .inl hr)), (q 7, .inl (d 7, 8, .inl hc)), (q 8, .inl (d 8, 32, .inl ce)), (q 9, .inl (d 9, 16, .inl sf)), (q 10, .inl (d 10, 16, .inl sr)), (q 11, .inl (d 11, 16, .inl sm)), (q 12, .inl (d 12, 8, .inl hd)), (q 13, .inl (d 13, 16, .inl nx))]
abbrev wM (h0 : Nat) (q : Nat → Nat) (d : Nat → ClassId) (pr la : Int32) (gm gr tc ch hf hr hc ce : FN) : va_W := [(h0, .inr (1, [.ref (q 1), .ref (q 2), .ref (q 3), .ref (q 4), .ref (q 5), .ref (q 6), .ref (q 7), .ref (q 8), .int pr, .int la])), (q 1, .inl (d 1, 16, .inl gm)), (q 2, .inl (d 2, 16, .inl gr)), (q 3, .inl (d 3, 16, .inl tc)), (q 4, .inl (d 4, 16, .inl ch)), (q 5, .inl (d 5, 8, .inl hf)), (q 6, .inl (d 6, 8, .inl hr)), (q 7, .inl (d 7, 8, .inl hc)), (q 8, .inl (d 8, 32, .inl ce))]
abbrev tyX (d : Nat → ClassId) : List (ClassId × FieldType) := [(d 1, .int), (d 2, .int), (d 3, .boolean), (d 4, .boolean), (d 5, .int), (d 6, .int), (d 7, .boolean), (d 8, .int), (d 9, .int), (d 10, .int), (d 11, .int), (d 12, .int), (d 13, .int)]
abbrev tyM (d : Nat → ClassId) : List (ClassId × FieldType) := [(d 1, .int), (d 2, .int), (d 3, .boolean), (d 4, .boolean), (d 5, .int), (d 6, .int), (d 7, .boolean), (d 8, .int)]
abbrev BX (dC : Nat → ClassId) (dI : Nat → Nat → Nat) (A : Nat → Prop) (h0 : Nat) (q : Nat → Nat) (d : Nat → ClassId) (pr la : Int32) (gm gr tc ch hf hr hc ce sf sr sm hd nx : FN) (t : State) : Prop := va_P (dC, dI) spCl (wX h0 q d pr la gm gr tc ch hf hr hc ce sf sr sm hd nx) t.heap ∧ va_K (dC, dI) spCl (tyX d) t ∧ va_D A (wX h0 q d pr la gm gr tc ch hf hr hc ce sf sr sm hd nx)
abbrev BM (dC : Nat → ClassId) (dI : Nat → Nat → Nat) (A : Nat → Prop) (h0 : Nat) (q : Nat → Nat) (d : Nat → ClassId) (pr la : Int32) (gm gr tc ch hf hr hc ce : FN) (t : State) : Prop := va_P (dC, dI) spCl (wM h0 q d pr la gm gr tc ch hf hr hc ce) t.heap ∧ va_K (dC, dI) spCl (tyM d) t ∧ va_D A (wM h0 q d pr la gm gr tc ch hf hr hc ce)
abbrev sp_Inv (u : PT × PS) : Prop := sp_INV u.1.1 u.1.2.2.1 u.1.2.2.2.1 u.1.2.2.2.2.1 u.1.2.2.2.2.2.1 u.1.2.2.2.2.2.2.1 u.1.2.2.2.2.2.2.2.1 u.1.2.2.2.2.2.2.2.2.1 u.2.1 u.2.2.1 u.2.2.2.1 u.2.2.2.2.1 u.2.2.2.2.2
abbrev BXu (dC : Nat → ClassId) (dI : Nat → Nat → Nat) (A : Nat → Prop) (h0 : Nat) (q : Nat → Nat) (d : Nat → ClassId) (u : PT × PS) (t : State) : Prop := BX dC dI A h0 q d u.1.1 u.1.2.1 u.1.2.2.1 u.1.2.2.2.1 u.1.2.2.2.2.1 u.1.2.2.2.2.2.1 u.1.2.2.2.2.2.2.1 u.1.2.2.2.2.2.2.2.1 u.1.2.2.2.2.2.2.2.2.1 u.1.2.2.2.2.2.2.2.2.2 u.2.1 u.2.2.1 u.2.2.2.1 u.2.2.2.2.1 u.2.2.2.2.2 t
abbrev BMu (dC : Nat → ClassId) (dI : Nat → Nat → Nat) (A : Nat → Prop) (h0 : Nat) (q : Nat → Nat) (d : Nat → ClassId) (t : PT) (T : State) : Prop := BM dC dI A h0 q d t.1 t.2.1 t.2.2.1 t.2.2.2.1 t.2.2.2.2.1 t.2.2.2.2.2.1 t.2.2.2.2.2.2.1 t.2.2.2.2.2.2.2.1 t.2.2.2.2.2.2.2.2.1 t.2.2.2.2.2.2.2.2.2 T
abbrev wXu (h0 : Nat) (q : Nat → Nat) (d : Nat → ClassId) (u : PT × PS) : va_W := wX h0 q d u.1.1 u.1.2.1 u.1.2.2.1 u.1.2.2.2.1 u.1.2.2.2.2.1 u.1.2.2.2.2.2.1 u.1.2.2.2.2.2.2.1 u.1.2.2.2.2.2.2.2.1 u.1.2.2.2.2.2.2.2.2.1 u.1.2.2.2.2.2.2.2.2.2 u.2.1 u.2.2.1 u.2.2.2.1 u.2.2.2.2.1 u.2.2.2.2.2
abbrev wMu (h0 : Nat) (q : Nat → Nat) (d : Nat → ClassId) (t : PT) : va_W := wM h0 q d t.1 t.2.1 t.2.2.1 t.2.2.2.1 t.2.2.2.2.1 t.2.2.2.2.2.1 t.2.2.2.2.2.2.1 t.2.2.2.2.2.2.2.1 t.2.2.2.2.2.2.2.2.1 t.2.2.2.2.2.2.2.2.2
section SPV
variable {p : Program} {l : Launch} {ev : Env} {R : Room} {s : State} {m : MethodId} {args : Array Value} {below : List Frame} {meth : Method} {c : Code} {H : Heap} {locs : List Loc} {cells slots : Nat} {Q : State → Prop}
variable {cc : ByteArray} {pc : Nat} {ls : Array Slot} {rest : List Value} {D : va_G} {cl : List vw_C} {A : Nat → Prop} {a : Nat} {tys : List (ClassId × FieldType)} {ws : va_W} {H0 : Heap}
theorem sp_ild (hexec : p.tables.exec = Jvm.exec) (hb : c.code = cc) (hK : va_K D cl tys s) (hP : va_P D cl ws H) (q0 t0 : Nat) {cA : ClassId} {n : Nat} {f : Nat → Int32} (ha : ws[q0]? = some (a, .inl (cA, n, .inl f))) (ht : tys[t0]? = some (cA, .int)) {i : Int32} (k : Nat) (hi : i = nI k) (hk : k < n) (hn : n < 2 ^ 31) (hdg : decode cc pc = .ok (.iaload, 1))
    (kk : W p l ev R s m args below meth c H locs cells slots Q (F0 m (pc + 1) ls (.int (f k) :: rest))) : W p l ev R s m args below meth c H locs cells slots Q (F0 m pc ls (.int i :: .ref a :: rest)) := by
  subst hi
  refine va_iald hexec hb hK hP q0 t0 ha ht (vp_in_nI hk hn) hdg ?_
  rw [nI_clamp (n := k) (by omega)]
  exact kk
theorem sp_zld (hexec : p.tables.exec = Jvm.exec) (hb : c.code = cc) (hK : va_K D cl tys s) (hP : va_P D cl ws H) (q0 t0 : Nat) {cA : ClassId} {n : Nat} {f : Nat → Int32} (ha : ws[q0]? = some (a, .inl (cA, n, .inl f))) (ht : tys[t0]? = some (cA, .boolean)) {i : Int32} (k : Nat) (hi : i = nI k) (hk : k < n) (hn : n < 2 ^ 31) (hdg : decode cc pc = .ok (.baload, 1))
    (kk : W p l ev R s m args below meth c H locs cells slots Q (F0 m (pc + 1) ls (.int (f k) :: rest))) : W p l ev R s m args below meth c H locs cells slots Q (F0 m pc ls (.int i :: .ref a :: rest)) := by
  subst hi
  refine va_zald hexec hb hK hP q0 t0 ha ht (vp_in_nI hk hn) hdg ?_
  rw [nI_clamp (n := k) (by omega)]
  exact kk
theorem sp_ist (hexec : p.tables.exec = Jvm.exec) (hb : c.code = cc) (hK : va_K D cl tys s) (hP : va_P D cl ws H) (hD : va_D A ws) (hS : va_S A H0 H locs) (q0 t0 : Nat) {cA : ClassId} {n : Nat} {f : Nat → Int32} (ha : ws[q0]? = some (a, .inl (cA, n, .inl f))) (ht : tys[t0]? = some (cA, .int)) {i x : Int32} (k : Nat) (hi : i = nI k) (hk : k < n) (hn : n < 2 ^ 31) (hdg : decode cc pc = .ok (.iastore, 1))
    (kk : ∀ (H1 : Heap) (locs1 : List Loc), va_P D cl (ws.set q0 (a, .inl (cA, n, .inl (upd f k x)))) H1 → va_D A (ws.set q0 (a, .inl (cA, n, .inl (upd f k x)))) → va_S A H0 H1 locs1 → W p l ev R s m args below meth c H1 locs1 cells slots Q (F0 m (pc + 1) ls rest)) : W p l ev R s m args below meth c H locs cells slots Q (F0 m pc ls (.int x :: .int i :: .ref a :: rest)) := by
  subst hi
  refine va_iast hexec hb hK hP hD hS q0 t0 ha ht (vp_in_nI hk hn) hdg (fun H1 locs1 hP1 hD1 hS1 => ?_)
  rw [nI_clamp (n := k) (by omega)] at hP1 hD1
  exact kk H1 locs1 hP1 hD1 hS1
theorem sp_zst (hexec : p.tables.exec = Jvm.exec) (hb : c.code = cc) (hK : va_K D cl tys s) (hP : va_P D cl ws H) (hD : va_D A ws) (hS : va_S A H0 H locs) (q0 t0 : Nat) {cA : ClassId} {n : Nat} {f : Nat → Int32} (ha : ws[q0]? = some (a, .inl (cA, n, .inl f))) (ht : tys[t0]? = some (cA, .boolean)) {i x : Int32} (k : Nat) (hi : i = nI k) (hk : k < n) (hn : n < 2 ^ 31) (hv : vp_nar .boolean x = x) (hdg : decode cc pc = .ok (.bastore, 1))
    (kk : ∀ (H1 : Heap) (locs1 : List Loc), va_P D cl (ws.set q0 (a, .inl (cA, n, .inl (upd f k x)))) H1 → va_D A (ws.set q0 (a, .inl (cA, n, .inl (upd f k x)))) → va_S A H0 H1 locs1 → W p l ev R s m args below meth c H1 locs1 cells slots Q (F0 m (pc + 1) ls rest)) : W p l ev R s m args below meth c H locs cells slots Q (F0 m pc ls (.int x :: .int i :: .ref a :: rest)) := by
  subst hi
  refine va_zast hexec hb hK hP hD hS q0 t0 ha ht (vp_in_nI hk hn) hdg (fun H1 locs1 hP1 hD1 hS1 => ?_)
  rw [nI_clamp (n := k) (by omega), hv] at hP1 hD1
  exact kk H1 locs1 hP1 hD1 hS1
theorem sp_sld (hexec : p.tables.exec = Jvm.exec) (hb : c.code = cc) {b L : Nat} {xs : Nat → Int32} (hX : va_X b L xs s H0) (hbl : b < H0.size) (hbA : ¬ A b) (hS : va_S A H0 H locs) {i : Int32} (k : Nat) (hi : i = nI k) (hk : k < L) (hn : L < 2 ^ 31) (hdg : decode cc pc = .ok (.iaload, 1))
    (kk : W p l ev R s m args below meth c H locs cells slots Q (F0 m (pc + 1) ls (.int (xs k) :: rest))) : W p l ev R s m args below meth c H locs cells slots Q (F0 m pc ls (.int i :: .ref b :: rest)) := by
  subst hi
  refine va_sld hexec hb hX hbl hbA hS (vp_in_nI hk hn) hdg ?_
  rw [nI_clamp (n := k) (by omega)]
  exact kk
theorem sp_keep {H1 : Heap} (hP : va_P D cl ws H) (hk : ∀ q : Nat, q < H.size → ¬ va_A [] H.size q → H1[q]? = H[q]?) : va_P D cl ws H1 := hP.kept (fun k x hx => hk _ (hP k x hx).lt (fun z => by
  rcases z with ⟨k2, e2, h2⟩ | h2
  · simp at h2
  · exact absurd (hP k x hx).lt (Nat.not_lt.mpr h2)))
end SPV
theorem sp_fun13 {α : Type} (a1 a2 a3 a4 a5 a6 a7 a8 a9 a10 a11 a12 a13 : α) : ∃ q : Nat → α, q 1 = a1 ∧ q 2 = a2 ∧ q 3 = a3 ∧ q 4 = a4 ∧ q 5 = a5 ∧ q 6 = a6 ∧ q 7 = a7 ∧ q 8 = a8 ∧ q 9 = a9 ∧ q 10 = a10 ∧ q 11 = a11 ∧ q 12 = a12 ∧ q 13 = a13 := ⟨fun k => [a1, a1, a2, a3, a4, a5, a6, a7, a8, a9, a10, a11, a12, a13].getD k a1, rfl, rfl, rfl, rfl, rfl, rfl, rfl, rfl, rfl, rfl, rfl, rfl, rfl⟩
theorem sp_fun8 {α : Type} (a1 a2 a3 a4 a5 a6 a7 a8 : α) : ∃ q : Nat → α, q 1 = a1 ∧ q 2 = a2 ∧ q 3 = a3 ∧ q 4 = a4 ∧ q 5 = a5 ∧ q 6 = a6 ∧ q 7 = a7 ∧ q 8 = a8 := ⟨fun k => [a1, a1, a2, a3, a4, a5, a6, a7, a8].getD k a1, rfl, rfl, rfl, rfl, rfl, rfl, rfl, rfl⟩
end
section
/-! answers of the small checks, and the calls' answers case by case -/
def sp_psp (r x : Int32) : Prop := (r = 1 ∧ ∃ a, a < 2 ∧ x = nI a) ∨ (r = 0 ∧ sp_bad x 1)
def sp_pnm (r x : Int32) : Prop := (r = 1 ∧ ∃ a, a < 8 ∧ x = nI a) ∨ (r = 0 ∧ sp_bad x 7)
def sp_pou (r x y : Int32) : Prop := (r = 1 ∧ sp_bad x y) ∨ (r = 0 ∧ ¬ sp_bad x y)
theorem sp_nb1 {x : Int32} (h : ¬ sp_bad x 1) : ∃ a, a < 2 ∧ x = nI a := by
  obtain ⟨j, h1, h2⟩ := sp_nb (n := 1) (by decide) h
  exact ⟨j, by omega, h2⟩
theorem sp_nb3 {x : Int32} (h : ¬ sp_bad x 3) : ∃ a, a < 4 ∧ x = nI a := by
  obtain ⟨j, h1, h2⟩ := sp_nb (n := 3) (by decide) h
  exact ⟨j, by omega, h2⟩
theorem sp_nb7 {x : Int32} (h : ¬ sp_bad x 7) : ∃ a, a < 8 ∧ x = nI a := by
  obtain ⟨j, h1, h2⟩ := sp_nb (n := 7) (by decide) h
  exact ⟨j, by omega, h2⟩
theorem sp_nbe {a n : Nat} (hn : n < 2 ^ 31) (h : a ≤ n) : ¬ sp_bad (nI a) (nI n) := by
  rintro (q | q)
  · exact nI_pos (by omega) q
  · exact absurd ((nI_ltI hn (by omega)).mp q) (by omega)
theorem sp_ok1 {a : Nat} (h : a < 2) : ¬ sp_bad (nI a) 1 := sp_nbe (n := 1) (by decide) (by omega)
theorem sp_ok3 {a : Nat} (h : a < 4) : ¬ sp_bad (nI a) 3 := sp_nbe (n := 3) (by decide) (by omega)
theorem sp_ok7 {a : Nat} (h : a < 8) : ¬ sp_bad (nI a) 7 := sp_nbe (n := 7) (by decide) (by omega)
theorem sp_sp0 {x : Int32} (h0 : ¬ x = 0) (h1 : ¬ x = 1) : sp_bad x 1 := by
  by_cases h : sp_bad x 1
  · exact h
  · obtain ⟨a, ha, hx⟩ := sp_nb1 h
    rcases (show a = 0 ∨ a = 1 by omega) with q | q
    · exact absurd (by rw [hx, q]; rfl) h0
    · exact absurd (by rw [hx, q]; rfl) h1
theorem sp_psp0 {r x : Int32} (h : sp_psp r x) (hr : r = 0) : sp_bad x 1 := by
  rcases h with h | h
  · exact absurd (h.1.symm.trans hr) (by decide)
  · exact h.2
theorem sp_psp1 {r x : Int32} (h : sp_psp r x) (hr : ¬ r = 0) : ∃ a, a < 2 ∧ x = nI a := by
  rcases h with h | h
  · exact h.2
  · exact absurd h.1 hr
theorem sp_pnm0 {r x : Int32} (h : sp_pnm r x) (hr : r = 0) : sp_bad x 7 := by
  rcases h with h | h
  · exact absurd (h.1.symm.trans hr) (by decide)
  · exact h.2
theorem sp_pnm1 {r x : Int32} (h : sp_pnm r x) (hr : ¬ r = 0) : ∃ a, a < 8 ∧ x = nI a := by
  rcases h with h | h
  · exact h.2
  · exact absurd h.1 hr
theorem sp_pou0 {r x y : Int32} (h : sp_pou r x y) (hr : r = 0) : ¬ sp_bad x y := by
  rcases h with h | h
  · exact absurd (h.1.symm.trans hr) (by decide)
  · exact h.2
theorem sp_pou1 {r x y : Int32} (h : sp_pou r x y) (hr : ¬ r = 0) : sp_bad x y := by
  rcases h with h | h
  · exact h.2
  · exact absurd h.1 hr
theorem sp_rng {x : Int32} (h1 : ¬ x < -1) (h2 : ¬ 7 < x) (h0 : ¬ x < 0) : ∃ m, m < 8 ∧ x = nI m := sp_nb7 (by
  rintro (q | q)
  · exact h0 q
  · exact h2 q)
section OPS
variable {pr la : Int32} {gm gr tc ch hf hr hc ce : FN} {x1 x2 x3 x4 : Int32} {a b : Nat}
theorem sp_setGuest_b (h : (sp_bad x1 1 ∨ sp_bad x2 7) ∨ x3 < -1 ∨ 7 < x3) : (-1, pr, la, gm, gr, tc, ch, hf, hr, hc, ce) = sp_setGuest pr la gm gr tc ch hf hr hc ce x1 x2 x3 x4 := by
  unfold sp_setGuest
  rw [if_pos h]
theorem sp_setGuest_g (ha : a < 2) (hb : b < 8) (h1 : ¬ x3 < -1) (h2 : ¬ 7 < x3) : (0, pr, la, upd gm (8 * a + b) x3, upd gr (8 * a + b) (x4 &&& 7), upd tc (8 * a + b) 0, upd ch (8 * a + b) 0, hf, hr, hc, ce) = sp_setGuest pr la gm gr tc ch hf hr hc ce (nI a) (nI b) x3 x4 := by
  unfold sp_setGuest
  rw [if_neg, sp_ix_nI ha hb]
  rintro ((q | q) | q | q)
  · exact sp_ok1 ha q
  · exact sp_ok7 hb q
  · exact h1 q
  · exact h2 q
theorem sp_setHost_b (h : sp_bad x1 7 ∨ x2 < -1 ∨ 7 < x2) : (-1, pr, la, gm, gr, tc, ch, hf, hr, hc, ce) = sp_setHost pr la gm gr tc ch hf hr hc ce x1 x2 x3 := by
  unfold sp_setHost
  rw [if_pos h]
theorem sp_setHost_g (ha : a < 8) (h1 : ¬ x2 < -1) (h2 : ¬ 7 < x2) : (0, pr, la, gm, gr, tc, ch, upd hf a x2, upd hr a (x3 &&& 7), upd hc a 0, ce) = sp_setHost pr la gm gr tc ch hf hr hc ce (nI a) x2 x3 := by
  unfold sp_setHost
  rw [if_neg, nI_clamp (n := a) (by omega)]
  rintro (q | q | q)
  · exact sp_ok7 ha q
  · exact h1 q
  · exact h2 q
theorem sp_load_b (h : sp_bad x1 7 ∨ sp_bad x2 3) : (-1, pr, la, gm, gr, tc, ch, hf, hr, hc, ce) = sp_load pr la gm gr tc ch hf hr hc ce x1 x2 := by
  unfold sp_load
  rw [if_pos h]
theorem sp_store_b (h : sp_bad x1 7 ∨ sp_bad x2 3) : (-1, pr, la, gm, gr, tc, ch, hf, hr, hc, ce) = sp_store pr la gm gr tc ch hf hr hc ce x1 x2 x3 := by
  unfold sp_store
  rw [if_pos h]
theorem sp_fetch_b (h : sp_bad x1 7) : (-1, pr, la, gm, gr, tc, ch, hf, hr, hc, ce) = sp_fetch pr la gm gr tc ch hf hr hc ce x1 := by
  unfold sp_fetch
  rw [if_pos h]
theorem sp_ls {c k : Nat} (hc : c < 8) (hk : k < 4) : ¬ (sp_bad (nI c) 7 ∨ sp_bad (nI k) 3) := by
  rintro (q | q)
  · exact sp_ok7 hc q
  · exact sp_ok3 hk q
theorem sp_load_n {k : Nat} {f : Int32} {tc' ch' hc' : FN} (ha : a < 2) (hb : b < 8) (hk : k < 4) (h : (f, tc', ch', hc') = sp_mreach gm gr tc ch hf hr hc (8 * a + b) 1) (hf0 : f < 0) : (f, nI a, la, gm, gr, tc', ch', hf, hr, hc', ce) = sp_load (nI a) la gm gr tc ch hf hr hc ce (nI b) (nI k) := by
  unfold sp_load
  rw [if_neg (sp_ls hb hk), sp_ix_nI ha hb, ← h]
  unfold sp_load2
  rw [if_pos hf0]
theorem sp_load_g {k j : Nat} {tc' ch' hc' : FN} (ha : a < 2) (hb : b < 8) (hk : k < 4) (hj : j < 8) (h : (nI j, tc', ch', hc') = sp_mreach gm gr tc ch hf hr hc (8 * a + b) 1) : (0, nI a, ce (4 * j + k), gm, gr, tc', ch', hf, hr, hc', ce) = sp_load (nI a) la gm gr tc ch hf hr hc ce (nI b) (nI k) := by
  unfold sp_load
  rw [if_neg (sp_ls hb hk), sp_ix_nI ha hb, ← h]
  unfold sp_load2
  rw [if_neg (nI_pos (show j < 2 ^ 31 by omega)), sp_cx_nI hj hk]
theorem sp_store_n {k : Nat} {f : Int32} {tc' ch' hc' : FN} (ha : a < 2) (hb : b < 8) (hk : k < 4) (h : (f, tc', ch', hc') = sp_mreach gm gr tc ch hf hr hc (8 * a + b) 2) (hf0 : f < 0) : (f, nI a, la, gm, gr, tc', ch', hf, hr, hc', ce) = sp_store (nI a) la gm gr tc ch hf hr hc ce (nI b) (nI k) x3 := by
  unfold sp_store
  rw [if_neg (sp_ls hb hk), sp_ix_nI ha hb, ← h]
  unfold sp_store2
  rw [if_pos hf0]
theorem sp_store_g {k j : Nat} {tc' ch' hc' : FN} (ha : a < 2) (hb : b < 8) (hk : k < 4) (hj : j < 8) (h : (nI j, tc', ch', hc') = sp_mreach gm gr tc ch hf hr hc (8 * a + b) 2) : (0, nI a, la, gm, gr, tc', ch', hf, hr, hc', upd ce (4 * j + k) x3) = sp_store (nI a) la gm gr tc ch hf hr hc ce (nI b) (nI k) x3 := by
  unfold sp_store
  rw [if_neg (sp_ls hb hk), sp_ix_nI ha hb, ← h]
  unfold sp_store2
  rw [if_neg (nI_pos (show j < 2 ^ 31 by omega)), sp_cx_nI hj hk]
theorem sp_fetch_g {f : Int32} {tc' ch' hc' : FN} (ha : a < 2) (hb : b < 8) (h : (f, tc', ch', hc') = sp_mreach gm gr tc ch hf hr hc (8 * a + b) 4) : (f, nI a, la, gm, gr, tc', ch', hf, hr, hc', ce) = sp_fetch (nI a) la gm gr tc ch hf hr hc ce (nI b) := by
  unfold sp_fetch
  rw [if_neg (sp_ok7 hb), sp_ix_nI ha hb, ← h]
  rfl
theorem sp_marks_b (h : sp_bad x1 1 ∨ sp_bad x2 7) : -1 = sp_marks gm tc ch x1 x2 := by
  unfold sp_marks
  rw [if_pos h]
theorem sp_mk {a b : Nat} (ha : a < 2) (hb : b < 8) : ¬ (sp_bad (nI a) 1 ∨ sp_bad (nI b) 7) := by
  rintro (q | q)
  · exact sp_ok1 ha q
  · exact sp_ok7 hb q
theorem sp_marks_0 (ha : a < 2) (hb : b < 8) (h : gm (8 * a + b) < 0) : 0 = sp_marks gm tc ch (nI a) (nI b) := by
  unfold sp_marks
  rw [if_neg (sp_mk ha hb), sp_ix_nI ha hb, if_pos h]
theorem sp_marks_g {u v : Int32} (ha : a < 2) (hb : b < 8) (h : ¬ gm (8 * a + b) < 0) (hu : (tc (8 * a + b) = 0 ∧ u = 0) ∨ (¬ tc (8 * a + b) = 0 ∧ u = 1)) (hv : (ch (8 * a + b) = 0 ∧ v = 0) ∨ (¬ ch (8 * a + b) = 0 ∧ v = 2)) : u + v = sp_marks gm tc ch (nI a) (nI b) := by
  unfold sp_marks
  rw [if_neg (sp_mk ha hb), sp_ix_nI ha hb, if_neg h]
  rcases hu with ⟨h1, rfl⟩ | ⟨h1, rfl⟩ <;> rcases hv with ⟨h2, rfl⟩ | ⟨h2, rfl⟩ <;> simp [h1, h2]
theorem sp_hostMark_b (h : sp_bad x1 7) : -1 = sp_hostMark hf hc x1 := by
  unfold sp_hostMark
  rw [if_pos h]
theorem sp_hostMark_0 (ha : a < 8) (h : hf a < 0 ∨ hc a = 0) : 0 = sp_hostMark hf hc (nI a) := by
  unfold sp_hostMark
  rw [if_neg (sp_ok7 ha), nI_clamp (n := a) (by omega), if_pos h]
theorem sp_hostMark_1 (ha : a < 8) (h1 : ¬ hf a < 0) (h2 : ¬ hc a = 0) : 1 = sp_hostMark hf hc (nI a) := by
  unfold sp_hostMark
  rw [if_neg (sp_ok7 ha), nI_clamp (n := a) (by omega), if_neg]
  rintro (q | q)
  · exact h1 q
  · exact h2 q
theorem sp_frameCell_b (h : sp_bad x1 7 ∨ sp_bad x2 3) : 0 = sp_frameCell ce x1 x2 := by
  unfold sp_frameCell
  rw [if_pos h]
theorem sp_frameCell_g {k : Nat} (ha : a < 8) (hk : k < 4) : ce (4 * a + k) = sp_frameCell ce (nI a) (nI k) := by
  unfold sp_frameCell
  rw [if_neg (sp_ls ha hk), sp_cx_nI ha hk]
theorem sp_age_b (h : sp_bad x1 1) : (-1, pr, la, gm, gr, tc, ch, hf, hr, hc, ce) = sp_age pr la gm gr tc ch hf hr hc ce x1 := by
  unfold sp_age
  rw [if_pos h]
theorem sp_age_g (ha : a < 2) : (sp_agec tc (8 * a) 8, pr, la, gm, gr, sp_aget tc (8 * a) 8, ch, hf, hr, hc, ce) = sp_age pr la gm gr tc ch hf hr hc ce (nI a) := by
  unfold sp_age
  rw [if_neg (sp_ok1 ha), sp_ix8, nI_clamp (n := 8 * a) (by omega)]
end OPS
theorem sp_inc (n : Nat) : nI n + Int32.ofInt 1 = nI (n + 1) := nI_1 n
theorem sp_inc5 (n : Nat) : nI n + Int32.ofInt 5 = nI (n + 5) := nI_add n 5
theorem sp_ge {x : Int32} (h : ¬ 0 ≤ x) : x < 0 := Int32.not_le.mp h
theorem sp_nge {x : Int32} (h : 0 ≤ x) : ¬ x < 0 := Int32.not_lt.mpr h
theorem sp_gt {x y : Int32} (h : ¬ x ≤ y) : y < x := Int32.not_le.mp h
theorem sp_ngt {x y : Int32} (h : x ≤ y) : ¬ y < x := Int32.not_lt.mpr h
/-! the start -/
def sp_pre (n : Nat) : FN := fun j => if j < n then -1 else 0
def sp_z : FN := fun _ => 0
theorem sp_pre_0 : sp_pre 0 = fun _ => 0 := by
  funext j
  unfold sp_pre
  rw [if_neg (by omega)]
theorem sp_pre_s (n : Nat) : upd (sp_pre n) n (-1) = sp_pre (n + 1) := by
  funext j
  by_cases hj : j = n
  · subst hj
    rw [pk_us]
    unfold sp_pre
    rw [if_pos (by omega)]
  · rw [pk_un hj]
    unfold sp_pre
    by_cases h : j < n
    · rw [if_pos h, if_pos (by omega)]
    · rw [if_neg h, if_neg (by omega)]
theorem sp_pre_lt {n j : Nat} (h : j < n) : sp_pre n j = -1 := by
  unfold sp_pre
  rw [if_pos h]
theorem sp_init_inv : sp_INV 0 (sp_pre 16) sp_z sp_z sp_z (sp_pre 8) sp_z sp_z (sp_pre 16) sp_z sp_z (sp_pre 8) sp_z := by
  have h16 : ∀ e, e < 16 → sp_pre 16 e < 0 := fun e he => by rw [sp_pre_lt he]; exact sp_m1
  have h8 : ∀ e, e < 8 → sp_pre 8 e < 0 := fun e he => by rw [sp_pre_lt he]; exact sp_m1
  refine ⟨⟨⟨0, by omega, rfl⟩, fun e he hn => absurd (h16 e he) hn, fun e he hn => absurd (h8 e he) hn, fun _ => Or.inl rfl, fun _ => Or.inl rfl⟩, ⟨fun e he hn => absurd (h16 e he) hn, fun m hm => ⟨[], List.nodup_nil, h8 m hm, fun e => ⟨fun q => absurd q List.not_mem_nil, fun q => absurd (h16 e q.1) q.2.1⟩⟩⟩, fun e he hn => absurd (h16 e he) hn⟩
end
section
/-! the small checks -/
set_option maxHeartbeats 4000000 in
set_option maxRecDepth 100000 in
theorem mX_isSpace (l : Launch) (x : Int32) (sz : Nat) : Met l yX0_isSpace (ws_ yX0_isSpace cX0_isSpace 1 (some .boolean)) ({ frames := 0, cells := 0, slots := 0, locals := 0 }) (va_Pc [.int x] (fun U => U.heap.size = sz)) (va_Qi (fun (r : Int32) (u : Unit) => sp_psp r x) (fun u t => True) (va_A [] sz)) 0 0 (va_A [] sz) := by
  refine Met.ofW (cc := cX0_isSpace) (maxL := 1) (ret := (some .boolean)) (by decide) rfl ?_
  intro p ev s m args below meth c s₁ B hml hv
  obtain ⟨rfl, hsz⟩ := hv
  have hx := B.exec
  have hb := B.bytes
  have hret := B.returns
  have hlocks := B.notSynchronized
  subst hsz
  have hS : va_S (va_A [] s.heap.size) s.heap s.heap [] := va_S.rf
  have hl := lv_entry ([.int x]) (n := 1) (Nat.le_of_ble_eq_true rfl)
  rw [lg_entry_eq]
  generalize (lg_sl ([.int x]) ++ List.replicate (1 - (lg_sl ([.int x])).length) Slot.unset).toArray = ls at hl ⊢
  have hl : lv_has ls 1 [(0, .int x)] := hl
  refine lv_iload_n hx hb dX0_isSpace_0 rfl (lv_at hl 0 rfl) ?_
  refine lv_if_eq (tgt := 9) hx hb dX0_isSpace_1 (by decide) (fun c1 => ?_) (fun c1 => ?_)
  · refine lv_iconst (v := 1) hx hb dX0_isSpace_9 (by decide) ?_
    refine lv_goto (tgt := 14) hx hb dX0_isSpace_10 (by decide) ?_
    exact W.zret (v := 1) hx hb hret rfl (fun t ht hW => ⟨⟨1, (), rfl, Or.inl ⟨rfl, 0, by omega, c1⟩, trivial⟩, hS.F ht⟩) hS.2.2 dX0_isSpace_14
  · refine lv_iload_n hx hb dX0_isSpace_4 rfl (lv_at hl 0 rfl) ?_
    refine lv_iconst (v := 1) hx hb dX0_isSpace_5 (by decide) ?_
    refine lv_icmp_ne (tgt := 13) hx hb dX0_isSpace_6 (by decide) (fun c6 => ?_) (fun c6 => ?_)
    · refine lv_iconst (v := 0) hx hb dX0_isSpace_13 (by decide) ?_
      exact W.zret (v := 0) hx hb hret rfl (fun t ht hW => ⟨⟨0, (), rfl, Or.inr ⟨rfl, sp_sp0 c1 c6⟩, trivial⟩, hS.F ht⟩) hS.2.2 dX0_isSpace_14
    · refine lv_iconst (v := 1) hx hb dX0_isSpace_9 (by decide) ?_
      refine lv_goto (tgt := 14) hx hb dX0_isSpace_10 (by decide) ?_
      exact W.zret (v := 1) hx hb hret rfl (fun t ht hW => ⟨⟨1, (), rfl, Or.inl ⟨rfl, 1, by omega, c6⟩, trivial⟩, hS.F ht⟩) hS.2.2 dX0_isSpace_14
set_option maxHeartbeats 4000000 in
set_option maxRecDepth 100000 in
theorem mX_isNumber (l : Launch) (x : Int32) (sz : Nat) : Met l yX0_isNumber (ws_ yX0_isNumber cX0_isNumber 1 (some .boolean)) ({ frames := 0, cells := 0, slots := 0, locals := 0 }) (va_Pc [.int x] (fun U => U.heap.size = sz)) (va_Qi (fun (r : Int32) (u : Unit) => sp_pnm r x) (fun u t => True) (va_A [] sz)) 0 0 (va_A [] sz) := by
  refine Met.ofW (cc := cX0_isNumber) (maxL := 1) (ret := (some .boolean)) (by decide) rfl ?_
  intro p ev s m args below meth c s₁ B hml hv
  obtain ⟨rfl, hsz⟩ := hv
  have hx := B.exec
  have hb := B.bytes
  have hret := B.returns
  have hlocks := B.notSynchronized
  subst hsz
  have hS : va_S (va_A [] s.heap.size) s.heap s.heap [] := va_S.rf
  have hl := lv_entry ([.int x]) (n := 1) (Nat.le_of_ble_eq_true rfl)
  rw [lg_entry_eq]
  generalize (lg_sl ([.int x]) ++ List.replicate (1 - (lg_sl ([.int x])).length) Slot.unset).toArray = ls at hl ⊢
  have hl : lv_has ls 1 [(0, .int x)] := hl
  refine lv_iload_n hx hb dX0_isNumber_0 rfl (lv_at hl 0 rfl) ?_
  refine lv_if_lt (tgt := 14) hx hb dX0_isNumber_1 (by decide) (fun c1 => ?_) (fun c1 => ?_)
  · refine lv_iconst (v := 0) hx hb dX0_isNumber_14 (by decide) ?_
    exact W.zret (v := 0) hx hb hret rfl (fun t ht hW => ⟨⟨0, (), rfl, Or.inr ⟨rfl, Or.inl c1⟩, trivial⟩, hS.F ht⟩) hS.2.2 dX0_isNumber_15
  · refine lv_iload_n hx hb dX0_isNumber_4 rfl (lv_at hl 0 rfl) ?_
    refine lv_bipush (v := 7) hx hb dX0_isNumber_5 (by decide) ?_
    refine lv_icmp_gt (tgt := 14) hx hb dX0_isNumber_7 (by decide) (fun c7 => ?_) (fun c7 => ?_)
    · refine lv_iconst (v := 0) hx hb dX0_isNumber_14 (by decide) ?_
      exact W.zret (v := 0) hx hb hret rfl (fun t ht hW => ⟨⟨0, (), rfl, Or.inr ⟨rfl, Or.inr c7⟩, trivial⟩, hS.F ht⟩) hS.2.2 dX0_isNumber_15
    · refine lv_iconst (v := 1) hx hb dX0_isNumber_10 (by decide) ?_
      refine lv_goto (tgt := 15) hx hb dX0_isNumber_11 (by decide) ?_
      exact W.zret (v := 1) hx hb hret rfl (fun t ht hW => ⟨⟨1, (), rfl, Or.inl ⟨rfl, sp_nb7 (fun q => q.elim c1 c7)⟩, trivial⟩, hS.F ht⟩) hS.2.2 dX0_isNumber_15
set_option maxHeartbeats 4000000 in
set_option maxRecDepth 100000 in
theorem mM_outside (l : Launch) (x y : Int32) (sz : Nat) : Met l yX1_outside (ws_ yX1_outside cX1_outside 2 (some .boolean)) ({ frames := 0, cells := 0, slots := 0, locals := 0 }) (va_Pc [.int x, .int y] (fun U => U.heap.size = sz)) (va_Qi (fun (r : Int32) (u : Unit) => sp_pou r x y) (fun u t => True) (va_A [] sz)) 0 0 (va_A [] sz) := by
  refine Met.ofW (cc := cX1_outside) (maxL := 2) (ret := (some .boolean)) (by decide) rfl ?_
  intro p ev s m args below meth c s₁ B hml hv
  obtain ⟨rfl, hsz⟩ := hv
  have hx := B.exec
  have hb := B.bytes
  have hret := B.returns
  have hlocks := B.notSynchronized
  subst hsz
  have hS : va_S (va_A [] s.heap.size) s.heap s.heap [] := va_S.rf
  have hl := lv_entry ([.int x, .int y]) (n := 2) (Nat.le_of_ble_eq_true rfl)
  rw [lg_entry_eq]
  generalize (lg_sl ([.int x, .int y]) ++ List.replicate (2 - (lg_sl ([.int x, .int y])).length) Slot.unset).toArray = ls at hl ⊢
  have hl : lv_has ls 2 [(0, .int x), (1, .int y)] := hl
  refine lv_iload_n hx hb dX1_outside_0 rfl (lv_at hl 0 rfl) ?_
  refine lv_if_lt (tgt := 9) hx hb dX1_outside_1 (by decide) (fun c1 => ?_) (fun c1 => ?_)
  · refine lv_iconst (v := 1) hx hb dX1_outside_9 (by decide) ?_
    refine lv_goto (tgt := 14) hx hb dX1_outside_10 (by decide) ?_
    exact W.zret (v := 1) hx hb hret rfl (fun t ht hW => ⟨⟨1, (), rfl, Or.inl ⟨rfl, Or.inl c1⟩, trivial⟩, hS.F ht⟩) hS.2.2 dX1_outside_14
  · refine lv_iload_n hx hb dX1_outside_4 rfl (lv_at hl 0 rfl) ?_
    refine lv_iload_n hx hb dX1_outside_5 rfl (lv_at hl 1 rfl) ?_
    refine lv_icmp_le (tgt := 13) hx hb dX1_outside_6 (by decide) (fun c6 => ?_) (fun c6 => ?_)
    · refine lv_iconst (v := 0) hx hb dX1_outside_13 (by decide) ?_
      exact W.zret (v := 0) hx hb hret rfl (fun t ht hW => ⟨⟨0, (), rfl, Or.inr ⟨rfl, fun q => q.elim c1 (sp_ngt c6)⟩, trivial⟩, hS.F ht⟩) hS.2.2 dX1_outside_14
    · refine lv_iconst (v := 1) hx hb dX1_outside_9 (by decide) ?_
      refine lv_goto (tgt := 14) hx hb dX1_outside_10 (by decide) ?_
      exact W.zret (v := 1) hx hb hret rfl (fun t ht hW => ⟨⟨1, (), rfl, Or.inl ⟨rfl, Or.inr (sp_gt c6)⟩, trivial⟩, hS.F ht⟩) hS.2.2 dX1_outside_14
theorem sp_us0 {f : FN} {e : Nat} : upd f e (-1) e < 0 := by
  rw [pk_us]
  exact sp_m1
set_option maxHeartbeats 4000000 in
set_option maxRecDepth 100000 in
theorem lpX_takeBack {p : Program} {l : Launch} {ev : Env} {R : Room} {s : State} {m : MethodId} {args : Array Value} {below : List Frame} {meth : Method} {c : Code} {cells slots : Nat} {Q : State → Prop} {dC : Nat → ClassId} {dI : Nat → Nat → Nat} {h0 : Nat} {q : Nat → Nat} {d : Nat → ClassId} {H : Heap} {locs : List Loc} {pr la : Int32} {gm gr tc ch hf hr hc ce sf sr sm hd nx : FN} {e k : Nat} {L : List Nat} {v0 : Int32} (hx : p.tables.exec = Jvm.exec) (hb : c.code = cX0_takeBack) (hts : ∀ w ∈ lw_all, w.before args s = true) (hown : s.vm.findClass RX0 = some m.cls) (hK : va_K (dC, dI) spCl (tyX d) s) (hP : va_P (dC, dI) spCl (wX h0 q d pr la gm gr tc ch hf hr hc ce sf sr sm hd nx) H) (he : e < 16) (hL : ∀ x ∈ L, x < 16) (hlen : L.length ≤ 16) (hcn : sp_chn nx v0 L)
    (kk : ∀ (i b : Nat) (pre suf : List Nat) (ls : Array Slot), L = pre ++ b :: e :: suf → lv_has ls 5 [(4, .int (nI i)), (3, .int (nI b)), (2, .int (nI k)), (1, .int (nI e)), (0, .ref h0)] → W p l ev R s m args below meth c H locs cells slots Q (F0 m 87 ls [])) :
    ∀ (n i b : Nat) (pre suf : List Nat) (ls : Array Slot), suf.length < n → i = pre.length → L = pre ++ b :: suf → e ∈ suf → lv_has ls 5 [(4, .int (nI i)), (3, .int (nI b)), (2, .int (nI k)), (1, .int (nI e)), (0, .ref h0)] → W p l ev R s m args below meth c H locs cells slots Q (F0 m 57 ls []) := by
  intro n
  induction n with
  | zero =>
    intro i b pre suf ls h
    exact absurd h (by omega)
  | succ n ih =>
    intro i b pre suf ls hn hi hLe hes hl
    have hlen2 : L.length = pre.length + (suf.length + 1) := by rw [hLe]; simp
    have hb16 : b < 16 := hL b (by rw [hLe]; simp)
    obtain ⟨c2, suf2, rfl, hcv⟩ := sp_step (sp_suf (v := v0) pre v0 (by rw [← hLe]; exact hcn)) hes
    have hc16 : c2 < 16 := hL c2 (by rw [hLe]; simp)
    simp only [List.length_cons] at hlen2 hn
    refine lv_iload hx hb dX0_takeBack_57 (lv_at hl 0 rfl) ?_
    refine lv_bipush (v := 16) hx hb dX0_takeBack_59 (by decide) ?_
    refine lv_icmp_ge (tgt := 87) hx hb dX0_takeBack_61 (by decide) (fun c61 => ?_) (fun c61 => ?_)
    · exact absurd c61 (nI_ge (a := i) (b := 16) (by omega) (by decide))
    · refine lv_aload_n hx hb dX0_takeBack_64 rfl (lv_at hl 4 rfl) ?_
      refine va_get (D := (dC, dI)) (ci := 0) (v := .ref (q 13)) (C := RX0) (T := TX0) (N := 15) hx hb hts in_X0 hown hK hP 0 rfl rfl 14 (by decide) (hts _ q29) (fun _ h9 => h9) rfl dX0_takeBack_65 ?_
      refine lv_iload_n hx hb dX0_takeBack_68 rfl (lv_at hl 1 rfl) ?_
      refine sp_ild hx hb hK hP 13 12 rfl rfl b rfl (by omega) (by decide) dX0_takeBack_69 ?_
      refine lv_topi (fun v_1 ev_1 => ?_)
      obtain rfl : v_1 = nI c2 := ev_1.trans (hcv)
      refine lv_iload_n hx hb dX0_takeBack_70 rfl (lv_at hl 3 rfl) ?_
      refine lv_icmp_eq (tgt := 87) hx hb dX0_takeBack_71 (by decide) (fun c71 => ?_) (fun c71 => ?_)
      · have hce : c2 = e := sp_nIinj (by omega) (by omega) c71
        subst hce
        exact kk i b pre suf2 ls hLe (lv_sub hl [0, 1, 2, 3, 4] rfl)
      · refine lv_aload_n hx hb dX0_takeBack_74 rfl (lv_at hl 4 rfl) ?_
        refine va_get (D := (dC, dI)) (ci := 0) (v := .ref (q 13)) (C := RX0) (T := TX0) (N := 15) hx hb hts in_X0 hown hK hP 0 rfl rfl 14 (by decide) (hts _ q29) (fun _ h9 => h9) rfl dX0_takeBack_75 ?_
        refine lv_iload_n hx hb dX0_takeBack_78 rfl (lv_at hl 1 rfl) ?_
        refine sp_ild hx hb hK hP 13 12 rfl rfl b rfl (by omega) (by decide) dX0_takeBack_79 ?_
        refine lv_topi (fun v_2 ev_2 => ?_)
        obtain rfl : v_2 = nI c2 := ev_2.trans (hcv)
        refine lv_istore_n (lv' := [(3, .int (nI c2)), (4, .int (nI i)), (2, .int (nI k)), (1, .int (nI e)), (0, .ref h0)]) hx hb dX0_takeBack_80 rfl hl (by decide) rfl (fun ls hl => ?_)
        refine lv_iinc (v := (nI (i + 1))) (lv' := [(4, .int (nI (i + 1))), (3, .int (nI c2)), (2, .int (nI k)), (1, .int (nI e)), (0, .ref h0)]) hx hb dX0_takeBack_81 hl (k := 1) rfl (sp_inc i) (by decide) rfl (fun ls hl => ?_)
        refine lv_goto (tgt := 57) hx hb dX0_takeBack_84 (by decide) ?_
        refine ih (i + 1) c2 (pre ++ [b]) suf2 ls (by omega) (by rw [List.length_append, hi]; rfl) (by rw [hLe, List.append_assoc]; rfl) ?_ (lv_sub hl [0, 1, 2, 3, 4] rfl)
        rcases List.mem_cons.mp hes with z | z
        · exact absurd (by rw [z]) c71
        · exact z
set_option maxHeartbeats 4000000 in
set_option maxRecDepth 100000 in
theorem mX_takeBack (l : Launch) (dC : Nat → ClassId) (dI : Nat → Nat → Nat) (h0 : Nat) (q : Nat → Nat) (d : Nat → ClassId) (sz : Nat) (pr la : Int32) (gm gr tc ch hf hr hc ce sf sr sm hd nx : FN) (e : Nat) (he : e < 16) (hI : sp_LI sf sm hd nx) : Met l yX0_takeBack (ws_ yX0_takeBack cX0_takeBack 5 none) ({ frames := 0, cells := 0, slots := 0, locals := 0 }) (va_Pc [.ref h0, .int (nI e)] (fun U => U.heap.size = sz ∧ va_P (dC, dI) spCl (wX h0 q d pr la gm gr tc ch hf hr hc ce sf sr sm hd nx) U.heap ∧ va_K (dC, dI) spCl (tyX d) U ∧ va_D (fun _ => True) (wX h0 q d pr la gm gr tc ch hf hr hc ce sf sr sm hd nx))) (va_Qv (fun (u : FN × FN × FN) => sp_LI u.1 sm u.2.1 u.2.2 ∧ (∀ j, j ≠ e → u.1 j = sf j) ∧ u.1 e < 0) (fun u t => BX dC dI (va_A (wX h0 q d pr la gm gr tc ch hf hr hc ce sf sr sm hd nx) sz) h0 q d pr la gm gr tc ch hf hr hc ce u.1 sr sm u.2.1 u.2.2 t) (va_A (wX h0 q d pr la gm gr tc ch hf hr hc ce sf sr sm hd nx) sz)) 0 0 (va_A (wX h0 q d pr la gm gr tc ch hf hr hc ce sf sr sm hd nx) sz) := by
  refine Met.ofW (cc := cX0_takeBack) (maxL := 5) (ret := none) (by decide) rfl ?_
  intro p ev s m args below meth c s₁ B hml hv
  obtain ⟨rfl, hsz, hP, hK, hD0⟩ := hv
  have hx := B.exec
  have hb := B.bytes
  have hret := B.returns
  have hts := atoms_spec (ws := (ws_ yX0_takeBack cX0_takeBack 5 none)) B.pre
  have hts : ∀ w ∈ lw_all, w.before _ s = true := fun w h => hts w (List.mem_cons_of_mem _ h)
  have hown : s.vm.findClass RX0 = some m.cls := findClass_of_methodNamed B.named
  have hlocks := B.notSynchronized
  subst hsz
  have hD := hD0.self (sz := s.heap.size)
  generalize hAe : va_A (wX h0 q d pr la gm gr tc ch hf hr hc ce sf sr sm hd nx) s.heap.size = A at hD ⊢
  have hA : ∀ q : Nat, s.heap.size ≤ q → A q := fun q h => by rw [← hAe]; exact Or.inr h
  have hS : va_S A s.heap s.heap [] := va_S.rf
  have hl := lv_entry ([.ref h0, .int (nI e)]) (n := 5) (Nat.le_of_ble_eq_true rfl)
  rw [lg_entry_eq]
  generalize (lg_sl ([.ref h0, .int (nI e)]) ++ List.replicate (5 - (lg_sl ([.ref h0, .int (nI e)])).length) Slot.unset).toArray = ls at hl ⊢
  have hl : lv_has ls 5 [(0, .ref h0), (1, .int (nI e))] := hl
  refine lv_aload_n hx hb dX0_takeBack_0 rfl (lv_at hl 0 rfl) ?_
  refine va_get (D := (dC, dI)) (ci := 0) (v := .ref (q 9)) (C := RX0) (T := TX0) (N := 15) hx hb hts in_X0 hown hK hP 0 rfl rfl 10 (by decide) (hts _ q25) (fun _ h9 => h9) rfl dX0_takeBack_1 ?_
  refine lv_iload_n hx hb dX0_takeBack_4 rfl (lv_at hl 1 rfl) ?_
  refine sp_ild hx hb hK hP 9 8 rfl rfl e rfl (by omega) (by decide) dX0_takeBack_5 ?_
  refine lv_if_ge (tgt := 10) hx hb dX0_takeBack_6 (by decide) (fun c6 => ?_) (fun c6 => ?_)
  · have hsf := sp_nge c6
    obtain ⟨k, hk, hsm⟩ := hI.1 e he hsf
    refine lv_aload_n hx hb dX0_takeBack_10 rfl (lv_at hl 0 rfl) ?_
    refine va_get (D := (dC, dI)) (ci := 0) (v := .ref (q 9)) (C := RX0) (T := TX0) (N := 15) hx hb hts in_X0 hown hK hP 0 rfl rfl 10 (by decide) (hts _ q25) (fun _ h9 => h9) rfl dX0_takeBack_11 ?_
    refine lv_iload_n hx hb dX0_takeBack_14 rfl (lv_at hl 1 rfl) ?_
    refine lv_iconst (v := -1) hx hb dX0_takeBack_15 (by decide) ?_
    refine sp_ist hx hb hK hP hD hS 9 8 rfl rfl e rfl (by omega) (by decide) dX0_takeBack_16 (fun H_1 locs hP hD hS => ?_)
    have hP : va_P (dC, dI) spCl (wX h0 q d pr la gm gr tc ch hf hr hc ce (upd sf e (-1)) sr sm hd nx) H_1 := hP
    have hD : va_D A (wX h0 q d pr la gm gr tc ch hf hr hc ce (upd sf e (-1)) sr sm hd nx) := hD
    refine lv_aload_n hx hb dX0_takeBack_17 rfl (lv_at hl 0 rfl) ?_
    refine va_get (D := (dC, dI)) (ci := 0) (v := .ref (q 11)) (C := RX0) (T := TX0) (N := 15) hx hb hts in_X0 hown hK hP 0 rfl rfl 12 (by decide) (hts _ q27) (fun _ h9 => h9) rfl dX0_takeBack_18 ?_
    refine lv_iload_n hx hb dX0_takeBack_21 rfl (lv_at hl 1 rfl) ?_
    refine sp_ild hx hb hK hP 11 10 rfl rfl e rfl (by omega) (by decide) dX0_takeBack_22 ?_
    refine lv_topi (fun v_2 ev_2 => ?_)
    obtain rfl : v_2 = nI k := ev_2.trans (hsm)
    refine lv_istore_n (lv' := [(2, .int (nI k)), (0, .ref h0), (1, .int (nI e))]) hx hb dX0_takeBack_23 rfl hl (by decide) rfl (fun ls hl => ?_)
    refine lv_aload_n hx hb dX0_takeBack_24 rfl (lv_at hl 1 rfl) ?_
    refine va_get (D := (dC, dI)) (ci := 0) (v := .ref (q 12)) (C := RX0) (T := TX0) (N := 15) hx hb hts in_X0 hown hK hP 0 rfl rfl 13 (by decide) (hts _ q28) (fun _ h9 => h9) rfl dX0_takeBack_25 ?_
    refine lv_iload_n hx hb dX0_takeBack_28 rfl (lv_at hl 0 rfl) ?_
    refine sp_ild hx hb hK hP 12 11 rfl rfl k rfl (by omega) (by decide) dX0_takeBack_29 ?_
    refine lv_iload_n hx hb dX0_takeBack_30 rfl (lv_at hl 2 rfl) ?_
    refine lv_icmp_ne (tgt := 47) hx hb dX0_takeBack_31 (by decide) (fun c31 => ?_) (fun c31 => ?_)
    · obtain ⟨L, hnd, hcn, hmem⟩ := hI.2 k hk
      have heL : e ∈ L := (hmem e).mpr ⟨he, hsf, hsm⟩
      have hL16 : ∀ x ∈ L, x < 16 := fun x hx => ((hmem x).mp hx).1
      obtain ⟨b, suf, rfl, hbv⟩ := sp_step hcn heL
      have hes : e ∈ suf := by
        rcases List.mem_cons.mp heL with z | z
        · exact absurd (by rw [hbv, z]) c31
        · exact z
      refine lv_aload_n hx hb dX0_takeBack_47 rfl (lv_at hl 1 rfl) ?_
      refine va_get (D := (dC, dI)) (ci := 0) (v := .ref (q 12)) (C := RX0) (T := TX0) (N := 15) hx hb hts in_X0 hown hK hP 0 rfl rfl 13 (by decide) (hts _ q28) (fun _ h9 => h9) rfl dX0_takeBack_48 ?_
      refine lv_iload_n hx hb dX0_takeBack_51 rfl (lv_at hl 0 rfl) ?_
      refine sp_ild hx hb hK hP 12 11 rfl rfl k rfl (by omega) (by decide) dX0_takeBack_52 ?_
      refine lv_topi (fun v_3 ev_3 => ?_)
      obtain rfl : v_3 = nI b := ev_3.trans (hbv)
      refine lv_istore_n (lv' := [(3, .int (nI b)), (2, .int (nI k)), (0, .ref h0), (1, .int (nI e))]) hx hb dX0_takeBack_53 rfl hl (by decide) rfl (fun ls hl => ?_)
      refine lv_iconst (v := 0) hx hb dX0_takeBack_54 (by decide) ?_
      refine lv_istore (lv' := [(4, .int 0), (3, .int (nI b)), (2, .int (nI k)), (0, .ref h0), (1, .int (nI e))]) hx hb dX0_takeBack_55 hl (by decide) rfl (fun ls hl => ?_)
      refine lpX_takeBack hx hb hts hown hK hP he hL16 (sp_len hnd hL16) hcn (fun i b2 pre suf2 ls hLe hl => ?_) (suf.length + 1) 0 b [] suf ls (by omega) rfl rfl hes (lv_sub hl [0, 1, 2, 4, 3] rfl)
      have hb16 : b2 < 16 := hL16 b2 (by rw [hLe]; simp)
      refine lv_aload_n hx hb dX0_takeBack_87 rfl (lv_at hl 4 rfl) ?_
      refine va_get (D := (dC, dI)) (ci := 0) (v := .ref (q 13)) (C := RX0) (T := TX0) (N := 15) hx hb hts in_X0 hown hK hP 0 rfl rfl 14 (by decide) (hts _ q29) (fun _ h9 => h9) rfl dX0_takeBack_88 ?_
      refine lv_iload_n hx hb dX0_takeBack_91 rfl (lv_at hl 1 rfl) ?_
      refine lv_aload_n hx hb dX0_takeBack_92 rfl (lv_at hl 4 rfl) ?_
      refine va_get (D := (dC, dI)) (ci := 0) (v := .ref (q 13)) (C := RX0) (T := TX0) (N := 15) hx hb hts in_X0 hown hK hP 0 rfl rfl 14 (by decide) (hts _ q29) (fun _ h9 => h9) rfl dX0_takeBack_93 ?_
      refine lv_iload_n hx hb dX0_takeBack_96 rfl (lv_at hl 3 rfl) ?_
      refine sp_ild hx hb hK hP 13 12 rfl rfl e rfl (by omega) (by decide) dX0_takeBack_97 ?_
      refine sp_ist hx hb hK hP hD hS 13 12 rfl rfl b2 rfl (by omega) (by decide) dX0_takeBack_98 (fun H_4 locs hP hD hS => ?_)
      have hP : va_P (dC, dI) spCl (wX h0 q d pr la gm gr tc ch hf hr hc ce (upd sf e (-1)) sr sm hd (upd nx b2 (nx e))) H_4 := hP
      have hD : va_D A (wX h0 q d pr la gm gr tc ch hf hr hc ce (upd sf e (-1)) sr sm hd (upd nx b2 (nx e))) := hD
      exact W.vret hx hb hret (fun t ht hW => ⟨⟨(upd sf e (-1), hd, upd nx b2 (nx e)), rfl, ⟨sp_tb_mid hk hsm hI (by rw [← hLe]; exact hnd) (by rw [← hLe]; exact hcn) (by rw [← hLe]; exact hmem), fun j hj => pk_un hj, sp_us0⟩, by rw [ht]; exact hP, va_K.moved hW.alike hK, hD⟩, hS.F ht⟩) hS.2.2 dX0_takeBack_99
    · refine lv_aload_n hx hb dX0_takeBack_34 rfl (lv_at hl 1 rfl) ?_
      refine va_get (D := (dC, dI)) (ci := 0) (v := .ref (q 12)) (C := RX0) (T := TX0) (N := 15) hx hb hts in_X0 hown hK hP 0 rfl rfl 13 (by decide) (hts _ q28) (fun _ h9 => h9) rfl dX0_takeBack_35 ?_
      refine lv_iload_n hx hb dX0_takeBack_38 rfl (lv_at hl 0 rfl) ?_
      refine lv_aload_n hx hb dX0_takeBack_39 rfl (lv_at hl 1 rfl) ?_
      refine va_get (D := (dC, dI)) (ci := 0) (v := .ref (q 13)) (C := RX0) (T := TX0) (N := 15) hx hb hts in_X0 hown hK hP 0 rfl rfl 14 (by decide) (hts _ q29) (fun _ h9 => h9) rfl dX0_takeBack_40 ?_
      refine lv_iload_n hx hb dX0_takeBack_43 rfl (lv_at hl 2 rfl) ?_
      refine sp_ild hx hb hK hP 13 12 rfl rfl e rfl (by omega) (by decide) dX0_takeBack_44 ?_
      refine sp_ist hx hb hK hP hD hS 12 11 rfl rfl k rfl (by omega) (by decide) dX0_takeBack_45 (fun H_5 locs hP hD hS => ?_)
      have hP : va_P (dC, dI) spCl (wX h0 q d pr la gm gr tc ch hf hr hc ce (upd sf e (-1)) sr sm (upd hd k (nx e)) nx) H_5 := hP
      have hD : va_D A (wX h0 q d pr la gm gr tc ch hf hr hc ce (upd sf e (-1)) sr sm (upd hd k (nx e)) nx) := hD
      exact W.vret hx hb hret (fun t ht hW => ⟨⟨(upd sf e (-1), upd hd k (nx e), nx), rfl, ⟨sp_tb_head he hk hsm c31 hI, fun j hj => pk_un hj, sp_us0⟩, by rw [ht]; exact hP, va_K.moved hW.alike hK, hD⟩, hS.F ht⟩) hS.2.2 dX0_takeBack_46
  · exact W.vret hx hb hret (fun t ht hW => ⟨⟨(sf, hd, nx), rfl, ⟨hI, fun _ _ => rfl, sp_ge c6⟩, by rw [ht]; exact hP, va_K.moved hW.alike hK, hD⟩, hS.F ht⟩) hS.2.2 dX0_takeBack_9
end
section
/-! fillIn and reach -/
theorem sp_fd_w {gr ch hf hr hc sf sr sm sf1 : FN} {e k : Nat} (h1 : ¬ ch e = 0) (h2 : ¬ hc k = 0) (hs : ∀ j, j ≠ e → sf1 j = sf j) : sp_Fd gr ch hf hr hc sf sr sm e k (upd sf1 e (hf k)) (upd sr e (gr e &&& hr k)) (upd sm e (nI k)) := by
  refine ⟨fun j hj => ⟨(pk_un hj).trans (hs j hj), pk_un hj, pk_un hj⟩, pk_us, pk_us, fun r h => ?_⟩
  rw [pk_us] at h
  exact ⟨h, fun _ => ⟨h1, h2⟩⟩
theorem sp_fd_n {gr ch hf hr hc sf sr sm sf1 : FN} {e k : Nat} (hs : ∀ j, j ≠ e → sf1 j = sf j) : sp_Fd gr ch hf hr hc sf sr sm e k (upd sf1 e (hf k)) (upd sr e ((gr e &&& hr k) &&& (-3))) (upd sm e (nI k)) := by
  refine ⟨fun j hj => ⟨(pk_un hj).trans (hs j hj), pk_un hj, pk_un hj⟩, pk_us, pk_us, fun r h => ?_⟩
  rw [pk_us] at h
  exact ⟨sp_and3r h, fun q => absurd (by rw [q]; exact sp_and3 _) h⟩
theorem sp_mr_2 {gm gr tc ch hf hr hc : FN} {e m : Nat} {r : Int32} (hm : m < 8) (hg : gm e = nI m) (h1 : ¬ gr e &&& r = 0) (h2 : ¬ hf m < 0) (h3 : ¬ hr m &&& r = 0) (h : r = 2) : (hf m, upd tc e 1, upd ch e 1, upd hc m 1) = sp_mreach gm gr tc ch hf hr hc e r := by
  rw [sp_mr_ok hm hg h1 h2 h3, if_pos h, if_pos h]
theorem sp_mr_1 {gm gr tc ch hf hr hc : FN} {e m : Nat} {r : Int32} (hm : m < 8) (hg : gm e = nI m) (h1 : ¬ gr e &&& r = 0) (h2 : ¬ hf m < 0) (h3 : ¬ hr m &&& r = 0) (h : ¬ r = 2) : (hf m, upd tc e 1, ch, hc) = sp_mreach gm gr tc ch hf hr hc e r := by
  rw [sp_mr_ok hm hg h1 h2 h3, if_neg h, if_neg h]
theorem sp_u1 {f : FN} {k : Nat} : ∀ j, upd f k 1 j = f j ∨ upd f k 1 j = 1 := by
  intro j
  by_cases hj : j = k
  · subst hj
    exact Or.inr pk_us
  · exact Or.inl (pk_un hj)
set_option maxHeartbeats 4000000 in
set_option maxRecDepth 100000 in
theorem mX_fillIn (l : Launch) (dC : Nat → ClassId) (dI : Nat → Nat → Nat) (h0 : Nat) (q : Nat → Nat) (d : Nat → ClassId) (sz : Nat) (pr la : Int32) (gm gr tc ch hf hr hc ce sf sr sm hd nx : FN) (e k : Nat) (he : e < 16) (hk : k < 8) (hI : sp_LI sf sm hd nx) (hf0 : ¬ hf k < 0) : Met l yX0_fillIn (ws_ yX0_fillIn cX0_fillIn 5 none) ({ frames := 1, cells := 0, slots := 0, locals := 24 }) (va_Pc [.ref h0, .int (nI e), .int (nI k)] (fun U => U.heap.size = sz ∧ va_P (dC, dI) spCl (wX h0 q d pr la gm gr tc ch hf hr hc ce sf sr sm hd nx) U.heap ∧ va_K (dC, dI) spCl (tyX d) U ∧ va_D (fun _ => True) (wX h0 q d pr la gm gr tc ch hf hr hc ce sf sr sm hd nx))) (va_Qv (fun (u : PS) => sp_LI u.1 u.2.2.1 u.2.2.2.1 u.2.2.2.2 ∧ sp_Fd gr ch hf hr hc sf sr sm e k u.1 u.2.1 u.2.2.1) (fun u t => BX dC dI (va_A (wX h0 q d pr la gm gr tc ch hf hr hc ce sf sr sm hd nx) sz) h0 q d pr la gm gr tc ch hf hr hc ce u.1 u.2.1 u.2.2.1 u.2.2.2.1 u.2.2.2.2 t) (va_A (wX h0 q d pr la gm gr tc ch hf hr hc ce sf sr sm hd nx) sz)) 0 0 (va_A (wX h0 q d pr la gm gr tc ch hf hr hc ce sf sr sm hd nx) sz) := by
  refine Met.ofW (cc := cX0_fillIn) (maxL := 5) (ret := none) (by decide) rfl ?_
  intro p ev s m args below meth c s₁ B hml hv
  obtain ⟨rfl, hsz, hP, hK, hD0⟩ := hv
  have hx := B.exec
  have hb := B.bytes
  have hret := B.returns
  have hts := atoms_spec (ws := (ws_ yX0_fillIn cX0_fillIn 5 none)) B.pre
  have hts : ∀ w ∈ lw_all, w.before _ s = true := fun w h => hts w (List.mem_cons_of_mem _ h)
  have hown : s.vm.findClass RX0 = some m.cls := findClass_of_methodNamed B.named
  have hlocks := B.notSynchronized
  subst hsz
  have hD := hD0.self (sz := s.heap.size)
  generalize hAe : va_A (wX h0 q d pr la gm gr tc ch hf hr hc ce sf sr sm hd nx) s.heap.size = A at hD ⊢
  have hA : ∀ q : Nat, s.heap.size ≤ q → A q := fun q h => by rw [← hAe]; exact Or.inr h
  have hS : va_S A s.heap s.heap [] := va_S.rf
  have hl := lv_entry ([.ref h0, .int (nI e), .int (nI k)]) (n := 5) (Nat.le_of_ble_eq_true rfl)
  rw [lg_entry_eq]
  generalize (lg_sl ([.ref h0, .int (nI e), .int (nI k)]) ++ List.replicate (5 - (lg_sl ([.ref h0, .int (nI e), .int (nI k)])).length) Slot.unset).toArray = ls at hl ⊢
  have hl : lv_has ls 5 [(0, .ref h0), (1, .int (nI e)), (2, .int (nI k))] := hl
  refine lv_aload_n hx hb dX0_fillIn_0 rfl (lv_at hl 0 rfl) ?_
  refine lv_iload_n hx hb dX0_fillIn_1 rfl (lv_at hl 1 rfl) ?_
  have hFc := va_free (wc := wX h0 q d pr la gm gr tc ch hf hr hc ce sf sr sm hd nx) hD hS hA [0, 1, 2, 3, 4, 5, 6, 7, 8, 9, 10, 11, 12, 13] rfl
  refine va_callv (va_runV (As := [.int (nI e)]) (rest := []) ⟨hx, hb, hml, hown, hts⟩ (mX_takeBack l dC dI h0 q d s.heap.size pr la gm gr tc ch hf hr hc ce sf sr sm hd nx e he hI) (cwV 1 hts (lw_V q73 q75 qs0 q5 q76) rfl rfl rfl (by decide +kernel) ⟨Nat.le_of_ble_eq_true rfl, Nat.le_of_ble_eq_true rfl⟩) ⟨fun a U g mk q => by obtain ⟨q0, q1, qP, qK, qD⟩ := q; exact ⟨q0, q1, qP, va_K.moved (u := U) (U := U.calling g mk a) (Vm.Alike.refl U.vm) qK, qD⟩, va_recv hK hP (ci := 0) (q0 := 0) rfl rfl, fun U hU hW => ⟨rfl, by rw [hU], by rw [hU]; exact hP, va_K.moved hW.alike hK, hD.weaken (fun _ _ _ _ => trivial)⟩⟩ rfl rfl hl.1 rfl (lv_room (Nat.le_of_ble_eq_true rfl)) dX0_fillIn_2 ⟨Nat.le_of_ble_eq_true rfl, Nat.le_of_ble_eq_true rfl⟩) hS (fun q _ h => hFc q h) hFc (fun u t H_1 locs ht hvm hw hB hz1 hk1 hS => ?_)
  obtain ⟨sf1, hd1, nx1⟩ := u
  obtain ⟨hP1, hK1, hD1⟩ := hB
  rw [ht] at hP1
  have hP := hP1
  have hD := hD1.weaken (fun _ _ _ h => hFc _ h)
  have hP : va_P (dC, dI) spCl (wX h0 q d pr la gm gr tc ch hf hr hc ce sf1 sr sm hd1 nx1) H_1 := hP
  have hD : va_D A (wX h0 q d pr la gm gr tc ch hf hr hc ce sf1 sr sm hd1 nx1) := hD
  have hL1 : sp_LI sf1 sm hd1 nx1 := hw.1
  have hs1 : ∀ j, j ≠ e → sf1 j = sf j := hw.2.1
  have hs2 : sf1 e < 0 := hw.2.2
  refine lv_aload_n hx hb dX0_fillIn_5 rfl (lv_at hl 0 rfl) ?_
  refine va_get (D := (dC, dI)) (ci := 0) (v := .ref (q 2)) (C := RX0) (T := TX0) (N := 15) hx hb hts in_X0 hown hK hP 0 rfl rfl 2 (by decide) (hts _ q17) (fun _ h9 => h9) rfl dX0_fillIn_6 ?_
  refine lv_iload_n hx hb dX0_fillIn_9 rfl (lv_at hl 1 rfl) ?_
  refine sp_ild hx hb hK hP 2 1 rfl rfl e rfl (by omega) (by decide) dX0_fillIn_10 ?_
  refine lv_aload_n hx hb dX0_fillIn_11 rfl (lv_at hl 0 rfl) ?_
  refine va_get (D := (dC, dI)) (ci := 0) (v := .ref (q 6)) (C := RX0) (T := TX0) (N := 15) hx hb hts in_X0 hown hK hP 0 rfl rfl 6 (by decide) (hts _ q21) (fun _ h9 => h9) rfl dX0_fillIn_12 ?_
  refine lv_iload_n hx hb dX0_fillIn_15 rfl (lv_at hl 2 rfl) ?_
  refine sp_ild hx hb hK hP 6 5 rfl rfl k rfl (by omega) (by decide) dX0_fillIn_16 ?_
  refine lv_iand hx hb dX0_fillIn_17 ?_
  refine lv_istore_n (lv' := [(3, .int ((gr e) &&& (hr k))), (0, .ref h0), (1, .int (nI e)), (2, .int (nI k))]) hx hb dX0_fillIn_18 rfl hl (by decide) rfl (fun ls hl => ?_)
  refine lv_aload_n hx hb dX0_fillIn_19 rfl (lv_at hl 1 rfl) ?_
  refine va_get (D := (dC, dI)) (ci := 0) (v := .ref (q 4)) (C := RX0) (T := TX0) (N := 15) hx hb hts in_X0 hown hK hP 0 rfl rfl 4 (by decide) (hts _ q19) (fun _ h9 => h9) rfl dX0_fillIn_20 ?_
  refine lv_iload_n hx hb dX0_fillIn_23 rfl (lv_at hl 2 rfl) ?_
  refine sp_zld hx hb hK hP 4 3 rfl rfl e rfl (by omega) (by decide) dX0_fillIn_24 ?_
  refine lv_if_eq (tgt := 41) hx hb dX0_fillIn_25 (by decide) (fun c25 => ?_) (fun c25 => ?_)
  · refine lv_iconst (v := 0) hx hb dX0_fillIn_41 (by decide) ?_
    refine lv_istore (lv' := [(4, .int 0), (3, .int ((gr e) &&& (hr k))), (0, .ref h0), (1, .int (nI e)), (2, .int (nI k))]) hx hb dX0_fillIn_42 hl (by decide) rfl (fun ls hl => ?_)
    refine lv_aload_n hx hb dX0_fillIn_44 rfl (lv_at hl 2 rfl) ?_
    refine va_get (D := (dC, dI)) (ci := 0) (v := .ref (q 9)) (C := RX0) (T := TX0) (N := 15) hx hb hts in_X0 hown hK hP 0 rfl rfl 10 (by decide) (hts _ q25) (fun _ h9 => h9) rfl dX0_fillIn_45 ?_
    refine lv_iload_n hx hb dX0_fillIn_48 rfl (lv_at hl 3 rfl) ?_
    refine lv_aload_n hx hb dX0_fillIn_49 rfl (lv_at hl 2 rfl) ?_
    refine va_get (D := (dC, dI)) (ci := 0) (v := .ref (q 5)) (C := RX0) (T := TX0) (N := 15) hx hb hts in_X0 hown hK hP 0 rfl rfl 5 (by decide) (hts _ q20) (fun _ h9 => h9) rfl dX0_fillIn_50 ?_
    refine lv_iload_n hx hb dX0_fillIn_53 rfl (lv_at hl 4 rfl) ?_
    refine sp_ild hx hb hK hP 5 4 rfl rfl k rfl (by omega) (by decide) dX0_fillIn_54 ?_
    refine sp_ist hx hb hK hP hD hS 9 8 rfl rfl e rfl (by omega) (by decide) dX0_fillIn_55 (fun H_2 locs hP hD hS => ?_)
    have hP : va_P (dC, dI) spCl (wX h0 q d pr la gm gr tc ch hf hr hc ce (upd sf1 e (hf k)) sr sm hd1 nx1) H_2 := hP
    have hD : va_D A (wX h0 q d pr la gm gr tc ch hf hr hc ce (upd sf1 e (hf k)) sr sm hd1 nx1) := hD
    refine lv_aload_n hx hb dX0_fillIn_56 rfl (lv_at hl 2 rfl) ?_
    refine va_get (D := (dC, dI)) (ci := 0) (v := .ref (q 10)) (C := RX0) (T := TX0) (N := 15) hx hb hts in_X0 hown hK hP 0 rfl rfl 11 (by decide) (hts _ q26) (fun _ h9 => h9) rfl dX0_fillIn_57 ?_
    refine lv_iload_n hx hb dX0_fillIn_60 rfl (lv_at hl 3 rfl) ?_
    refine lv_iload hx hb dX0_fillIn_61 (lv_at hl 0 rfl) ?_
    refine lv_if_eq (tgt := 70) hx hb dX0_fillIn_63 (by decide) (fun c63 => ?_) (fun c63 => ?_)
    · refine lv_iload_n hx hb dX0_fillIn_70 rfl (lv_at hl 1 rfl) ?_
      refine lv_bipush (v := -3) hx hb dX0_fillIn_71 (by decide) ?_
      refine lv_iand hx hb dX0_fillIn_73 ?_
      refine sp_ist hx hb hK hP hD hS 10 9 rfl rfl e rfl (by omega) (by decide) dX0_fillIn_74 (fun H_3 locs hP hD hS => ?_)
      have hP : va_P (dC, dI) spCl (wX h0 q d pr la gm gr tc ch hf hr hc ce (upd sf1 e (hf k)) (upd sr e (((gr e) &&& (hr k)) &&& (-3))) sm hd1 nx1) H_3 := hP
      have hD : va_D A (wX h0 q d pr la gm gr tc ch hf hr hc ce (upd sf1 e (hf k)) (upd sr e (((gr e) &&& (hr k)) &&& (-3))) sm hd1 nx1) := hD
      refine lv_aload_n hx hb dX0_fillIn_75 rfl (lv_at hl 2 rfl) ?_
      refine va_get (D := (dC, dI)) (ci := 0) (v := .ref (q 11)) (C := RX0) (T := TX0) (N := 15) hx hb hts in_X0 hown hK hP 0 rfl rfl 12 (by decide) (hts _ q27) (fun _ h9 => h9) rfl dX0_fillIn_76 ?_
      refine lv_iload_n hx hb dX0_fillIn_79 rfl (lv_at hl 3 rfl) ?_
      refine lv_iload_n hx hb dX0_fillIn_80 rfl (lv_at hl 4 rfl) ?_
      refine sp_ist hx hb hK hP hD hS 11 10 rfl rfl e rfl (by omega) (by decide) dX0_fillIn_81 (fun H_4 locs hP hD hS => ?_)
      have hP : va_P (dC, dI) spCl (wX h0 q d pr la gm gr tc ch hf hr hc ce (upd sf1 e (hf k)) (upd sr e (((gr e) &&& (hr k)) &&& (-3))) (upd sm e (nI k)) hd1 nx1) H_4 := hP
      have hD : va_D A (wX h0 q d pr la gm gr tc ch hf hr hc ce (upd sf1 e (hf k)) (upd sr e (((gr e) &&& (hr k)) &&& (-3))) (upd sm e (nI k)) hd1 nx1) := hD
      refine lv_aload_n hx hb dX0_fillIn_82 rfl (lv_at hl 2 rfl) ?_
      refine va_get (D := (dC, dI)) (ci := 0) (v := .ref (q 13)) (C := RX0) (T := TX0) (N := 15) hx hb hts in_X0 hown hK hP 0 rfl rfl 14 (by decide) (hts _ q29) (fun _ h9 => h9) rfl dX0_fillIn_83 ?_
      refine lv_iload_n hx hb dX0_fillIn_86 rfl (lv_at hl 3 rfl) ?_
      refine lv_aload_n hx hb dX0_fillIn_87 rfl (lv_at hl 2 rfl) ?_
      refine va_get (D := (dC, dI)) (ci := 0) (v := .ref (q 12)) (C := RX0) (T := TX0) (N := 15) hx hb hts in_X0 hown hK hP 0 rfl rfl 13 (by decide) (hts _ q28) (fun _ h9 => h9) rfl dX0_fillIn_88 ?_
      refine lv_iload_n hx hb dX0_fillIn_91 rfl (lv_at hl 4 rfl) ?_
      refine sp_ild hx hb hK hP 12 11 rfl rfl k rfl (by omega) (by decide) dX0_fillIn_92 ?_
      refine sp_ist hx hb hK hP hD hS 13 12 rfl rfl e rfl (by omega) (by decide) dX0_fillIn_93 (fun H_5 locs hP hD hS => ?_)
      have hP : va_P (dC, dI) spCl (wX h0 q d pr la gm gr tc ch hf hr hc ce (upd sf1 e (hf k)) (upd sr e (((gr e) &&& (hr k)) &&& (-3))) (upd sm e (nI k)) hd1 (upd nx1 e (hd1 k))) H_5 := hP
      have hD : va_D A (wX h0 q d pr la gm gr tc ch hf hr hc ce (upd sf1 e (hf k)) (upd sr e (((gr e) &&& (hr k)) &&& (-3))) (upd sm e (nI k)) hd1 (upd nx1 e (hd1 k))) := hD
      refine lv_aload_n hx hb dX0_fillIn_94 rfl (lv_at hl 2 rfl) ?_
      refine va_get (D := (dC, dI)) (ci := 0) (v := .ref (q 12)) (C := RX0) (T := TX0) (N := 15) hx hb hts in_X0 hown hK hP 0 rfl rfl 13 (by decide) (hts _ q28) (fun _ h9 => h9) rfl dX0_fillIn_95 ?_
      refine lv_iload_n hx hb dX0_fillIn_98 rfl (lv_at hl 4 rfl) ?_
      refine lv_iload_n hx hb dX0_fillIn_99 rfl (lv_at hl 3 rfl) ?_
      refine sp_ist hx hb hK hP hD hS 12 11 rfl rfl k rfl (by omega) (by decide) dX0_fillIn_100 (fun H_6 locs hP hD hS => ?_)
      have hP : va_P (dC, dI) spCl (wX h0 q d pr la gm gr tc ch hf hr hc ce (upd sf1 e (hf k)) (upd sr e (((gr e) &&& (hr k)) &&& (-3))) (upd sm e (nI k)) (upd hd1 k (nI e)) (upd nx1 e (hd1 k))) H_6 := hP
      have hD : va_D A (wX h0 q d pr la gm gr tc ch hf hr hc ce (upd sf1 e (hf k)) (upd sr e (((gr e) &&& (hr k)) &&& (-3))) (upd sm e (nI k)) (upd hd1 k (nI e)) (upd nx1 e (hd1 k))) := hD
      exact W.vret hx hb hret (fun t ht hW => ⟨⟨(upd sf1 e (hf k), upd sr e (((gr e) &&& (hr k)) &&& (-3)), upd sm e (nI k), upd hd1 k (nI e), upd nx1 e (hd1 k)), rfl, ⟨sp_fill he hk hf0 hs2 hL1, sp_fd_n hs1⟩, by rw [ht]; exact hP, va_K.moved hW.alike hK, hD⟩, hS.F ht⟩) hS.2.2 dX0_fillIn_101
    · exact absurd rfl c63
  · refine lv_aload_n hx hb dX0_fillIn_28 rfl (lv_at hl 1 rfl) ?_
    refine va_get (D := (dC, dI)) (ci := 0) (v := .ref (q 7)) (C := RX0) (T := TX0) (N := 15) hx hb hts in_X0 hown hK hP 0 rfl rfl 7 (by decide) (hts _ q22) (fun _ h9 => h9) rfl dX0_fillIn_29 ?_
    refine lv_iload_n hx hb dX0_fillIn_32 rfl (lv_at hl 3 rfl) ?_
    refine sp_zld hx hb hK hP 7 6 rfl rfl k rfl (by omega) (by decide) dX0_fillIn_33 ?_
    refine lv_if_eq (tgt := 41) hx hb dX0_fillIn_34 (by decide) (fun c34 => ?_) (fun c34 => ?_)
    · refine lv_iconst (v := 0) hx hb dX0_fillIn_41 (by decide) ?_
      refine lv_istore (lv' := [(4, .int 0), (3, .int ((gr e) &&& (hr k))), (0, .ref h0), (1, .int (nI e)), (2, .int (nI k))]) hx hb dX0_fillIn_42 hl (by decide) rfl (fun ls hl => ?_)
      refine lv_aload_n hx hb dX0_fillIn_44 rfl (lv_at hl 2 rfl) ?_
      refine va_get (D := (dC, dI)) (ci := 0) (v := .ref (q 9)) (C := RX0) (T := TX0) (N := 15) hx hb hts in_X0 hown hK hP 0 rfl rfl 10 (by decide) (hts _ q25) (fun _ h9 => h9) rfl dX0_fillIn_45 ?_
      refine lv_iload_n hx hb dX0_fillIn_48 rfl (lv_at hl 3 rfl) ?_
      refine lv_aload_n hx hb dX0_fillIn_49 rfl (lv_at hl 2 rfl) ?_
      refine va_get (D := (dC, dI)) (ci := 0) (v := .ref (q 5)) (C := RX0) (T := TX0) (N := 15) hx hb hts in_X0 hown hK hP 0 rfl rfl 5 (by decide) (hts _ q20) (fun _ h9 => h9) rfl dX0_fillIn_50 ?_
      refine lv_iload_n hx hb dX0_fillIn_53 rfl (lv_at hl 4 rfl) ?_
      refine sp_ild hx hb hK hP 5 4 rfl rfl k rfl (by omega) (by decide) dX0_fillIn_54 ?_
      refine sp_ist hx hb hK hP hD hS 9 8 rfl rfl e rfl (by omega) (by decide) dX0_fillIn_55 (fun H_7 locs hP hD hS => ?_)
      have hP : va_P (dC, dI) spCl (wX h0 q d pr la gm gr tc ch hf hr hc ce (upd sf1 e (hf k)) sr sm hd1 nx1) H_7 := hP
      have hD : va_D A (wX h0 q d pr la gm gr tc ch hf hr hc ce (upd sf1 e (hf k)) sr sm hd1 nx1) := hD
      refine lv_aload_n hx hb dX0_fillIn_56 rfl (lv_at hl 2 rfl) ?_
      refine va_get (D := (dC, dI)) (ci := 0) (v := .ref (q 10)) (C := RX0) (T := TX0) (N := 15) hx hb hts in_X0 hown hK hP 0 rfl rfl 11 (by decide) (hts _ q26) (fun _ h9 => h9) rfl dX0_fillIn_57 ?_
      refine lv_iload_n hx hb dX0_fillIn_60 rfl (lv_at hl 3 rfl) ?_
      refine lv_iload hx hb dX0_fillIn_61 (lv_at hl 0 rfl) ?_
      refine lv_if_eq (tgt := 70) hx hb dX0_fillIn_63 (by decide) (fun c63 => ?_) (fun c63 => ?_)
      · refine lv_iload_n hx hb dX0_fillIn_70 rfl (lv_at hl 1 rfl) ?_
        refine lv_bipush (v := -3) hx hb dX0_fillIn_71 (by decide) ?_
        refine lv_iand hx hb dX0_fillIn_73 ?_
        refine sp_ist hx hb hK hP hD hS 10 9 rfl rfl e rfl (by omega) (by decide) dX0_fillIn_74 (fun H_8 locs hP hD hS => ?_)
        have hP : va_P (dC, dI) spCl (wX h0 q d pr la gm gr tc ch hf hr hc ce (upd sf1 e (hf k)) (upd sr e (((gr e) &&& (hr k)) &&& (-3))) sm hd1 nx1) H_8 := hP
        have hD : va_D A (wX h0 q d pr la gm gr tc ch hf hr hc ce (upd sf1 e (hf k)) (upd sr e (((gr e) &&& (hr k)) &&& (-3))) sm hd1 nx1) := hD
        refine lv_aload_n hx hb dX0_fillIn_75 rfl (lv_at hl 2 rfl) ?_
        refine va_get (D := (dC, dI)) (ci := 0) (v := .ref (q 11)) (C := RX0) (T := TX0) (N := 15) hx hb hts in_X0 hown hK hP 0 rfl rfl 12 (by decide) (hts _ q27) (fun _ h9 => h9) rfl dX0_fillIn_76 ?_
        refine lv_iload_n hx hb dX0_fillIn_79 rfl (lv_at hl 3 rfl) ?_
        refine lv_iload_n hx hb dX0_fillIn_80 rfl (lv_at hl 4 rfl) ?_
        refine sp_ist hx hb hK hP hD hS 11 10 rfl rfl e rfl (by omega) (by decide) dX0_fillIn_81 (fun H_9 locs hP hD hS => ?_)
        have hP : va_P (dC, dI) spCl (wX h0 q d pr la gm gr tc ch hf hr hc ce (upd sf1 e (hf k)) (upd sr e (((gr e) &&& (hr k)) &&& (-3))) (upd sm e (nI k)) hd1 nx1) H_9 := hP
        have hD : va_D A (wX h0 q d pr la gm gr tc ch hf hr hc ce (upd sf1 e (hf k)) (upd sr e (((gr e) &&& (hr k)) &&& (-3))) (upd sm e (nI k)) hd1 nx1) := hD
        refine lv_aload_n hx hb dX0_fillIn_82 rfl (lv_at hl 2 rfl) ?_
        refine va_get (D := (dC, dI)) (ci := 0) (v := .ref (q 13)) (C := RX0) (T := TX0) (N := 15) hx hb hts in_X0 hown hK hP 0 rfl rfl 14 (by decide) (hts _ q29) (fun _ h9 => h9) rfl dX0_fillIn_83 ?_
        refine lv_iload_n hx hb dX0_fillIn_86 rfl (lv_at hl 3 rfl) ?_
        refine lv_aload_n hx hb dX0_fillIn_87 rfl (lv_at hl 2 rfl) ?_
        refine va_get (D := (dC, dI)) (ci := 0) (v := .ref (q 12)) (C := RX0) (T := TX0) (N := 15) hx hb hts in_X0 hown hK hP 0 rfl rfl 13 (by decide) (hts _ q28) (fun _ h9 => h9) rfl dX0_fillIn_88 ?_
        refine lv_iload_n hx hb dX0_fillIn_91 rfl (lv_at hl 4 rfl) ?_
        refine sp_ild hx hb hK hP 12 11 rfl rfl k rfl (by omega) (by decide) dX0_fillIn_92 ?_
        refine sp_ist hx hb hK hP hD hS 13 12 rfl rfl e rfl (by omega) (by decide) dX0_fillIn_93 (fun H_10 locs hP hD hS => ?_)
        have hP : va_P (dC, dI) spCl (wX h0 q d pr la gm gr tc ch hf hr hc ce (upd sf1 e (hf k)) (upd sr e (((gr e) &&& (hr k)) &&& (-3))) (upd sm e (nI k)) hd1 (upd nx1 e (hd1 k))) H_10 := hP
        have hD : va_D A (wX h0 q d pr la gm gr tc ch hf hr hc ce (upd sf1 e (hf k)) (upd sr e (((gr e) &&& (hr k)) &&& (-3))) (upd sm e (nI k)) hd1 (upd nx1 e (hd1 k))) := hD
        refine lv_aload_n hx hb dX0_fillIn_94 rfl (lv_at hl 2 rfl) ?_
        refine va_get (D := (dC, dI)) (ci := 0) (v := .ref (q 12)) (C := RX0) (T := TX0) (N := 15) hx hb hts in_X0 hown hK hP 0 rfl rfl 13 (by decide) (hts _ q28) (fun _ h9 => h9) rfl dX0_fillIn_95 ?_
        refine lv_iload_n hx hb dX0_fillIn_98 rfl (lv_at hl 4 rfl) ?_
        refine lv_iload_n hx hb dX0_fillIn_99 rfl (lv_at hl 3 rfl) ?_
        refine sp_ist hx hb hK hP hD hS 12 11 rfl rfl k rfl (by omega) (by decide) dX0_fillIn_100 (fun H_11 locs hP hD hS => ?_)
        have hP : va_P (dC, dI) spCl (wX h0 q d pr la gm gr tc ch hf hr hc ce (upd sf1 e (hf k)) (upd sr e (((gr e) &&& (hr k)) &&& (-3))) (upd sm e (nI k)) (upd hd1 k (nI e)) (upd nx1 e (hd1 k))) H_11 := hP
        have hD : va_D A (wX h0 q d pr la gm gr tc ch hf hr hc ce (upd sf1 e (hf k)) (upd sr e (((gr e) &&& (hr k)) &&& (-3))) (upd sm e (nI k)) (upd hd1 k (nI e)) (upd nx1 e (hd1 k))) := hD
        exact W.vret hx hb hret (fun t ht hW => ⟨⟨(upd sf1 e (hf k), upd sr e (((gr e) &&& (hr k)) &&& (-3)), upd sm e (nI k), upd hd1 k (nI e), upd nx1 e (hd1 k)), rfl, ⟨sp_fill he hk hf0 hs2 hL1, sp_fd_n hs1⟩, by rw [ht]; exact hP, va_K.moved hW.alike hK, hD⟩, hS.F ht⟩) hS.2.2 dX0_fillIn_101
      · exact absurd rfl c63
    · refine lv_iconst (v := 1) hx hb dX0_fillIn_37 (by decide) ?_
      refine lv_goto (tgt := 42) hx hb dX0_fillIn_38 (by decide) ?_
      refine lv_istore (lv' := [(4, .int 1), (3, .int ((gr e) &&& (hr k))), (0, .ref h0), (1, .int (nI e)), (2, .int (nI k))]) hx hb dX0_fillIn_42 hl (by decide) rfl (fun ls hl => ?_)
      refine lv_aload_n hx hb dX0_fillIn_44 rfl (lv_at hl 2 rfl) ?_
      refine va_get (D := (dC, dI)) (ci := 0) (v := .ref (q 9)) (C := RX0) (T := TX0) (N := 15) hx hb hts in_X0 hown hK hP 0 rfl rfl 10 (by decide) (hts _ q25) (fun _ h9 => h9) rfl dX0_fillIn_45 ?_
      refine lv_iload_n hx hb dX0_fillIn_48 rfl (lv_at hl 3 rfl) ?_
      refine lv_aload_n hx hb dX0_fillIn_49 rfl (lv_at hl 2 rfl) ?_
      refine va_get (D := (dC, dI)) (ci := 0) (v := .ref (q 5)) (C := RX0) (T := TX0) (N := 15) hx hb hts in_X0 hown hK hP 0 rfl rfl 5 (by decide) (hts _ q20) (fun _ h9 => h9) rfl dX0_fillIn_50 ?_
      refine lv_iload_n hx hb dX0_fillIn_53 rfl (lv_at hl 4 rfl) ?_
      refine sp_ild hx hb hK hP 5 4 rfl rfl k rfl (by omega) (by decide) dX0_fillIn_54 ?_
      refine sp_ist hx hb hK hP hD hS 9 8 rfl rfl e rfl (by omega) (by decide) dX0_fillIn_55 (fun H_12 locs hP hD hS => ?_)
      have hP : va_P (dC, dI) spCl (wX h0 q d pr la gm gr tc ch hf hr hc ce (upd sf1 e (hf k)) sr sm hd1 nx1) H_12 := hP
      have hD : va_D A (wX h0 q d pr la gm gr tc ch hf hr hc ce (upd sf1 e (hf k)) sr sm hd1 nx1) := hD
      refine lv_aload_n hx hb dX0_fillIn_56 rfl (lv_at hl 2 rfl) ?_
      refine va_get (D := (dC, dI)) (ci := 0) (v := .ref (q 10)) (C := RX0) (T := TX0) (N := 15) hx hb hts in_X0 hown hK hP 0 rfl rfl 11 (by decide) (hts _ q26) (fun _ h9 => h9) rfl dX0_fillIn_57 ?_
      refine lv_iload_n hx hb dX0_fillIn_60 rfl (lv_at hl 3 rfl) ?_
      refine lv_iload hx hb dX0_fillIn_61 (lv_at hl 0 rfl) ?_
      refine lv_if_eq (tgt := 70) hx hb dX0_fillIn_63 (by decide) (fun c63 => ?_) (fun c63 => ?_)
      · exact absurd c63 (by decide)
      · refine lv_iload_n hx hb dX0_fillIn_66 rfl (lv_at hl 1 rfl) ?_
        refine lv_goto (tgt := 74) hx hb dX0_fillIn_67 (by decide) ?_
        refine sp_ist hx hb hK hP hD hS 10 9 rfl rfl e rfl (by omega) (by decide) dX0_fillIn_74 (fun H_13 locs hP hD hS => ?_)
        have hP : va_P (dC, dI) spCl (wX h0 q d pr la gm gr tc ch hf hr hc ce (upd sf1 e (hf k)) (upd sr e ((gr e) &&& (hr k))) sm hd1 nx1) H_13 := hP
        have hD : va_D A (wX h0 q d pr la gm gr tc ch hf hr hc ce (upd sf1 e (hf k)) (upd sr e ((gr e) &&& (hr k))) sm hd1 nx1) := hD
        refine lv_aload_n hx hb dX0_fillIn_75 rfl (lv_at hl 2 rfl) ?_
        refine va_get (D := (dC, dI)) (ci := 0) (v := .ref (q 11)) (C := RX0) (T := TX0) (N := 15) hx hb hts in_X0 hown hK hP 0 rfl rfl 12 (by decide) (hts _ q27) (fun _ h9 => h9) rfl dX0_fillIn_76 ?_
        refine lv_iload_n hx hb dX0_fillIn_79 rfl (lv_at hl 3 rfl) ?_
        refine lv_iload_n hx hb dX0_fillIn_80 rfl (lv_at hl 4 rfl) ?_
        refine sp_ist hx hb hK hP hD hS 11 10 rfl rfl e rfl (by omega) (by decide) dX0_fillIn_81 (fun H_14 locs hP hD hS => ?_)
        have hP : va_P (dC, dI) spCl (wX h0 q d pr la gm gr tc ch hf hr hc ce (upd sf1 e (hf k)) (upd sr e ((gr e) &&& (hr k))) (upd sm e (nI k)) hd1 nx1) H_14 := hP
        have hD : va_D A (wX h0 q d pr la gm gr tc ch hf hr hc ce (upd sf1 e (hf k)) (upd sr e ((gr e) &&& (hr k))) (upd sm e (nI k)) hd1 nx1) := hD
        refine lv_aload_n hx hb dX0_fillIn_82 rfl (lv_at hl 2 rfl) ?_
        refine va_get (D := (dC, dI)) (ci := 0) (v := .ref (q 13)) (C := RX0) (T := TX0) (N := 15) hx hb hts in_X0 hown hK hP 0 rfl rfl 14 (by decide) (hts _ q29) (fun _ h9 => h9) rfl dX0_fillIn_83 ?_
        refine lv_iload_n hx hb dX0_fillIn_86 rfl (lv_at hl 3 rfl) ?_
        refine lv_aload_n hx hb dX0_fillIn_87 rfl (lv_at hl 2 rfl) ?_
        refine va_get (D := (dC, dI)) (ci := 0) (v := .ref (q 12)) (C := RX0) (T := TX0) (N := 15) hx hb hts in_X0 hown hK hP 0 rfl rfl 13 (by decide) (hts _ q28) (fun _ h9 => h9) rfl dX0_fillIn_88 ?_
        refine lv_iload_n hx hb dX0_fillIn_91 rfl (lv_at hl 4 rfl) ?_
        refine sp_ild hx hb hK hP 12 11 rfl rfl k rfl (by omega) (by decide) dX0_fillIn_92 ?_
        refine sp_ist hx hb hK hP hD hS 13 12 rfl rfl e rfl (by omega) (by decide) dX0_fillIn_93 (fun H_15 locs hP hD hS => ?_)
        have hP : va_P (dC, dI) spCl (wX h0 q d pr la gm gr tc ch hf hr hc ce (upd sf1 e (hf k)) (upd sr e ((gr e) &&& (hr k))) (upd sm e (nI k)) hd1 (upd nx1 e (hd1 k))) H_15 := hP
        have hD : va_D A (wX h0 q d pr la gm gr tc ch hf hr hc ce (upd sf1 e (hf k)) (upd sr e ((gr e) &&& (hr k))) (upd sm e (nI k)) hd1 (upd nx1 e (hd1 k))) := hD
        refine lv_aload_n hx hb dX0_fillIn_94 rfl (lv_at hl 2 rfl) ?_
        refine va_get (D := (dC, dI)) (ci := 0) (v := .ref (q 12)) (C := RX0) (T := TX0) (N := 15) hx hb hts in_X0 hown hK hP 0 rfl rfl 13 (by decide) (hts _ q28) (fun _ h9 => h9) rfl dX0_fillIn_95 ?_
        refine lv_iload_n hx hb dX0_fillIn_98 rfl (lv_at hl 4 rfl) ?_
        refine lv_iload_n hx hb dX0_fillIn_99 rfl (lv_at hl 3 rfl) ?_
        refine sp_ist hx hb hK hP hD hS 12 11 rfl rfl k rfl (by omega) (by decide) dX0_fillIn_100 (fun H_16 locs hP hD hS => ?_)
        have hP : va_P (dC, dI) spCl (wX h0 q d pr la gm gr tc ch hf hr hc ce (upd sf1 e (hf k)) (upd sr e ((gr e) &&& (hr k))) (upd sm e (nI k)) (upd hd1 k (nI e)) (upd nx1 e (hd1 k))) H_16 := hP
        have hD : va_D A (wX h0 q d pr la gm gr tc ch hf hr hc ce (upd sf1 e (hf k)) (upd sr e ((gr e) &&& (hr k))) (upd sm e (nI k)) (upd hd1 k (nI e)) (upd nx1 e (hd1 k))) := hD
        exact W.vret hx hb hret (fun t ht hW => ⟨⟨(upd sf1 e (hf k), upd sr e ((gr e) &&& (hr k)), upd sm e (nI k), upd hd1 k (nI e), upd nx1 e (hd1 k)), rfl, ⟨sp_fill he hk hf0 hs2 hL1, sp_fd_w c25 c34 hs1⟩, by rw [ht]; exact hP, va_K.moved hW.alike hK, hD⟩, hS.F ht⟩) hS.2.2 dX0_fillIn_101
set_option maxHeartbeats 4000000 in
set_option maxRecDepth 100000 in
theorem mX_reach (l : Launch) (dC : Nat → ClassId) (dI : Nat → Nat → Nat) (h0 : Nat) (q : Nat → Nat) (d : Nat → ClassId) (sz : Nat) (pr la : Int32) (gm gr tc ch hf hr hc ce sf sr sm hd nx : FN) (a b : Nat) (x2 : Int32) (ha : a < 2) (hb8 : b < 8) (hpr : pr = nI a) (h3 : x2 = 1 ∨ x2 = 2 ∨ x2 = 4) (hI : sp_INV pr gm gr tc ch hf hr hc sf sr sm hd nx) : Met l yX0_reach (ws_ yX0_reach cX0_reach 5 (some .int)) ({ frames := 2, cells := 0, slots := 0, locals := 48 }) (va_Pc [.ref h0, .int (nI b), .int x2] (fun U => U.heap.size = sz ∧ va_P (dC, dI) spCl (wX h0 q d pr la gm gr tc ch hf hr hc ce sf sr sm hd nx) U.heap ∧ va_K (dC, dI) spCl (tyX d) U ∧ va_D (fun _ => True) (wX h0 q d pr la gm gr tc ch hf hr hc ce sf sr sm hd nx))) (va_Qi (fun (r : Int32) (u : (FN × FN × FN) × PS) => (r, u.1) = sp_mreach gm gr tc ch hf hr hc (8 * a + b) x2 ∧ sp_INV pr gm gr u.1.1 u.1.2.1 hf hr u.1.2.2 u.2.1 u.2.2.1 u.2.2.2.1 u.2.2.2.2.1 u.2.2.2.2.2) (fun u t => BX dC dI (va_A (wX h0 q d pr la gm gr tc ch hf hr hc ce sf sr sm hd nx) sz) h0 q d pr la gm gr u.1.1 u.1.2.1 hf hr u.1.2.2 ce u.2.1 u.2.2.1 u.2.2.2.1 u.2.2.2.2.1 u.2.2.2.2.2 t) (va_A (wX h0 q d pr la gm gr tc ch hf hr hc ce sf sr sm hd nx) sz)) 0 0 (va_A (wX h0 q d pr la gm gr tc ch hf hr hc ce sf sr sm hd nx) sz) := by
  refine Met.ofW (cc := cX0_reach) (maxL := 5) (ret := (some .int)) (by decide) rfl ?_
  intro p ev s m args below meth c s₁ B hml hv
  obtain ⟨rfl, hsz, hP, hK, hD0⟩ := hv
  have hx := B.exec
  have hb := B.bytes
  have hret := B.returns
  have hts := atoms_spec (ws := (ws_ yX0_reach cX0_reach 5 (some .int))) B.pre
  have hts : ∀ w ∈ lw_all, w.before _ s = true := fun w h => hts w (List.mem_cons_of_mem _ h)
  have hown : s.vm.findClass RX0 = some m.cls := findClass_of_methodNamed B.named
  have hlocks := B.notSynchronized
  subst hsz
  have hD := hD0.self (sz := s.heap.size)
  generalize hAe : va_A (wX h0 q d pr la gm gr tc ch hf hr hc ce sf sr sm hd nx) s.heap.size = A at hD ⊢
  have hA : ∀ q : Nat, s.heap.size ≤ q → A q := fun q h => by rw [← hAe]; exact Or.inr h
  have hS : va_S A s.heap s.heap [] := va_S.rf
  have hl := lv_entry ([.ref h0, .int (nI b), .int x2]) (n := 5) (Nat.le_of_ble_eq_true rfl)
  rw [lg_entry_eq]
  generalize (lg_sl ([.ref h0, .int (nI b), .int x2]) ++ List.replicate (5 - (lg_sl ([.ref h0, .int (nI b), .int x2])).length) Slot.unset).toArray = ls at hl ⊢
  have hl : lv_has ls 5 [(0, .ref h0), (1, .int (nI b)), (2, .int x2)] := hl
  subst hpr
  have he : 8 * a + b < 16 := by omega
  refine lv_bipush (v := 8) hx hb dX0_reach_0 (by decide) ?_
  refine lv_aload_n hx hb dX0_reach_2 rfl (lv_at hl 0 rfl) ?_
  refine va_get (D := (dC, dI)) (ci := 0) (v := .int (nI a)) (C := RX0) (T := TX0) (N := 15) hx hb hts in_X0 hown hK hP 0 rfl rfl 0 (by decide) (hts _ q15) (fun _ h9 => h9) rfl dX0_reach_3 ?_
  refine lv_imul hx hb dX0_reach_6 ?_
  refine lv_iload_n hx hb dX0_reach_7 rfl (lv_at hl 1 rfl) ?_
  refine lv_iadd hx hb dX0_reach_8 ?_
  refine lv_topi (fun v_1 ev_1 => ?_)
  obtain rfl : v_1 = nI (8 * a + b) := ev_1.trans (sp_ixI a b)
  refine lv_istore_n (lv' := [(3, .int (nI (8 * a + b))), (0, .ref h0), (1, .int (nI b)), (2, .int x2)]) hx hb dX0_reach_9 rfl hl (by decide) rfl (fun ls hl => ?_)
  refine lv_aload_n hx hb dX0_reach_10 rfl (lv_at hl 1 rfl) ?_
  refine va_get (D := (dC, dI)) (ci := 0) (v := .ref (q 9)) (C := RX0) (T := TX0) (N := 15) hx hb hts in_X0 hown hK hP 0 rfl rfl 10 (by decide) (hts _ q25) (fun _ h9 => h9) rfl dX0_reach_11 ?_
  refine lv_iload_n hx hb dX0_reach_14 rfl (lv_at hl 0 rfl) ?_
  refine sp_ild hx hb hK hP 9 8 rfl rfl (8 * a + b) rfl (by omega) (by decide) dX0_reach_15 ?_
  refine lv_if_lt (tgt := 37) hx hb dX0_reach_16 (by decide) (fun c16 => ?_) (fun c16 => ?_)
  · refine lv_aload_n hx hb dX0_reach_37 rfl (lv_at hl 1 rfl) ?_
    refine va_get (D := (dC, dI)) (ci := 0) (v := .ref (q 1)) (C := RX0) (T := TX0) (N := 15) hx hb hts in_X0 hown hK hP 0 rfl rfl 1 (by decide) (hts _ q16) (fun _ h9 => h9) rfl dX0_reach_38 ?_
    refine lv_iload_n hx hb dX0_reach_41 rfl (lv_at hl 0 rfl) ?_
    refine sp_ild hx hb hK hP 1 0 rfl rfl (8 * a + b) rfl (by omega) (by decide) dX0_reach_42 ?_
    refine lv_istore (lv' := [(4, .int (gm (8 * a + b))), (3, .int (nI (8 * a + b))), (0, .ref h0), (1, .int (nI b)), (2, .int x2)]) hx hb dX0_reach_43 hl (by decide) rfl (fun ls hl => ?_)
    refine lv_iload hx hb dX0_reach_45 (lv_at hl 0 rfl) ?_
    refine lv_if_lt (tgt := 61) hx hb dX0_reach_47 (by decide) (fun c47 => ?_) (fun c47 => ?_)
    · refine lv_bipush (v := -2) hx hb dX0_reach_61 (by decide) ?_
      exact W.iret (v := (-2)) hx hb hret (fun t ht hW => ⟨⟨-2, ((tc, ch, hc), (sf, sr, sm, hd, nx)), rfl, ⟨(sp_mr_g (Or.inl c47)).symm, hI⟩, by rw [ht]; exact hP, va_K.moved hW.alike hK, hD⟩, hS.F ht⟩) hS.2.2 dX0_reach_63
    · obtain ⟨k, hk, hgk⟩ := hI.1.2.1 _ he c47
      rw [hgk] at hl
      refine lv_aload_n hx hb dX0_reach_50 rfl (lv_at hl 2 rfl) ?_
      refine va_get (D := (dC, dI)) (ci := 0) (v := .ref (q 2)) (C := RX0) (T := TX0) (N := 15) hx hb hts in_X0 hown hK hP 0 rfl rfl 2 (by decide) (hts _ q17) (fun _ h9 => h9) rfl dX0_reach_51 ?_
      refine lv_iload_n hx hb dX0_reach_54 rfl (lv_at hl 1 rfl) ?_
      refine sp_ild hx hb hK hP 2 1 rfl rfl (8 * a + b) rfl (by omega) (by decide) dX0_reach_55 ?_
      refine lv_iload_n hx hb dX0_reach_56 rfl (lv_at hl 4 rfl) ?_
      refine lv_iand hx hb dX0_reach_57 ?_
      refine lv_if_ne (tgt := 64) hx hb dX0_reach_58 (by decide) (fun c58 => ?_) (fun c58 => ?_)
      · refine lv_aload_n hx hb dX0_reach_64 rfl (lv_at hl 2 rfl) ?_
        refine va_get (D := (dC, dI)) (ci := 0) (v := .ref (q 5)) (C := RX0) (T := TX0) (N := 15) hx hb hts in_X0 hown hK hP 0 rfl rfl 5 (by decide) (hts _ q20) (fun _ h9 => h9) rfl dX0_reach_65 ?_
        refine lv_iload hx hb dX0_reach_68 (lv_at hl 0 rfl) ?_
        refine sp_ild hx hb hK hP 5 4 rfl rfl k rfl (by omega) (by decide) dX0_reach_70 ?_
        refine lv_if_lt (tgt := 86) hx hb dX0_reach_71 (by decide) (fun c71 => ?_) (fun c71 => ?_)
        · refine lv_bipush (v := -3) hx hb dX0_reach_86 (by decide) ?_
          exact W.iret (v := (-3)) hx hb hret (fun t ht hW => ⟨⟨-3, ((tc, ch, hc), (sf, sr, sm, hd, nx)), rfl, ⟨(sp_mr_h hk hgk c58 (Or.inl c71)).symm, hI⟩, by rw [ht]; exact hP, va_K.moved hW.alike hK, hD⟩, hS.F ht⟩) hS.2.2 dX0_reach_88
        · refine lv_aload_n hx hb dX0_reach_74 rfl (lv_at hl 2 rfl) ?_
          refine va_get (D := (dC, dI)) (ci := 0) (v := .ref (q 6)) (C := RX0) (T := TX0) (N := 15) hx hb hts in_X0 hown hK hP 0 rfl rfl 6 (by decide) (hts _ q21) (fun _ h9 => h9) rfl dX0_reach_75 ?_
          refine lv_iload hx hb dX0_reach_78 (lv_at hl 0 rfl) ?_
          refine sp_ild hx hb hK hP 6 5 rfl rfl k rfl (by omega) (by decide) dX0_reach_80 ?_
          refine lv_iload_n hx hb dX0_reach_81 rfl (lv_at hl 4 rfl) ?_
          refine lv_iand hx hb dX0_reach_82 ?_
          refine lv_if_ne (tgt := 89) hx hb dX0_reach_83 (by decide) (fun c83 => ?_) (fun c83 => ?_)
          · refine lv_aload_n hx hb dX0_reach_89 rfl (lv_at hl 2 rfl) ?_
            refine va_get (D := (dC, dI)) (ci := 0) (v := .ref (q 3)) (C := RX0) (T := TX0) (N := 15) hx hb hts in_X0 hown hK hP 0 rfl rfl 3 (by decide) (hts _ q18) (fun _ h9 => h9) rfl dX0_reach_90 ?_
            refine lv_iload_n hx hb dX0_reach_93 rfl (lv_at hl 1 rfl) ?_
            refine lv_iconst (v := 1) hx hb dX0_reach_94 (by decide) ?_
            refine sp_zst hx hb hK hP hD hS 3 2 rfl rfl (8 * a + b) rfl (by omega) (by decide) rfl dX0_reach_95 (fun H_2 locs hP hD hS => ?_)
            have hP : va_P (dC, dI) spCl (wX h0 q d (nI a) la gm gr (upd tc (8 * a + b) 1) ch hf hr hc ce sf sr sm hd nx) H_2 := hP
            have hD : va_D A (wX h0 q d (nI a) la gm gr (upd tc (8 * a + b) 1) ch hf hr hc ce sf sr sm hd nx) := hD
            refine lv_iload_n hx hb dX0_reach_96 rfl (lv_at hl 4 rfl) ?_
            refine lv_iconst (v := 2) hx hb dX0_reach_97 (by decide) ?_
            refine lv_icmp_ne (tgt := 116) hx hb dX0_reach_98 (by decide) (fun c98 => ?_) (fun c98 => ?_)
            · refine lv_aload_n hx hb dX0_reach_116 rfl (lv_at hl 2 rfl) ?_
              refine lv_iload_n hx hb dX0_reach_117 rfl (lv_at hl 1 rfl) ?_
              refine lv_iload hx hb dX0_reach_118 (lv_at hl 0 rfl) ?_
              have hFc := va_free (wc := wX h0 q d (nI a) la gm gr (upd tc (8 * a + b) 1) ch hf hr hc ce sf sr sm hd nx) hD hS hA [0, 1, 2, 3, 4, 5, 6, 7, 8, 9, 10, 11, 12, 13] rfl
              refine va_callv (va_runV (As := [.int (nI (8 * a + b)), .int (nI k)]) (rest := []) ⟨hx, hb, hml, hown, hts⟩ (mX_fillIn l dC dI h0 q d H_2.size (nI a) la gm gr (upd tc (8 * a + b) 1) ch hf hr hc ce sf sr sm hd nx (8 * a + b) k he hk hI.2.1 c71) (cwV 2 hts (lw_V q93 q95 qs2 q5 q96) rfl rfl rfl (by decide +kernel) ⟨Nat.le_of_ble_eq_true rfl, Nat.le_of_ble_eq_true rfl⟩) ⟨fun a U g mk q => by obtain ⟨q0, q1, qP, qK, qD⟩ := q; exact ⟨q0, q1, qP, va_K.moved (u := U) (U := U.calling g mk a) (Vm.Alike.refl U.vm) qK, qD⟩, va_recv hK hP (ci := 0) (q0 := 0) rfl rfl, fun U hU hW => ⟨rfl, by rw [hU], by rw [hU]; exact hP, va_K.moved hW.alike hK, hD.weaken (fun _ _ _ _ => trivial)⟩⟩ rfl rfl hl.1 rfl (lv_room (Nat.le_of_ble_eq_true rfl)) dX0_reach_120 ⟨Nat.le_of_ble_eq_true rfl, Nat.le_of_ble_eq_true rfl⟩) hS (fun q _ h => hFc q h) hFc (fun u t H_3 locs ht hvm hw hB hz1 hk1 hS => ?_)
              obtain ⟨sf2, sr2, sm2, hd2, nx2⟩ := u
              obtain ⟨hP1, hK1, hD1⟩ := hB
              rw [ht] at hP1
              have hP := hP1
              have hD := hD1.weaken (fun _ _ _ h => hFc _ h)
              have hP : va_P (dC, dI) spCl (wX h0 q d (nI a) la gm gr (upd tc (8 * a + b) 1) ch hf hr hc ce sf2 sr2 sm2 hd2 nx2) H_3 := hP
              have hD : va_D A (wX h0 q d (nI a) la gm gr (upd tc (8 * a + b) 1) ch hf hr hc ce sf2 sr2 sm2 hd2 nx2) := hD
              refine lv_aload_n hx hb dX0_reach_123 rfl (lv_at hl 2 rfl) ?_
              refine va_get (D := (dC, dI)) (ci := 0) (v := .ref (q 5)) (C := RX0) (T := TX0) (N := 15) hx hb hts in_X0 hown hK hP 0 rfl rfl 5 (by decide) (hts _ q20) (fun _ h9 => h9) rfl dX0_reach_124 ?_
              refine lv_iload hx hb dX0_reach_127 (lv_at hl 0 rfl) ?_
              refine sp_ild hx hb hK hP 5 4 rfl rfl k rfl (by omega) (by decide) dX0_reach_129 ?_
              exact W.iret (v := (hf k)) hx hb hret (fun t ht hW => ⟨⟨hf k, ((upd tc (8 * a + b) 1, ch, hc), (sf2, sr2, sm2, hd2, nx2)), rfl, ⟨sp_mr_1 hk hgk c58 c71 c83 c98, sp_inv_fill hI hk hgk (fun _ => Or.inl rfl) (fun _ => Or.inl rfl) hw.1 hw.2⟩, by rw [ht]; exact hP, va_K.moved hW.alike hK, hD⟩, hS.F ht⟩) hS.2.2 dX0_reach_130
            · refine lv_aload_n hx hb dX0_reach_101 rfl (lv_at hl 2 rfl) ?_
              refine va_get (D := (dC, dI)) (ci := 0) (v := .ref (q 4)) (C := RX0) (T := TX0) (N := 15) hx hb hts in_X0 hown hK hP 0 rfl rfl 4 (by decide) (hts _ q19) (fun _ h9 => h9) rfl dX0_reach_102 ?_
              refine lv_iload_n hx hb dX0_reach_105 rfl (lv_at hl 1 rfl) ?_
              refine lv_iconst (v := 1) hx hb dX0_reach_106 (by decide) ?_
              refine sp_zst hx hb hK hP hD hS 4 3 rfl rfl (8 * a + b) rfl (by omega) (by decide) rfl dX0_reach_107 (fun H_4 locs hP hD hS => ?_)
              have hP : va_P (dC, dI) spCl (wX h0 q d (nI a) la gm gr (upd tc (8 * a + b) 1) (upd ch (8 * a + b) 1) hf hr hc ce sf sr sm hd nx) H_4 := hP
              have hD : va_D A (wX h0 q d (nI a) la gm gr (upd tc (8 * a + b) 1) (upd ch (8 * a + b) 1) hf hr hc ce sf sr sm hd nx) := hD
              refine lv_aload_n hx hb dX0_reach_108 rfl (lv_at hl 2 rfl) ?_
              refine va_get (D := (dC, dI)) (ci := 0) (v := .ref (q 7)) (C := RX0) (T := TX0) (N := 15) hx hb hts in_X0 hown hK hP 0 rfl rfl 7 (by decide) (hts _ q22) (fun _ h9 => h9) rfl dX0_reach_109 ?_
              refine lv_iload hx hb dX0_reach_112 (lv_at hl 0 rfl) ?_
              refine lv_iconst (v := 1) hx hb dX0_reach_114 (by decide) ?_
              refine sp_zst hx hb hK hP hD hS 7 6 rfl rfl k rfl (by omega) (by decide) rfl dX0_reach_115 (fun H_5 locs hP hD hS => ?_)
              have hP : va_P (dC, dI) spCl (wX h0 q d (nI a) la gm gr (upd tc (8 * a + b) 1) (upd ch (8 * a + b) 1) hf hr (upd hc k 1) ce sf sr sm hd nx) H_5 := hP
              have hD : va_D A (wX h0 q d (nI a) la gm gr (upd tc (8 * a + b) 1) (upd ch (8 * a + b) 1) hf hr (upd hc k 1) ce sf sr sm hd nx) := hD
              refine lv_aload_n hx hb dX0_reach_116 rfl (lv_at hl 2 rfl) ?_
              refine lv_iload_n hx hb dX0_reach_117 rfl (lv_at hl 1 rfl) ?_
              refine lv_iload hx hb dX0_reach_118 (lv_at hl 0 rfl) ?_
              have hFc := va_free (wc := wX h0 q d (nI a) la gm gr (upd tc (8 * a + b) 1) (upd ch (8 * a + b) 1) hf hr (upd hc k 1) ce sf sr sm hd nx) hD hS hA [0, 1, 2, 3, 4, 5, 6, 7, 8, 9, 10, 11, 12, 13] rfl
              refine va_callv (va_runV (As := [.int (nI (8 * a + b)), .int (nI k)]) (rest := []) ⟨hx, hb, hml, hown, hts⟩ (mX_fillIn l dC dI h0 q d H_5.size (nI a) la gm gr (upd tc (8 * a + b) 1) (upd ch (8 * a + b) 1) hf hr (upd hc k 1) ce sf sr sm hd nx (8 * a + b) k he hk hI.2.1 c71) (cwV 2 hts (lw_V q93 q95 qs2 q5 q96) rfl rfl rfl (by decide +kernel) ⟨Nat.le_of_ble_eq_true rfl, Nat.le_of_ble_eq_true rfl⟩) ⟨fun a U g mk q => by obtain ⟨q0, q1, qP, qK, qD⟩ := q; exact ⟨q0, q1, qP, va_K.moved (u := U) (U := U.calling g mk a) (Vm.Alike.refl U.vm) qK, qD⟩, va_recv hK hP (ci := 0) (q0 := 0) rfl rfl, fun U hU hW => ⟨rfl, by rw [hU], by rw [hU]; exact hP, va_K.moved hW.alike hK, hD.weaken (fun _ _ _ _ => trivial)⟩⟩ rfl rfl hl.1 rfl (lv_room (Nat.le_of_ble_eq_true rfl)) dX0_reach_120 ⟨Nat.le_of_ble_eq_true rfl, Nat.le_of_ble_eq_true rfl⟩) hS (fun q _ h => hFc q h) hFc (fun u t H_6 locs ht hvm hw hB hz1 hk1 hS => ?_)
              obtain ⟨sf2, sr2, sm2, hd2, nx2⟩ := u
              obtain ⟨hP1, hK1, hD1⟩ := hB
              rw [ht] at hP1
              have hP := hP1
              have hD := hD1.weaken (fun _ _ _ h => hFc _ h)
              have hP : va_P (dC, dI) spCl (wX h0 q d (nI a) la gm gr (upd tc (8 * a + b) 1) (upd ch (8 * a + b) 1) hf hr (upd hc k 1) ce sf2 sr2 sm2 hd2 nx2) H_6 := hP
              have hD : va_D A (wX h0 q d (nI a) la gm gr (upd tc (8 * a + b) 1) (upd ch (8 * a + b) 1) hf hr (upd hc k 1) ce sf2 sr2 sm2 hd2 nx2) := hD
              refine lv_aload_n hx hb dX0_reach_123 rfl (lv_at hl 2 rfl) ?_
              refine va_get (D := (dC, dI)) (ci := 0) (v := .ref (q 5)) (C := RX0) (T := TX0) (N := 15) hx hb hts in_X0 hown hK hP 0 rfl rfl 5 (by decide) (hts _ q20) (fun _ h9 => h9) rfl dX0_reach_124 ?_
              refine lv_iload hx hb dX0_reach_127 (lv_at hl 0 rfl) ?_
              refine sp_ild hx hb hK hP 5 4 rfl rfl k rfl (by omega) (by decide) dX0_reach_129 ?_
              exact W.iret (v := (hf k)) hx hb hret (fun t ht hW => ⟨⟨hf k, ((upd tc (8 * a + b) 1, upd ch (8 * a + b) 1, upd hc k 1), (sf2, sr2, sm2, hd2, nx2)), rfl, ⟨sp_mr_2 hk hgk c58 c71 c83 c98, sp_inv_fill hI hk hgk sp_u1 sp_u1 hw.1 hw.2⟩, by rw [ht]; exact hP, va_K.moved hW.alike hK, hD⟩, hS.F ht⟩) hS.2.2 dX0_reach_130
          · refine lv_bipush (v := -3) hx hb dX0_reach_86 (by decide) ?_
            exact W.iret (v := (-3)) hx hb hret (fun t ht hW => ⟨⟨-3, ((tc, ch, hc), (sf, sr, sm, hd, nx)), rfl, ⟨(sp_mr_h hk hgk c58 (Or.inr c83)).symm, hI⟩, by rw [ht]; exact hP, va_K.moved hW.alike hK, hD⟩, hS.F ht⟩) hS.2.2 dX0_reach_88
      · refine lv_bipush (v := -2) hx hb dX0_reach_61 (by decide) ?_
        exact W.iret (v := (-2)) hx hb hret (fun t ht hW => ⟨⟨-2, ((tc, ch, hc), (sf, sr, sm, hd, nx)), rfl, ⟨(sp_mr_g (Or.inr c58)).symm, hI⟩, by rw [ht]; exact hP, va_K.moved hW.alike hK, hD⟩, hS.F ht⟩) hS.2.2 dX0_reach_63
  · refine lv_aload_n hx hb dX0_reach_19 rfl (lv_at hl 1 rfl) ?_
    refine va_get (D := (dC, dI)) (ci := 0) (v := .ref (q 10)) (C := RX0) (T := TX0) (N := 15) hx hb hts in_X0 hown hK hP 0 rfl rfl 11 (by decide) (hts _ q26) (fun _ h9 => h9) rfl dX0_reach_20 ?_
    refine lv_iload_n hx hb dX0_reach_23 rfl (lv_at hl 0 rfl) ?_
    refine sp_ild hx hb hK hP 10 9 rfl rfl (8 * a + b) rfl (by omega) (by decide) dX0_reach_24 ?_
    refine lv_iload_n hx hb dX0_reach_25 rfl (lv_at hl 3 rfl) ?_
    refine lv_iand hx hb dX0_reach_26 ?_
    refine lv_if_eq (tgt := 37) hx hb dX0_reach_27 (by decide) (fun c27 => ?_) (fun c27 => ?_)
    · refine lv_aload_n hx hb dX0_reach_37 rfl (lv_at hl 1 rfl) ?_
      refine va_get (D := (dC, dI)) (ci := 0) (v := .ref (q 1)) (C := RX0) (T := TX0) (N := 15) hx hb hts in_X0 hown hK hP 0 rfl rfl 1 (by decide) (hts _ q16) (fun _ h9 => h9) rfl dX0_reach_38 ?_
      refine lv_iload_n hx hb dX0_reach_41 rfl (lv_at hl 0 rfl) ?_
      refine sp_ild hx hb hK hP 1 0 rfl rfl (8 * a + b) rfl (by omega) (by decide) dX0_reach_42 ?_
      refine lv_istore (lv' := [(4, .int (gm (8 * a + b))), (3, .int (nI (8 * a + b))), (0, .ref h0), (1, .int (nI b)), (2, .int x2)]) hx hb dX0_reach_43 hl (by decide) rfl (fun ls hl => ?_)
      refine lv_iload hx hb dX0_reach_45 (lv_at hl 0 rfl) ?_
      refine lv_if_lt (tgt := 61) hx hb dX0_reach_47 (by decide) (fun c47 => ?_) (fun c47 => ?_)
      · refine lv_bipush (v := -2) hx hb dX0_reach_61 (by decide) ?_
        exact W.iret (v := (-2)) hx hb hret (fun t ht hW => ⟨⟨-2, ((tc, ch, hc), (sf, sr, sm, hd, nx)), rfl, ⟨(sp_mr_g (Or.inl c47)).symm, hI⟩, by rw [ht]; exact hP, va_K.moved hW.alike hK, hD⟩, hS.F ht⟩) hS.2.2 dX0_reach_63
      · obtain ⟨k, hk, hgk⟩ := hI.1.2.1 _ he c47
        rw [hgk] at hl
        refine lv_aload_n hx hb dX0_reach_50 rfl (lv_at hl 2 rfl) ?_
        refine va_get (D := (dC, dI)) (ci := 0) (v := .ref (q 2)) (C := RX0) (T := TX0) (N := 15) hx hb hts in_X0 hown hK hP 0 rfl rfl 2 (by decide) (hts _ q17) (fun _ h9 => h9) rfl dX0_reach_51 ?_
        refine lv_iload_n hx hb dX0_reach_54 rfl (lv_at hl 1 rfl) ?_
        refine sp_ild hx hb hK hP 2 1 rfl rfl (8 * a + b) rfl (by omega) (by decide) dX0_reach_55 ?_
        refine lv_iload_n hx hb dX0_reach_56 rfl (lv_at hl 4 rfl) ?_
        refine lv_iand hx hb dX0_reach_57 ?_
        refine lv_if_ne (tgt := 64) hx hb dX0_reach_58 (by decide) (fun c58 => ?_) (fun c58 => ?_)
        · refine lv_aload_n hx hb dX0_reach_64 rfl (lv_at hl 2 rfl) ?_
          refine va_get (D := (dC, dI)) (ci := 0) (v := .ref (q 5)) (C := RX0) (T := TX0) (N := 15) hx hb hts in_X0 hown hK hP 0 rfl rfl 5 (by decide) (hts _ q20) (fun _ h9 => h9) rfl dX0_reach_65 ?_
          refine lv_iload hx hb dX0_reach_68 (lv_at hl 0 rfl) ?_
          refine sp_ild hx hb hK hP 5 4 rfl rfl k rfl (by omega) (by decide) dX0_reach_70 ?_
          refine lv_if_lt (tgt := 86) hx hb dX0_reach_71 (by decide) (fun c71 => ?_) (fun c71 => ?_)
          · refine lv_bipush (v := -3) hx hb dX0_reach_86 (by decide) ?_
            exact W.iret (v := (-3)) hx hb hret (fun t ht hW => ⟨⟨-3, ((tc, ch, hc), (sf, sr, sm, hd, nx)), rfl, ⟨(sp_mr_h hk hgk c58 (Or.inl c71)).symm, hI⟩, by rw [ht]; exact hP, va_K.moved hW.alike hK, hD⟩, hS.F ht⟩) hS.2.2 dX0_reach_88
          · refine lv_aload_n hx hb dX0_reach_74 rfl (lv_at hl 2 rfl) ?_
            refine va_get (D := (dC, dI)) (ci := 0) (v := .ref (q 6)) (C := RX0) (T := TX0) (N := 15) hx hb hts in_X0 hown hK hP 0 rfl rfl 6 (by decide) (hts _ q21) (fun _ h9 => h9) rfl dX0_reach_75 ?_
            refine lv_iload hx hb dX0_reach_78 (lv_at hl 0 rfl) ?_
            refine sp_ild hx hb hK hP 6 5 rfl rfl k rfl (by omega) (by decide) dX0_reach_80 ?_
            refine lv_iload_n hx hb dX0_reach_81 rfl (lv_at hl 4 rfl) ?_
            refine lv_iand hx hb dX0_reach_82 ?_
            refine lv_if_ne (tgt := 89) hx hb dX0_reach_83 (by decide) (fun c83 => ?_) (fun c83 => ?_)
            · refine lv_aload_n hx hb dX0_reach_89 rfl (lv_at hl 2 rfl) ?_
              refine va_get (D := (dC, dI)) (ci := 0) (v := .ref (q 3)) (C := RX0) (T := TX0) (N := 15) hx hb hts in_X0 hown hK hP 0 rfl rfl 3 (by decide) (hts _ q18) (fun _ h9 => h9) rfl dX0_reach_90 ?_
              refine lv_iload_n hx hb dX0_reach_93 rfl (lv_at hl 1 rfl) ?_
              refine lv_iconst (v := 1) hx hb dX0_reach_94 (by decide) ?_
              refine sp_zst hx hb hK hP hD hS 3 2 rfl rfl (8 * a + b) rfl (by omega) (by decide) rfl dX0_reach_95 (fun H_7 locs hP hD hS => ?_)
              have hP : va_P (dC, dI) spCl (wX h0 q d (nI a) la gm gr (upd tc (8 * a + b) 1) ch hf hr hc ce sf sr sm hd nx) H_7 := hP
              have hD : va_D A (wX h0 q d (nI a) la gm gr (upd tc (8 * a + b) 1) ch hf hr hc ce sf sr sm hd nx) := hD
              refine lv_iload_n hx hb dX0_reach_96 rfl (lv_at hl 4 rfl) ?_
              refine lv_iconst (v := 2) hx hb dX0_reach_97 (by decide) ?_
              refine lv_icmp_ne (tgt := 116) hx hb dX0_reach_98 (by decide) (fun c98 => ?_) (fun c98 => ?_)
              · refine lv_aload_n hx hb dX0_reach_116 rfl (lv_at hl 2 rfl) ?_
                refine lv_iload_n hx hb dX0_reach_117 rfl (lv_at hl 1 rfl) ?_
                refine lv_iload hx hb dX0_reach_118 (lv_at hl 0 rfl) ?_
                have hFc := va_free (wc := wX h0 q d (nI a) la gm gr (upd tc (8 * a + b) 1) ch hf hr hc ce sf sr sm hd nx) hD hS hA [0, 1, 2, 3, 4, 5, 6, 7, 8, 9, 10, 11, 12, 13] rfl
                refine va_callv (va_runV (As := [.int (nI (8 * a + b)), .int (nI k)]) (rest := []) ⟨hx, hb, hml, hown, hts⟩ (mX_fillIn l dC dI h0 q d H_7.size (nI a) la gm gr (upd tc (8 * a + b) 1) ch hf hr hc ce sf sr sm hd nx (8 * a + b) k he hk hI.2.1 c71) (cwV 2 hts (lw_V q93 q95 qs2 q5 q96) rfl rfl rfl (by decide +kernel) ⟨Nat.le_of_ble_eq_true rfl, Nat.le_of_ble_eq_true rfl⟩) ⟨fun a U g mk q => by obtain ⟨q0, q1, qP, qK, qD⟩ := q; exact ⟨q0, q1, qP, va_K.moved (u := U) (U := U.calling g mk a) (Vm.Alike.refl U.vm) qK, qD⟩, va_recv hK hP (ci := 0) (q0 := 0) rfl rfl, fun U hU hW => ⟨rfl, by rw [hU], by rw [hU]; exact hP, va_K.moved hW.alike hK, hD.weaken (fun _ _ _ _ => trivial)⟩⟩ rfl rfl hl.1 rfl (lv_room (Nat.le_of_ble_eq_true rfl)) dX0_reach_120 ⟨Nat.le_of_ble_eq_true rfl, Nat.le_of_ble_eq_true rfl⟩) hS (fun q _ h => hFc q h) hFc (fun u t H_8 locs ht hvm hw hB hz1 hk1 hS => ?_)
                obtain ⟨sf2, sr2, sm2, hd2, nx2⟩ := u
                obtain ⟨hP1, hK1, hD1⟩ := hB
                rw [ht] at hP1
                have hP := hP1
                have hD := hD1.weaken (fun _ _ _ h => hFc _ h)
                have hP : va_P (dC, dI) spCl (wX h0 q d (nI a) la gm gr (upd tc (8 * a + b) 1) ch hf hr hc ce sf2 sr2 sm2 hd2 nx2) H_8 := hP
                have hD : va_D A (wX h0 q d (nI a) la gm gr (upd tc (8 * a + b) 1) ch hf hr hc ce sf2 sr2 sm2 hd2 nx2) := hD
                refine lv_aload_n hx hb dX0_reach_123 rfl (lv_at hl 2 rfl) ?_
                refine va_get (D := (dC, dI)) (ci := 0) (v := .ref (q 5)) (C := RX0) (T := TX0) (N := 15) hx hb hts in_X0 hown hK hP 0 rfl rfl 5 (by decide) (hts _ q20) (fun _ h9 => h9) rfl dX0_reach_124 ?_
                refine lv_iload hx hb dX0_reach_127 (lv_at hl 0 rfl) ?_
                refine sp_ild hx hb hK hP 5 4 rfl rfl k rfl (by omega) (by decide) dX0_reach_129 ?_
                exact W.iret (v := (hf k)) hx hb hret (fun t ht hW => ⟨⟨hf k, ((upd tc (8 * a + b) 1, ch, hc), (sf2, sr2, sm2, hd2, nx2)), rfl, ⟨sp_mr_1 hk hgk c58 c71 c83 c98, sp_inv_fill hI hk hgk (fun _ => Or.inl rfl) (fun _ => Or.inl rfl) hw.1 hw.2⟩, by rw [ht]; exact hP, va_K.moved hW.alike hK, hD⟩, hS.F ht⟩) hS.2.2 dX0_reach_130
              · refine lv_aload_n hx hb dX0_reach_101 rfl (lv_at hl 2 rfl) ?_
                refine va_get (D := (dC, dI)) (ci := 0) (v := .ref (q 4)) (C := RX0) (T := TX0) (N := 15) hx hb hts in_X0 hown hK hP 0 rfl rfl 4 (by decide) (hts _ q19) (fun _ h9 => h9) rfl dX0_reach_102 ?_
                refine lv_iload_n hx hb dX0_reach_105 rfl (lv_at hl 1 rfl) ?_
                refine lv_iconst (v := 1) hx hb dX0_reach_106 (by decide) ?_
                refine sp_zst hx hb hK hP hD hS 4 3 rfl rfl (8 * a + b) rfl (by omega) (by decide) rfl dX0_reach_107 (fun H_9 locs hP hD hS => ?_)
                have hP : va_P (dC, dI) spCl (wX h0 q d (nI a) la gm gr (upd tc (8 * a + b) 1) (upd ch (8 * a + b) 1) hf hr hc ce sf sr sm hd nx) H_9 := hP
                have hD : va_D A (wX h0 q d (nI a) la gm gr (upd tc (8 * a + b) 1) (upd ch (8 * a + b) 1) hf hr hc ce sf sr sm hd nx) := hD
                refine lv_aload_n hx hb dX0_reach_108 rfl (lv_at hl 2 rfl) ?_
                refine va_get (D := (dC, dI)) (ci := 0) (v := .ref (q 7)) (C := RX0) (T := TX0) (N := 15) hx hb hts in_X0 hown hK hP 0 rfl rfl 7 (by decide) (hts _ q22) (fun _ h9 => h9) rfl dX0_reach_109 ?_
                refine lv_iload hx hb dX0_reach_112 (lv_at hl 0 rfl) ?_
                refine lv_iconst (v := 1) hx hb dX0_reach_114 (by decide) ?_
                refine sp_zst hx hb hK hP hD hS 7 6 rfl rfl k rfl (by omega) (by decide) rfl dX0_reach_115 (fun H_10 locs hP hD hS => ?_)
                have hP : va_P (dC, dI) spCl (wX h0 q d (nI a) la gm gr (upd tc (8 * a + b) 1) (upd ch (8 * a + b) 1) hf hr (upd hc k 1) ce sf sr sm hd nx) H_10 := hP
                have hD : va_D A (wX h0 q d (nI a) la gm gr (upd tc (8 * a + b) 1) (upd ch (8 * a + b) 1) hf hr (upd hc k 1) ce sf sr sm hd nx) := hD
                refine lv_aload_n hx hb dX0_reach_116 rfl (lv_at hl 2 rfl) ?_
                refine lv_iload_n hx hb dX0_reach_117 rfl (lv_at hl 1 rfl) ?_
                refine lv_iload hx hb dX0_reach_118 (lv_at hl 0 rfl) ?_
                have hFc := va_free (wc := wX h0 q d (nI a) la gm gr (upd tc (8 * a + b) 1) (upd ch (8 * a + b) 1) hf hr (upd hc k 1) ce sf sr sm hd nx) hD hS hA [0, 1, 2, 3, 4, 5, 6, 7, 8, 9, 10, 11, 12, 13] rfl
                refine va_callv (va_runV (As := [.int (nI (8 * a + b)), .int (nI k)]) (rest := []) ⟨hx, hb, hml, hown, hts⟩ (mX_fillIn l dC dI h0 q d H_10.size (nI a) la gm gr (upd tc (8 * a + b) 1) (upd ch (8 * a + b) 1) hf hr (upd hc k 1) ce sf sr sm hd nx (8 * a + b) k he hk hI.2.1 c71) (cwV 2 hts (lw_V q93 q95 qs2 q5 q96) rfl rfl rfl (by decide +kernel) ⟨Nat.le_of_ble_eq_true rfl, Nat.le_of_ble_eq_true rfl⟩) ⟨fun a U g mk q => by obtain ⟨q0, q1, qP, qK, qD⟩ := q; exact ⟨q0, q1, qP, va_K.moved (u := U) (U := U.calling g mk a) (Vm.Alike.refl U.vm) qK, qD⟩, va_recv hK hP (ci := 0) (q0 := 0) rfl rfl, fun U hU hW => ⟨rfl, by rw [hU], by rw [hU]; exact hP, va_K.moved hW.alike hK, hD.weaken (fun _ _ _ _ => trivial)⟩⟩ rfl rfl hl.1 rfl (lv_room (Nat.le_of_ble_eq_true rfl)) dX0_reach_120 ⟨Nat.le_of_ble_eq_true rfl, Nat.le_of_ble_eq_true rfl⟩) hS (fun q _ h => hFc q h) hFc (fun u t H_11 locs ht hvm hw hB hz1 hk1 hS => ?_)
                obtain ⟨sf2, sr2, sm2, hd2, nx2⟩ := u
                obtain ⟨hP1, hK1, hD1⟩ := hB
                rw [ht] at hP1
                have hP := hP1
                have hD := hD1.weaken (fun _ _ _ h => hFc _ h)
                have hP : va_P (dC, dI) spCl (wX h0 q d (nI a) la gm gr (upd tc (8 * a + b) 1) (upd ch (8 * a + b) 1) hf hr (upd hc k 1) ce sf2 sr2 sm2 hd2 nx2) H_11 := hP
                have hD : va_D A (wX h0 q d (nI a) la gm gr (upd tc (8 * a + b) 1) (upd ch (8 * a + b) 1) hf hr (upd hc k 1) ce sf2 sr2 sm2 hd2 nx2) := hD
                refine lv_aload_n hx hb dX0_reach_123 rfl (lv_at hl 2 rfl) ?_
                refine va_get (D := (dC, dI)) (ci := 0) (v := .ref (q 5)) (C := RX0) (T := TX0) (N := 15) hx hb hts in_X0 hown hK hP 0 rfl rfl 5 (by decide) (hts _ q20) (fun _ h9 => h9) rfl dX0_reach_124 ?_
                refine lv_iload hx hb dX0_reach_127 (lv_at hl 0 rfl) ?_
                refine sp_ild hx hb hK hP 5 4 rfl rfl k rfl (by omega) (by decide) dX0_reach_129 ?_
                exact W.iret (v := (hf k)) hx hb hret (fun t ht hW => ⟨⟨hf k, ((upd tc (8 * a + b) 1, upd ch (8 * a + b) 1, upd hc k 1), (sf2, sr2, sm2, hd2, nx2)), rfl, ⟨sp_mr_2 hk hgk c58 c71 c83 c98, sp_inv_fill hI hk hgk sp_u1 sp_u1 hw.1 hw.2⟩, by rw [ht]; exact hP, va_K.moved hW.alike hK, hD⟩, hS.F ht⟩) hS.2.2 dX0_reach_130
            · refine lv_bipush (v := -3) hx hb dX0_reach_86 (by decide) ?_
              exact W.iret (v := (-3)) hx hb hret (fun t ht hW => ⟨⟨-3, ((tc, ch, hc), (sf, sr, sm, hd, nx)), rfl, ⟨(sp_mr_h hk hgk c58 (Or.inr c83)).symm, hI⟩, by rw [ht]; exact hP, va_K.moved hW.alike hK, hD⟩, hS.F ht⟩) hS.2.2 dX0_reach_88
        · refine lv_bipush (v := -2) hx hb dX0_reach_61 (by decide) ?_
          exact W.iret (v := (-2)) hx hb hret (fun t ht hW => ⟨⟨-2, ((tc, ch, hc), (sf, sr, sm, hd, nx)), rfl, ⟨(sp_mr_g (Or.inr c58)).symm, hI⟩, by rw [ht]; exact hP, va_K.moved hW.alike hK, hD⟩, hS.F ht⟩) hS.2.2 dX0_reach_63
    · refine lv_aload_n hx hb dX0_reach_30 rfl (lv_at hl 1 rfl) ?_
      refine va_get (D := (dC, dI)) (ci := 0) (v := .ref (q 9)) (C := RX0) (T := TX0) (N := 15) hx hb hts in_X0 hown hK hP 0 rfl rfl 10 (by decide) (hts _ q25) (fun _ h9 => h9) rfl dX0_reach_31 ?_
      refine lv_iload_n hx hb dX0_reach_34 rfl (lv_at hl 0 rfl) ?_
      refine sp_ild hx hb hK hP 9 8 rfl rfl (8 * a + b) rfl (by omega) (by decide) dX0_reach_35 ?_
      exact W.iret (v := (sf (8 * a + b))) hx hb hret (fun t ht hW => ⟨⟨sf (8 * a + b), ((tc, ch, hc), (sf, sr, sm, hd, nx)), rfl, ⟨sp_hit hI he h3 c16 c27, hI⟩, by rw [ht]; exact hP, va_K.moved hW.alike hK, hD⟩, hS.F ht⟩) hS.2.2 dX0_reach_36
end
section
set_option maxHeartbeats 4000000 in
set_option maxRecDepth 100000 in
theorem mX_setGuest (l : Launch) (dC : Nat → ClassId) (dI : Nat → Nat → Nat) (h0 : Nat) (q : Nat → Nat) (d : Nat → ClassId) (sz : Nat) (pr la : Int32) (gm gr tc ch hf hr hc ce sf sr sm hd nx : FN) (x1 x2 x3 x4 : Int32) (hI : sp_INV pr gm gr tc ch hf hr hc sf sr sm hd nx) : Met l yX0_setGuest (ws_ yX0_setGuest cX0_setGuest 6 (some .int)) ({ frames := 1, cells := 0, slots := 0, locals := 24 }) (va_Pc [.ref h0, .int x1, .int x2, .int x3, .int x4] (fun U => U.heap.size = sz ∧ va_P (dC, dI) spCl (wX h0 q d pr la gm gr tc ch hf hr hc ce sf sr sm hd nx) U.heap ∧ va_K (dC, dI) spCl (tyX d) U ∧ va_D (fun _ => True) (wX h0 q d pr la gm gr tc ch hf hr hc ce sf sr sm hd nx))) (va_Qi (fun (r : Int32) (u : PT × PS) => (r, u.1) = sp_setGuest pr la gm gr tc ch hf hr hc ce x1 x2 x3 x4 ∧ sp_Inv u) (fun u t => BXu dC dI (va_A (wX h0 q d pr la gm gr tc ch hf hr hc ce sf sr sm hd nx) sz) h0 q d u t) (va_A (wX h0 q d pr la gm gr tc ch hf hr hc ce sf sr sm hd nx) sz)) 0 0 (va_A (wX h0 q d pr la gm gr tc ch hf hr hc ce sf sr sm hd nx) sz) := by
  refine Met.ofW (cc := cX0_setGuest) (maxL := 6) (ret := (some .int)) (by decide) rfl ?_
  intro p ev s m args below meth c s₁ B hml hv
  obtain ⟨rfl, hsz, hP, hK, hD0⟩ := hv
  have hx := B.exec
  have hb := B.bytes
  have hret := B.returns
  have hts := atoms_spec (ws := (ws_ yX0_setGuest cX0_setGuest 6 (some .int))) B.pre
  have hts : ∀ w ∈ lw_all, w.before _ s = true := fun w h => hts w (List.mem_cons_of_mem _ h)
  have hown : s.vm.findClass RX0 = some m.cls := findClass_of_methodNamed B.named
  have hlocks := B.notSynchronized
  subst hsz
  have hD := hD0.self (sz := s.heap.size)
  generalize hAe : va_A (wX h0 q d pr la gm gr tc ch hf hr hc ce sf sr sm hd nx) s.heap.size = A at hD ⊢
  have hA : ∀ q : Nat, s.heap.size ≤ q → A q := fun q h => by rw [← hAe]; exact Or.inr h
  have hS : va_S A s.heap s.heap [] := va_S.rf
  have hl := lv_entry ([.ref h0, .int x1, .int x2, .int x3, .int x4]) (n := 6) (Nat.le_of_ble_eq_true rfl)
  rw [lg_entry_eq]
  generalize (lg_sl ([.ref h0, .int x1, .int x2, .int x3, .int x4]) ++ List.replicate (6 - (lg_sl ([.ref h0, .int x1, .int x2, .int x3, .int x4])).length) Slot.unset).toArray = ls at hl ⊢
  have hl : lv_has ls 6 [(0, .ref h0), (1, .int x1), (2, .int x2), (3, .int x3), (4, .int x4)] := hl
  refine lv_iload_n hx hb dX0_setGuest_0 rfl (lv_at hl 1 rfl) ?_
  have hFc := va_free (wc := []) hD hS hA [] rfl
  refine va_calli (va_runS (As := [.int x1]) (rest := []) ⟨hx, hb, hml, hown, hts⟩ (mX_isSpace l x1 s.heap.size) (va_cwS 1 hts (lw_S q67 q68 q5 q69) rfl rfl rfl (by decide +kernel) ⟨Nat.le_of_ble_eq_true rfl, Nat.le_of_ble_eq_true rfl⟩) ⟨fun a U g mk q => ⟨q.1, q.2⟩, fun U hU hW => ⟨rfl, congrArg Array.size hU⟩⟩ rfl rfl hl.1 rfl (lv_room (Nat.le_of_ble_eq_true rfl)) dX0_setGuest_1 ⟨Nat.le_of_ble_eq_true rfl, Nat.le_of_ble_eq_true rfl⟩) hS (fun q _ h => hFc q h) hFc (fun r1 u t H_1 locs ht hvm hw_r1 hB hz1 hk1 hS => ?_)
  have hP := sp_keep hP hk1
  refine lv_if_eq (tgt := 25) hx hb dX0_setGuest_4 (by decide) (fun c4 => ?_) (fun c4 => ?_)
  · refine lv_iconst (v := -1) hx hb dX0_setGuest_25 (by decide) ?_
    exact W.iret (v := (-1)) hx hb hret (fun t ht hW => ⟨⟨-1, ((pr, la, gm, gr, tc, ch, hf, hr, hc, ce), (sf, sr, sm, hd, nx)), rfl, ⟨sp_setGuest_b (Or.inl (Or.inl (sp_psp0 hw_r1 c4))), hI⟩, by rw [ht]; exact hP, va_K.moved hW.alike hK, hD⟩, hS.F ht⟩) hS.2.2 dX0_setGuest_26
  · obtain ⟨a, ha, rfl⟩ := sp_psp1 hw_r1 c4
    refine lv_iload_n hx hb dX0_setGuest_7 rfl (lv_at hl 2 rfl) ?_
    have hFc := va_free (wc := []) hD hS hA [] rfl
    refine va_calli (va_runS (As := [.int x2]) (rest := []) ⟨hx, hb, hml, hown, hts⟩ (mX_isNumber l x2 H_1.size) (va_cwS 1 hts (lw_S q70 q71 q5 q72) rfl rfl rfl (by decide +kernel) ⟨Nat.le_of_ble_eq_true rfl, Nat.le_of_ble_eq_true rfl⟩) ⟨fun a U g mk q => ⟨q.1, q.2⟩, fun U hU hW => ⟨rfl, congrArg Array.size hU⟩⟩ rfl rfl hl.1 rfl (lv_room (Nat.le_of_ble_eq_true rfl)) dX0_setGuest_8 ⟨Nat.le_of_ble_eq_true rfl, Nat.le_of_ble_eq_true rfl⟩) hS (fun q _ h => hFc q h) hFc (fun r2 u t H_2 locs ht hvm hw_r2 hB hz1 hk1 hS => ?_)
    have hP := sp_keep hP hk1
    refine lv_if_eq (tgt := 25) hx hb dX0_setGuest_11 (by decide) (fun c11 => ?_) (fun c11 => ?_)
    · refine lv_iconst (v := -1) hx hb dX0_setGuest_25 (by decide) ?_
      exact W.iret (v := (-1)) hx hb hret (fun t ht hW => ⟨⟨-1, ((pr, la, gm, gr, tc, ch, hf, hr, hc, ce), (sf, sr, sm, hd, nx)), rfl, ⟨sp_setGuest_b (Or.inl (Or.inr (sp_pnm0 hw_r2 c11))), hI⟩, by rw [ht]; exact hP, va_K.moved hW.alike hK, hD⟩, hS.F ht⟩) hS.2.2 dX0_setGuest_26
    · obtain ⟨b, hb8, rfl⟩ := sp_pnm1 hw_r2 c11
      refine lv_iload_n hx hb dX0_setGuest_14 rfl (lv_at hl 3 rfl) ?_
      refine lv_iconst (v := -1) hx hb dX0_setGuest_15 (by decide) ?_
      refine lv_icmp_lt (tgt := 25) hx hb dX0_setGuest_16 (by decide) (fun c16 => ?_) (fun c16 => ?_)
      · refine lv_iconst (v := -1) hx hb dX0_setGuest_25 (by decide) ?_
        exact W.iret (v := (-1)) hx hb hret (fun t ht hW => ⟨⟨-1, ((pr, la, gm, gr, tc, ch, hf, hr, hc, ce), (sf, sr, sm, hd, nx)), rfl, ⟨sp_setGuest_b (Or.inr (Or.inl c16)), hI⟩, by rw [ht]; exact hP, va_K.moved hW.alike hK, hD⟩, hS.F ht⟩) hS.2.2 dX0_setGuest_26
      · refine lv_iload_n hx hb dX0_setGuest_19 rfl (lv_at hl 3 rfl) ?_
        refine lv_bipush (v := 7) hx hb dX0_setGuest_20 (by decide) ?_
        refine lv_icmp_le (tgt := 27) hx hb dX0_setGuest_22 (by decide) (fun c22 => ?_) (fun c22 => ?_)
        · refine lv_bipush (v := 8) hx hb dX0_setGuest_27 (by decide) ?_
          refine lv_iload_n hx hb dX0_setGuest_29 rfl (lv_at hl 1 rfl) ?_
          refine lv_imul hx hb dX0_setGuest_30 ?_
          refine lv_iload_n hx hb dX0_setGuest_31 rfl (lv_at hl 2 rfl) ?_
          refine lv_iadd hx hb dX0_setGuest_32 ?_
          refine lv_topi (fun v_3 ev_3 => ?_)
          obtain rfl : v_3 = nI (8 * a + b) := ev_3.trans (sp_ixI a b)
          have he : 8 * a + b < 16 := by omega
          refine lv_istore (lv' := [(5, .int (nI (8 * a + b))), (0, .ref h0), (1, .int (nI a)), (2, .int (nI b)), (3, .int x3), (4, .int x4)]) hx hb dX0_setGuest_33 hl (by decide) rfl (fun ls hl => ?_)
          refine lv_aload_n hx hb dX0_setGuest_35 rfl (lv_at hl 1 rfl) ?_
          refine lv_iload hx hb dX0_setGuest_36 (lv_at hl 0 rfl) ?_
          have hFc := va_free (wc := wX h0 q d pr la gm gr tc ch hf hr hc ce sf sr sm hd nx) hD hS hA [0, 1, 2, 3, 4, 5, 6, 7, 8, 9, 10, 11, 12, 13] rfl
          refine va_callv (va_runV (As := [.int (nI (8 * a + b))]) (rest := []) ⟨hx, hb, hml, hown, hts⟩ (mX_takeBack l dC dI h0 q d H_2.size pr la gm gr tc ch hf hr hc ce sf sr sm hd nx (8 * a + b) he hI.2.1) (cwV 1 hts (lw_V q73 q75 qs0 q5 q76) rfl rfl rfl (by decide +kernel) ⟨Nat.le_of_ble_eq_true rfl, Nat.le_of_ble_eq_true rfl⟩) ⟨fun a U g mk q => by obtain ⟨q0, q1, qP, qK, qD⟩ := q; exact ⟨q0, q1, qP, va_K.moved (u := U) (U := U.calling g mk a) (Vm.Alike.refl U.vm) qK, qD⟩, va_recv hK hP (ci := 0) (q0 := 0) rfl rfl, fun U hU hW => ⟨rfl, by rw [hU], by rw [hU]; exact hP, va_K.moved hW.alike hK, hD.weaken (fun _ _ _ _ => trivial)⟩⟩ rfl rfl hl.1 rfl (lv_room (Nat.le_of_ble_eq_true rfl)) dX0_setGuest_38 ⟨Nat.le_of_ble_eq_true rfl, Nat.le_of_ble_eq_true rfl⟩) hS (fun q _ h => hFc q h) hFc (fun u t H_4 locs ht hvm hw hB hz1 hk1 hS => ?_)
          obtain ⟨sf1, hd1, nx1⟩ := u
          obtain ⟨hP1, hK1, hD1⟩ := hB
          rw [ht] at hP1
          have hP := hP1
          have hD := hD1.weaken (fun _ _ _ h => hFc _ h)
          have hP : va_P (dC, dI) spCl (wX h0 q d pr la gm gr tc ch hf hr hc ce sf1 sr sm hd1 nx1) H_4 := hP
          have hD : va_D A (wX h0 q d pr la gm gr tc ch hf hr hc ce sf1 sr sm hd1 nx1) := hD
          refine lv_aload_n hx hb dX0_setGuest_41 rfl (lv_at hl 1 rfl) ?_
          refine va_get (D := (dC, dI)) (ci := 0) (v := .ref (q 1)) (C := RX0) (T := TX0) (N := 15) hx hb hts in_X0 hown hK hP 0 rfl rfl 1 (by decide) (hts _ q16) (fun _ h9 => h9) rfl dX0_setGuest_42 ?_
          refine lv_iload hx hb dX0_setGuest_45 (lv_at hl 0 rfl) ?_
          refine lv_iload_n hx hb dX0_setGuest_47 rfl (lv_at hl 4 rfl) ?_
          refine sp_ist hx hb hK hP hD hS 1 0 rfl rfl (8 * a + b) rfl (by omega) (by decide) dX0_setGuest_48 (fun H_5 locs hP hD hS => ?_)
          have hP : va_P (dC, dI) spCl (wX h0 q d pr la (upd gm (8 * a + b) x3) gr tc ch hf hr hc ce sf1 sr sm hd1 nx1) H_5 := hP
          have hD : va_D A (wX h0 q d pr la (upd gm (8 * a + b) x3) gr tc ch hf hr hc ce sf1 sr sm hd1 nx1) := hD
          refine lv_aload_n hx hb dX0_setGuest_49 rfl (lv_at hl 1 rfl) ?_
          refine va_get (D := (dC, dI)) (ci := 0) (v := .ref (q 2)) (C := RX0) (T := TX0) (N := 15) hx hb hts in_X0 hown hK hP 0 rfl rfl 2 (by decide) (hts _ q17) (fun _ h9 => h9) rfl dX0_setGuest_50 ?_
          refine lv_iload hx hb dX0_setGuest_53 (lv_at hl 0 rfl) ?_
          refine lv_iload hx hb dX0_setGuest_55 (lv_at hl 5 rfl) ?_
          refine lv_bipush (v := 7) hx hb dX0_setGuest_57 (by decide) ?_
          refine lv_iand hx hb dX0_setGuest_59 ?_
          refine sp_ist hx hb hK hP hD hS 2 1 rfl rfl (8 * a + b) rfl (by omega) (by decide) dX0_setGuest_60 (fun H_6 locs hP hD hS => ?_)
          have hP : va_P (dC, dI) spCl (wX h0 q d pr la (upd gm (8 * a + b) x3) (upd gr (8 * a + b) (x4 &&& 7)) tc ch hf hr hc ce sf1 sr sm hd1 nx1) H_6 := hP
          have hD : va_D A (wX h0 q d pr la (upd gm (8 * a + b) x3) (upd gr (8 * a + b) (x4 &&& 7)) tc ch hf hr hc ce sf1 sr sm hd1 nx1) := hD
          refine lv_aload_n hx hb dX0_setGuest_61 rfl (lv_at hl 1 rfl) ?_
          refine va_get (D := (dC, dI)) (ci := 0) (v := .ref (q 3)) (C := RX0) (T := TX0) (N := 15) hx hb hts in_X0 hown hK hP 0 rfl rfl 3 (by decide) (hts _ q18) (fun _ h9 => h9) rfl dX0_setGuest_62 ?_
          refine lv_iload hx hb dX0_setGuest_65 (lv_at hl 0 rfl) ?_
          refine lv_iconst (v := 0) hx hb dX0_setGuest_67 (by decide) ?_
          refine sp_zst hx hb hK hP hD hS 3 2 rfl rfl (8 * a + b) rfl (by omega) (by decide) rfl dX0_setGuest_68 (fun H_7 locs hP hD hS => ?_)
          have hP : va_P (dC, dI) spCl (wX h0 q d pr la (upd gm (8 * a + b) x3) (upd gr (8 * a + b) (x4 &&& 7)) (upd tc (8 * a + b) 0) ch hf hr hc ce sf1 sr sm hd1 nx1) H_7 := hP
          have hD : va_D A (wX h0 q d pr la (upd gm (8 * a + b) x3) (upd gr (8 * a + b) (x4 &&& 7)) (upd tc (8 * a + b) 0) ch hf hr hc ce sf1 sr sm hd1 nx1) := hD
          refine lv_aload_n hx hb dX0_setGuest_69 rfl (lv_at hl 1 rfl) ?_
          refine va_get (D := (dC, dI)) (ci := 0) (v := .ref (q 4)) (C := RX0) (T := TX0) (N := 15) hx hb hts in_X0 hown hK hP 0 rfl rfl 4 (by decide) (hts _ q19) (fun _ h9 => h9) rfl dX0_setGuest_70 ?_
          refine lv_iload hx hb dX0_setGuest_73 (lv_at hl 0 rfl) ?_
          refine lv_iconst (v := 0) hx hb dX0_setGuest_75 (by decide) ?_
          refine sp_zst hx hb hK hP hD hS 4 3 rfl rfl (8 * a + b) rfl (by omega) (by decide) rfl dX0_setGuest_76 (fun H_8 locs hP hD hS => ?_)
          have hP : va_P (dC, dI) spCl (wX h0 q d pr la (upd gm (8 * a + b) x3) (upd gr (8 * a + b) (x4 &&& 7)) (upd tc (8 * a + b) 0) (upd ch (8 * a + b) 0) hf hr hc ce sf1 sr sm hd1 nx1) H_8 := hP
          have hD : va_D A (wX h0 q d pr la (upd gm (8 * a + b) x3) (upd gr (8 * a + b) (x4 &&& 7)) (upd tc (8 * a + b) 0) (upd ch (8 * a + b) 0) hf hr hc ce sf1 sr sm hd1 nx1) := hD
          refine lv_iconst (v := 0) hx hb dX0_setGuest_77 (by decide) ?_
          exact W.iret (v := 0) hx hb hret (fun t ht hW => ⟨⟨0, ((pr, la, upd gm (8 * a + b) x3, upd gr (8 * a + b) (x4 &&& 7), upd tc (8 * a + b) 0, upd ch (8 * a + b) 0, hf, hr, hc, ce), (sf1, sr, sm, hd1, nx1)), rfl, ⟨sp_setGuest_g ha hb8 c16 (sp_ngt c22), sp_inv_setGuest (sp_inv_tb hI hw.1 hw.2.1 hw.2.2) hw.2.2 (sp_rng c16 (sp_ngt c22))⟩, by rw [ht]; exact hP, va_K.moved hW.alike hK, hD⟩, hS.F ht⟩) hS.2.2 dX0_setGuest_78
        · refine lv_iconst (v := -1) hx hb dX0_setGuest_25 (by decide) ?_
          exact W.iret (v := (-1)) hx hb hret (fun t ht hW => ⟨⟨-1, ((pr, la, gm, gr, tc, ch, hf, hr, hc, ce), (sf, sr, sm, hd, nx)), rfl, ⟨sp_setGuest_b (Or.inr (Or.inr (sp_gt c22))), hI⟩, by rw [ht]; exact hP, va_K.moved hW.alike hK, hD⟩, hS.F ht⟩) hS.2.2 dX0_setGuest_26
set_option maxHeartbeats 4000000 in
set_option maxRecDepth 100000 in
theorem lpX_setHost {p : Program} {l : Launch} {ev : Env} {s : State} {m : MethodId} {args : Array Value} {below : List Frame} {meth : Method} {c : Code} {Q : State → Prop} {dC : Nat → ClassId} {dI : Nat → Nat → Nat} {h0 : Nat} {q : Nat → Nat} {d : Nat → ClassId} {A : Nat → Prop} {pr la : Int32} {gm gr tc ch hf hr hc ce sr sm : FN} {k : Nat} {x2 x3 : Int32} (hx : p.tables.exec = Jvm.exec) (hb : c.code = cX0_setHost) (hts : ∀ w ∈ lw_all, w.before args s = true) (hown : s.vm.findClass RX0 = some m.cls) (hml : c.maxLocals = 5) (hA : ∀ q : Nat, s.heap.size ≤ q → A q) (hK : va_K (dC, dI) spCl (tyX d) s) (hk : k < 8)
    (kk : ∀ (i : Nat) (sf hd nx : FN) (H : Heap) (locs : List Loc) (ls : Array Slot), sp_INV pr gm gr tc ch hf hr hc sf sr sm hd nx → hd k < 0 → va_P (dC, dI) spCl (wX h0 q d pr la gm gr tc ch hf hr hc ce sf sr sm hd nx) H → va_D A (wX h0 q d pr la gm gr tc ch hf hr hc ce sf sr sm hd nx) → va_S A s.heap H locs → lv_has ls 5 [(4, .int (nI i)), (3, .int x3), (2, .int x2), (1, .int (nI k)), (0, .ref h0)] → W p l ev (headSpec (ws_ yX0_setHost cX0_setHost 5 (some .int)) ({ frames := 1, cells := 0, slots := 0, locals := 24 })).room s m args below meth c H locs 0 0 Q (F0 m 55 ls [])) :
    ∀ (n i : Nat) (sf hd nx : FN) (H : Heap) (locs : List Loc) (ls : Array Slot), 16 < i + n → sp_cnt sf 16 + i ≤ 16 → sp_INV pr gm gr tc ch hf hr hc sf sr sm hd nx →  va_P (dC, dI) spCl (wX h0 q d pr la gm gr tc ch hf hr hc ce sf sr sm hd nx) H → va_D A (wX h0 q d pr la gm gr tc ch hf hr hc ce sf sr sm hd nx) → va_S A s.heap H locs → lv_has ls 5 [(4, .int (nI i)), (3, .int x3), (2, .int x2), (1, .int (nI k)), (0, .ref h0)] → W p l ev (headSpec (ws_ yX0_setHost cX0_setHost 5 (some .int)) ({ frames := 1, cells := 0, slots := 0, locals := 24 })).room s m args below meth c H locs 0 0 Q (F0 m 23 ls []) := by
  intro n
  induction n with
  | zero =>
    intro i sf hd nx H locs ls h1 h2
    exact absurd h1 (by omega)
  | succ n ih =>
    intro i sf hd nx H locs ls hn hcnt hI hP hD hS hl
    refine lv_iload hx hb dX0_setHost_23 (lv_at hl 0 rfl) ?_
    refine lv_bipush (v := 16) hx hb dX0_setHost_25 (by decide) ?_
    refine lv_icmp_ge (tgt := 55) hx hb dX0_setHost_27 (by decide) (fun c27 => ?_) (fun c27 => ?_)
    · have h16 : 16 ≤ i := by
        rcases Nat.lt_or_ge i 16 with z | z
        · exact absurd c27 (nI_ge (a := i) (b := 16) z (by decide))
        · exact z
      have hneg : hd k < 0 := by
        by_cases z : hd k < 0
        · exact z
        · obtain ⟨e, he, -, hsf, -⟩ := sp_first hk hI.2.1 z
          have := sp_cnt_pos hsf 16 he
          exact absurd hcnt (by omega)
      exact kk i sf hd nx _ _ ls hI hneg hP hD hS (lv_sub hl [0, 1, 2, 3, 4] rfl)
    · refine lv_aload_n hx hb dX0_setHost_30 rfl (lv_at hl 4 rfl) ?_
      refine va_get (D := (dC, dI)) (ci := 0) (v := .ref (q 12)) (C := RX0) (T := TX0) (N := 15) hx hb hts in_X0 hown hK hP 0 rfl rfl 13 (by decide) (hts _ q28) (fun _ h9 => h9) rfl dX0_setHost_31 ?_
      refine lv_iload_n hx hb dX0_setHost_34 rfl (lv_at hl 3 rfl) ?_
      refine sp_ild hx hb hK hP 12 11 rfl rfl k rfl (by omega) (by decide) dX0_setHost_35 ?_
      refine lv_if_lt (tgt := 55) hx hb dX0_setHost_36 (by decide) (fun c36 => ?_) (fun c36 => ?_)
      · exact kk i sf hd nx _ _ ls hI c36 hP hD hS (lv_sub hl [0, 1, 2, 3, 4] rfl)
      · obtain ⟨e, he, hhd, hsf, hsm⟩ := sp_first hk hI.2.1 c36
        refine lv_aload_n hx hb dX0_setHost_39 rfl (lv_at hl 4 rfl) ?_
        refine lv_aload_n hx hb dX0_setHost_40 rfl (lv_at hl 4 rfl) ?_
        refine va_get (D := (dC, dI)) (ci := 0) (v := .ref (q 12)) (C := RX0) (T := TX0) (N := 15) hx hb hts in_X0 hown hK hP 0 rfl rfl 13 (by decide) (hts _ q28) (fun _ h9 => h9) rfl dX0_setHost_41 ?_
        refine lv_iload_n hx hb dX0_setHost_44 rfl (lv_at hl 3 rfl) ?_
        refine sp_ild hx hb hK hP 12 11 rfl rfl k rfl (by omega) (by decide) dX0_setHost_45 ?_
        refine lv_topi (fun v_1 ev_1 => ?_)
        obtain rfl : v_1 = nI e := ev_1.trans (hhd)
        have hFc := va_free (wc := wX h0 q d pr la gm gr tc ch hf hr hc ce sf sr sm hd nx) hD hS hA [0, 1, 2, 3, 4, 5, 6, 7, 8, 9, 10, 11, 12, 13] rfl
        refine va_callv (va_runV (As := [.int (nI e)]) (rest := []) ⟨hx, hb, hml, hown, hts⟩ (mX_takeBack l dC dI h0 q d H.size pr la gm gr tc ch hf hr hc ce sf sr sm hd nx e he hI.2.1) (cwV 1 hts (lw_V q73 q75 qs0 q5 q76) rfl rfl rfl (by decide +kernel) ⟨Nat.le_of_ble_eq_true rfl, Nat.le_of_ble_eq_true rfl⟩) ⟨fun a U g mk q => by obtain ⟨q0, q1, qP, qK, qD⟩ := q; exact ⟨q0, q1, qP, va_K.moved (u := U) (U := U.calling g mk a) (Vm.Alike.refl U.vm) qK, qD⟩, va_recv hK hP (ci := 0) (q0 := 0) rfl rfl, fun U hU hW => ⟨rfl, by rw [hU], by rw [hU]; exact hP, va_K.moved hW.alike hK, hD.weaken (fun _ _ _ _ => trivial)⟩⟩ rfl rfl hl.1 rfl (lv_room (Nat.le_of_ble_eq_true rfl)) dX0_setHost_46 ⟨Nat.le_of_ble_eq_true rfl, Nat.le_of_ble_eq_true rfl⟩) hS (fun q _ h => hFc q h) hFc (fun u t H_2 locs ht hvm hw hB hz1 hk1 hS => ?_)
        obtain ⟨sf1, hd1, nx1⟩ := u
        obtain ⟨hP1, hK1, hD1⟩ := hB
        rw [ht] at hP1
        have hP := hP1
        have hD := hD1.weaken (fun _ _ _ h => hFc _ h)
        have hP : va_P (dC, dI) spCl (wX h0 q d pr la gm gr tc ch hf hr hc ce sf1 sr sm hd1 nx1) H_2 := hP
        have hD : va_D A (wX h0 q d pr la gm gr tc ch hf hr hc ce sf1 sr sm hd1 nx1) := hD
        refine lv_iinc (v := (nI (i + 1))) (lv' := [(4, .int (nI (i + 1))), (3, .int x3), (2, .int x2), (1, .int (nI k)), (0, .ref h0)]) hx hb dX0_setHost_49 hl (k := 0) rfl (sp_inc i) (by decide) rfl (fun ls hl => ?_)
        refine lv_goto (tgt := 23) hx hb dX0_setHost_52 (by decide) ?_
        have hdec := sp_cnt_dec hw.2.1 hw.2.2 hsf 16 he
        have hdec : sp_cnt sf1 16 + 1 = sp_cnt sf 16 := hdec
        exact ih (i + 1) sf1 hd1 nx1 _ _ ls (by omega) (by omega) (sp_inv_tb hI hw.1 hw.2.1 hw.2.2) hP hD hS (lv_sub hl [0, 1, 2, 3, 4] rfl)
set_option maxHeartbeats 4000000 in
set_option maxRecDepth 100000 in
theorem mX_setHost (l : Launch) (dC : Nat → ClassId) (dI : Nat → Nat → Nat) (h0 : Nat) (q : Nat → Nat) (d : Nat → ClassId) (sz : Nat) (pr la : Int32) (gm gr tc ch hf hr hc ce sf sr sm hd nx : FN) (x1 x2 x3 : Int32) (hI : sp_INV pr gm gr tc ch hf hr hc sf sr sm hd nx) : Met l yX0_setHost (ws_ yX0_setHost cX0_setHost 5 (some .int)) ({ frames := 1, cells := 0, slots := 0, locals := 24 }) (va_Pc [.ref h0, .int x1, .int x2, .int x3] (fun U => U.heap.size = sz ∧ va_P (dC, dI) spCl (wX h0 q d pr la gm gr tc ch hf hr hc ce sf sr sm hd nx) U.heap ∧ va_K (dC, dI) spCl (tyX d) U ∧ va_D (fun _ => True) (wX h0 q d pr la gm gr tc ch hf hr hc ce sf sr sm hd nx))) (va_Qi (fun (r : Int32) (u : PT × PS) => (r, u.1) = sp_setHost pr la gm gr tc ch hf hr hc ce x1 x2 x3 ∧ sp_Inv u) (fun u t => BXu dC dI (va_A (wX h0 q d pr la gm gr tc ch hf hr hc ce sf sr sm hd nx) sz) h0 q d u t) (va_A (wX h0 q d pr la gm gr tc ch hf hr hc ce sf sr sm hd nx) sz)) 0 0 (va_A (wX h0 q d pr la gm gr tc ch hf hr hc ce sf sr sm hd nx) sz) := by
  refine Met.ofW (cc := cX0_setHost) (maxL := 5) (ret := (some .int)) (by decide) rfl ?_
  intro p ev s m args below meth c s₁ B hml hv
  obtain ⟨rfl, hsz, hP, hK, hD0⟩ := hv
  have hx := B.exec
  have hb := B.bytes
  have hret := B.returns
  have hts := atoms_spec (ws := (ws_ yX0_setHost cX0_setHost 5 (some .int))) B.pre
  have hts : ∀ w ∈ lw_all, w.before _ s = true := fun w h => hts w (List.mem_cons_of_mem _ h)
  have hown : s.vm.findClass RX0 = some m.cls := findClass_of_methodNamed B.named
  have hlocks := B.notSynchronized
  subst hsz
  have hD := hD0.self (sz := s.heap.size)
  generalize hAe : va_A (wX h0 q d pr la gm gr tc ch hf hr hc ce sf sr sm hd nx) s.heap.size = A at hD ⊢
  have hA : ∀ q : Nat, s.heap.size ≤ q → A q := fun q h => by rw [← hAe]; exact Or.inr h
  have hS : va_S A s.heap s.heap [] := va_S.rf
  have hl := lv_entry ([.ref h0, .int x1, .int x2, .int x3]) (n := 5) (Nat.le_of_ble_eq_true rfl)
  rw [lg_entry_eq]
  generalize (lg_sl ([.ref h0, .int x1, .int x2, .int x3]) ++ List.replicate (5 - (lg_sl ([.ref h0, .int x1, .int x2, .int x3])).length) Slot.unset).toArray = ls at hl ⊢
  have hl : lv_has ls 5 [(0, .ref h0), (1, .int x1), (2, .int x2), (3, .int x3)] := hl
  refine lv_iload_n hx hb dX0_setHost_0 rfl (lv_at hl 1 rfl) ?_
  have hFc := va_free (wc := []) hD hS hA [] rfl
  refine va_calli (va_runS (As := [.int x1]) (rest := []) ⟨hx, hb, hml, hown, hts⟩ (mX_isNumber l x1 s.heap.size) (va_cwS 1 hts (lw_S q70 q71 q5 q72) rfl rfl rfl (by decide +kernel) ⟨Nat.le_of_ble_eq_true rfl, Nat.le_of_ble_eq_true rfl⟩) ⟨fun a U g mk q => ⟨q.1, q.2⟩, fun U hU hW => ⟨rfl, congrArg Array.size hU⟩⟩ rfl rfl hl.1 rfl (lv_room (Nat.le_of_ble_eq_true rfl)) dX0_setHost_1 ⟨Nat.le_of_ble_eq_true rfl, Nat.le_of_ble_eq_true rfl⟩) hS (fun q _ h => hFc q h) hFc (fun r1 u t H_1 locs ht hvm hw_r1 hB hz1 hk1 hS => ?_)
  have hP := sp_keep hP hk1
  refine lv_if_eq (tgt := 18) hx hb dX0_setHost_4 (by decide) (fun c4 => ?_) (fun c4 => ?_)
  · refine lv_iconst (v := -1) hx hb dX0_setHost_18 (by decide) ?_
    exact W.iret (v := (-1)) hx hb hret (fun t ht hW => ⟨⟨-1, ((pr, la, gm, gr, tc, ch, hf, hr, hc, ce), (sf, sr, sm, hd, nx)), rfl, ⟨sp_setHost_b (Or.inl (sp_pnm0 hw_r1 c4)), hI⟩, by rw [ht]; exact hP, va_K.moved hW.alike hK, hD⟩, hS.F ht⟩) hS.2.2 dX0_setHost_19
  · obtain ⟨k, hk, rfl⟩ := sp_pnm1 hw_r1 c4
    refine lv_iload_n hx hb dX0_setHost_7 rfl (lv_at hl 2 rfl) ?_
    refine lv_iconst (v := -1) hx hb dX0_setHost_8 (by decide) ?_
    refine lv_icmp_lt (tgt := 18) hx hb dX0_setHost_9 (by decide) (fun c9 => ?_) (fun c9 => ?_)
    · refine lv_iconst (v := -1) hx hb dX0_setHost_18 (by decide) ?_
      exact W.iret (v := (-1)) hx hb hret (fun t ht hW => ⟨⟨-1, ((pr, la, gm, gr, tc, ch, hf, hr, hc, ce), (sf, sr, sm, hd, nx)), rfl, ⟨sp_setHost_b (Or.inr (Or.inl c9)), hI⟩, by rw [ht]; exact hP, va_K.moved hW.alike hK, hD⟩, hS.F ht⟩) hS.2.2 dX0_setHost_19
    · refine lv_iload_n hx hb dX0_setHost_12 rfl (lv_at hl 2 rfl) ?_
      refine lv_bipush (v := 7) hx hb dX0_setHost_13 (by decide) ?_
      refine lv_icmp_le (tgt := 20) hx hb dX0_setHost_15 (by decide) (fun c15 => ?_) (fun c15 => ?_)
      · refine lv_iconst (v := 0) hx hb dX0_setHost_20 (by decide) ?_
        refine lv_istore (lv' := [(4, .int 0), (0, .ref h0), (1, .int (nI k)), (2, .int x2), (3, .int x3)]) hx hb dX0_setHost_21 hl (by decide) rfl (fun ls hl => ?_)
        refine lpX_setHost hx hb hts hown hml hA hK hk (fun i sf1 hd1 nx1 H1 locs ls hI hneg hP hD hS hl => ?_) 17 0 sf hd nx _ _ ls (by omega) (sp_cnt_le sf 16) hI hP hD hS (lv_sub hl [0, 4, 3, 2, 1] rfl)
        refine lv_aload_n hx hb dX0_setHost_55 rfl (lv_at hl 4 rfl) ?_
        refine va_get (D := (dC, dI)) (ci := 0) (v := .ref (q 5)) (C := RX0) (T := TX0) (N := 15) hx hb hts in_X0 hown hK hP 0 rfl rfl 5 (by decide) (hts _ q20) (fun _ h9 => h9) rfl dX0_setHost_56 ?_
        refine lv_iload_n hx hb dX0_setHost_59 rfl (lv_at hl 3 rfl) ?_
        refine lv_iload_n hx hb dX0_setHost_60 rfl (lv_at hl 2 rfl) ?_
        refine sp_ist hx hb hK hP hD hS 5 4 rfl rfl k rfl (by omega) (by decide) dX0_setHost_61 (fun H_2 locs hP hD hS => ?_)
        have hP : va_P (dC, dI) spCl (wX h0 q d pr la gm gr tc ch (upd hf k x2) hr hc ce sf1 sr sm hd1 nx1) H_2 := hP
        have hD : va_D A (wX h0 q d pr la gm gr tc ch (upd hf k x2) hr hc ce sf1 sr sm hd1 nx1) := hD
        refine lv_aload_n hx hb dX0_setHost_62 rfl (lv_at hl 4 rfl) ?_
        refine va_get (D := (dC, dI)) (ci := 0) (v := .ref (q 6)) (C := RX0) (T := TX0) (N := 15) hx hb hts in_X0 hown hK hP 0 rfl rfl 6 (by decide) (hts _ q21) (fun _ h9 => h9) rfl dX0_setHost_63 ?_
        refine lv_iload_n hx hb dX0_setHost_66 rfl (lv_at hl 3 rfl) ?_
        refine lv_iload_n hx hb dX0_setHost_67 rfl (lv_at hl 1 rfl) ?_
        refine lv_bipush (v := 7) hx hb dX0_setHost_68 (by decide) ?_
        refine lv_iand hx hb dX0_setHost_70 ?_
        refine sp_ist hx hb hK hP hD hS 6 5 rfl rfl k rfl (by omega) (by decide) dX0_setHost_71 (fun H_3 locs hP hD hS => ?_)
        have hP : va_P (dC, dI) spCl (wX h0 q d pr la gm gr tc ch (upd hf k x2) (upd hr k (x3 &&& 7)) hc ce sf1 sr sm hd1 nx1) H_3 := hP
        have hD : va_D A (wX h0 q d pr la gm gr tc ch (upd hf k x2) (upd hr k (x3 &&& 7)) hc ce sf1 sr sm hd1 nx1) := hD
        refine lv_aload_n hx hb dX0_setHost_72 rfl (lv_at hl 4 rfl) ?_
        refine va_get (D := (dC, dI)) (ci := 0) (v := .ref (q 7)) (C := RX0) (T := TX0) (N := 15) hx hb hts in_X0 hown hK hP 0 rfl rfl 7 (by decide) (hts _ q22) (fun _ h9 => h9) rfl dX0_setHost_73 ?_
        refine lv_iload_n hx hb dX0_setHost_76 rfl (lv_at hl 3 rfl) ?_
        refine lv_iconst (v := 0) hx hb dX0_setHost_77 (by decide) ?_
        refine sp_zst hx hb hK hP hD hS 7 6 rfl rfl k rfl (by omega) (by decide) rfl dX0_setHost_78 (fun H_4 locs hP hD hS => ?_)
        have hP : va_P (dC, dI) spCl (wX h0 q d pr la gm gr tc ch (upd hf k x2) (upd hr k (x3 &&& 7)) (upd hc k 0) ce sf1 sr sm hd1 nx1) H_4 := hP
        have hD : va_D A (wX h0 q d pr la gm gr tc ch (upd hf k x2) (upd hr k (x3 &&& 7)) (upd hc k 0) ce sf1 sr sm hd1 nx1) := hD
        refine lv_iconst (v := 0) hx hb dX0_setHost_79 (by decide) ?_
        exact W.iret (v := 0) hx hb hret (fun t ht hW => ⟨⟨0, ((pr, la, gm, gr, tc, ch, upd hf k x2, upd hr k (x3 &&& 7), upd hc k 0, ce), (sf1, sr, sm, hd1, nx1)), rfl, ⟨sp_setHost_g hk c9 (sp_ngt c15), sp_inv_setHost hk hI hneg (sp_rng c9 (sp_ngt c15))⟩, by rw [ht]; exact hP, va_K.moved hW.alike hK, hD⟩, hS.F ht⟩) hS.2.2 dX0_setHost_80
      · refine lv_iconst (v := -1) hx hb dX0_setHost_18 (by decide) ?_
        exact W.iret (v := (-1)) hx hb hret (fun t ht hW => ⟨⟨-1, ((pr, la, gm, gr, tc, ch, hf, hr, hc, ce), (sf, sr, sm, hd, nx)), rfl, ⟨sp_setHost_b (Or.inr (Or.inr (sp_gt c15))), hI⟩, by rw [ht]; exact hP, va_K.moved hW.alike hK, hD⟩, hS.F ht⟩) hS.2.2 dX0_setHost_19
set_option maxHeartbeats 4000000 in
set_option maxRecDepth 100000 in
theorem mX_change (l : Launch) (dC : Nat → ClassId) (dI : Nat → Nat → Nat) (h0 : Nat) (q : Nat → Nat) (d : Nat → ClassId) (sz : Nat) (pr la : Int32) (gm gr tc ch hf hr hc ce sf sr sm hd nx : FN) (x1 : Int32) (hI : sp_INV pr gm gr tc ch hf hr hc sf sr sm hd nx) : Met l yX0_change (ws_ yX0_change cX0_change 2 none) ({ frames := 0, cells := 0, slots := 0, locals := 0 }) (va_Pc [.ref h0, .int x1] (fun U => U.heap.size = sz ∧ va_P (dC, dI) spCl (wX h0 q d pr la gm gr tc ch hf hr hc ce sf sr sm hd nx) U.heap ∧ va_K (dC, dI) spCl (tyX d) U ∧ va_D (fun _ => True) (wX h0 q d pr la gm gr tc ch hf hr hc ce sf sr sm hd nx))) (va_Qv (fun (u : PT × PS) => u.1 = sp_change pr la gm gr tc ch hf hr hc ce x1 ∧ sp_Inv u) (fun u t => BXu dC dI (va_A (wX h0 q d pr la gm gr tc ch hf hr hc ce sf sr sm hd nx) sz) h0 q d u t) (va_A (wX h0 q d pr la gm gr tc ch hf hr hc ce sf sr sm hd nx) sz)) 0 0 (va_A (wX h0 q d pr la gm gr tc ch hf hr hc ce sf sr sm hd nx) sz) := by
  refine Met.ofW (cc := cX0_change) (maxL := 2) (ret := none) (by decide) rfl ?_
  intro p ev s m args below meth c s₁ B hml hv
  obtain ⟨rfl, hsz, hP, hK, hD0⟩ := hv
  have hx := B.exec
  have hb := B.bytes
  have hret := B.returns
  have hts := atoms_spec (ws := (ws_ yX0_change cX0_change 2 none)) B.pre
  have hts : ∀ w ∈ lw_all, w.before _ s = true := fun w h => hts w (List.mem_cons_of_mem _ h)
  have hown : s.vm.findClass RX0 = some m.cls := findClass_of_methodNamed B.named
  have hlocks := B.notSynchronized
  subst hsz
  have hD := hD0.self (sz := s.heap.size)
  generalize hAe : va_A (wX h0 q d pr la gm gr tc ch hf hr hc ce sf sr sm hd nx) s.heap.size = A at hD ⊢
  have hA : ∀ q : Nat, s.heap.size ≤ q → A q := fun q h => by rw [← hAe]; exact Or.inr h
  have hS : va_S A s.heap s.heap [] := va_S.rf
  have hl := lv_entry ([.ref h0, .int x1]) (n := 2) (Nat.le_of_ble_eq_true rfl)
  rw [lg_entry_eq]
  generalize (lg_sl ([.ref h0, .int x1]) ++ List.replicate (2 - (lg_sl ([.ref h0, .int x1])).length) Slot.unset).toArray = ls at hl ⊢
  have hl : lv_has ls 2 [(0, .ref h0), (1, .int x1)] := hl
  refine lv_aload_n hx hb dX0_change_0 rfl (lv_at hl 0 rfl) ?_
  refine lv_iload_n hx hb dX0_change_1 rfl (lv_at hl 1 rfl) ?_
  refine lv_iconst (v := 1) hx hb dX0_change_2 (by decide) ?_
  refine lv_iand hx hb dX0_change_3 ?_
  refine va_put (D := (dC, dI)) (ci := 0) (v := .int (x1 &&& 1)) (ty := .int) (C := RX0) (T := TX0) (N := 15) hx hb hts in_X0 tyX0 tyX0_ok nmX0 hown hK hP hD hS 0 rfl rfl 0 (by decide) (hts _ q15) (fun _ h9 => h9) rfl (by decide +kernel) rfl rfl (Nat.le_of_ble_eq_true rfl) dX0_change_4 (fun H_1 locs hP hD hS => ?_)
  have hP : va_P (dC, dI) spCl (wX h0 q d (x1 &&& 1) la gm gr tc ch hf hr hc ce sf sr sm hd nx) H_1 := hP
  have hD : va_D A (wX h0 q d (x1 &&& 1) la gm gr tc ch hf hr hc ce sf sr sm hd nx) := hD
  exact W.vret hx hb hret (fun t ht hW => ⟨⟨((x1 &&& 1, la, gm, gr, tc, ch, hf, hr, hc, ce), (sf, sr, sm, hd, nx)), rfl, ⟨rfl, sp_inv_change x1 hI⟩, by rw [ht]; exact hP, va_K.moved hW.alike hK, hD⟩, hS.F ht⟩) hS.2.2 dX0_change_7
end
section
set_option maxHeartbeats 4000000 in
set_option maxRecDepth 100000 in
theorem mX_load (l : Launch) (dC : Nat → ClassId) (dI : Nat → Nat → Nat) (h0 : Nat) (q : Nat → Nat) (d : Nat → ClassId) (sz : Nat) (pr la : Int32) (gm gr tc ch hf hr hc ce sf sr sm hd nx : FN) (x1 x2 : Int32) (hI : sp_INV pr gm gr tc ch hf hr hc sf sr sm hd nx) : Met l yX0_load (ws_ yX0_load cX0_load 4 (some .int)) ({ frames := 3, cells := 0, slots := 0, locals := 72 }) (va_Pc [.ref h0, .int x1, .int x2] (fun U => U.heap.size = sz ∧ va_P (dC, dI) spCl (wX h0 q d pr la gm gr tc ch hf hr hc ce sf sr sm hd nx) U.heap ∧ va_K (dC, dI) spCl (tyX d) U ∧ va_D (fun _ => True) (wX h0 q d pr la gm gr tc ch hf hr hc ce sf sr sm hd nx))) (va_Qi (fun (r : Int32) (u : PT × PS) => (r, u.1) = sp_load pr la gm gr tc ch hf hr hc ce x1 x2 ∧ sp_Inv u) (fun u t => BXu dC dI (va_A (wX h0 q d pr la gm gr tc ch hf hr hc ce sf sr sm hd nx) sz) h0 q d u t) (va_A (wX h0 q d pr la gm gr tc ch hf hr hc ce sf sr sm hd nx) sz)) 0 0 (va_A (wX h0 q d pr la gm gr tc ch hf hr hc ce sf sr sm hd nx) sz) := by
  refine Met.ofW (cc := cX0_load) (maxL := 4) (ret := (some .int)) (by decide) rfl ?_
  intro p ev s m args below meth c s₁ B hml hv
  obtain ⟨rfl, hsz, hP, hK, hD0⟩ := hv
  have hx := B.exec
  have hb := B.bytes
  have hret := B.returns
  have hts := atoms_spec (ws := (ws_ yX0_load cX0_load 4 (some .int))) B.pre
  have hts : ∀ w ∈ lw_all, w.before _ s = true := fun w h => hts w (List.mem_cons_of_mem _ h)
  have hown : s.vm.findClass RX0 = some m.cls := findClass_of_methodNamed B.named
  have hlocks := B.notSynchronized
  subst hsz
  have hD := hD0.self (sz := s.heap.size)
  generalize hAe : va_A (wX h0 q d pr la gm gr tc ch hf hr hc ce sf sr sm hd nx) s.heap.size = A at hD ⊢
  have hA : ∀ q : Nat, s.heap.size ≤ q → A q := fun q h => by rw [← hAe]; exact Or.inr h
  have hS : va_S A s.heap s.heap [] := va_S.rf
  have hl := lv_entry ([.ref h0, .int x1, .int x2]) (n := 4) (Nat.le_of_ble_eq_true rfl)
  rw [lg_entry_eq]
  generalize (lg_sl ([.ref h0, .int x1, .int x2]) ++ List.replicate (4 - (lg_sl ([.ref h0, .int x1, .int x2])).length) Slot.unset).toArray = ls at hl ⊢
  have hl : lv_has ls 4 [(0, .ref h0), (1, .int x1), (2, .int x2)] := hl
  obtain ⟨a, ha, hpr⟩ := hI.1.1
  subst hpr
  refine lv_iload_n hx hb dX0_load_0 rfl (lv_at hl 1 rfl) ?_
  have hFc := va_free (wc := []) hD hS hA [] rfl
  refine va_calli (va_runS (As := [.int x1]) (rest := []) ⟨hx, hb, hml, hown, hts⟩ (mX_isNumber l x1 s.heap.size) (va_cwS 1 hts (lw_S q70 q71 q5 q72) rfl rfl rfl (by decide +kernel) ⟨Nat.le_of_ble_eq_true rfl, Nat.le_of_ble_eq_true rfl⟩) ⟨fun a U g mk q => ⟨q.1, q.2⟩, fun U hU hW => ⟨rfl, congrArg Array.size hU⟩⟩ rfl rfl hl.1 rfl (lv_room (Nat.le_of_ble_eq_true rfl)) dX0_load_1 ⟨Nat.le_of_ble_eq_true rfl, Nat.le_of_ble_eq_true rfl⟩) hS (fun q _ h => hFc q h) hFc (fun r1 u t H_1 locs ht hvm hw_r1 hB hz1 hk1 hS => ?_)
  have hP := sp_keep hP hk1
  refine lv_if_eq (tgt := 16) hx hb dX0_load_4 (by decide) (fun c4 => ?_) (fun c4 => ?_)
  · refine lv_iconst (v := -1) hx hb dX0_load_16 (by decide) ?_
    exact W.iret (v := (-1)) hx hb hret (fun t ht hW => ⟨⟨-1, ((nI a, la, gm, gr, tc, ch, hf, hr, hc, ce), (sf, sr, sm, hd, nx)), rfl, ⟨sp_load_b (Or.inl (sp_pnm0 hw_r1 c4)), hI⟩, by rw [ht]; exact hP, va_K.moved hW.alike hK, hD⟩, hS.F ht⟩) hS.2.2 dX0_load_17
  · obtain ⟨b, hb8, rfl⟩ := sp_pnm1 hw_r1 c4
    refine lv_iload_n hx hb dX0_load_7 rfl (lv_at hl 2 rfl) ?_
    refine lv_if_lt (tgt := 16) hx hb dX0_load_8 (by decide) (fun c8 => ?_) (fun c8 => ?_)
    · refine lv_iconst (v := -1) hx hb dX0_load_16 (by decide) ?_
      exact W.iret (v := (-1)) hx hb hret (fun t ht hW => ⟨⟨-1, ((nI a, la, gm, gr, tc, ch, hf, hr, hc, ce), (sf, sr, sm, hd, nx)), rfl, ⟨sp_load_b (Or.inr (Or.inl c8)), hI⟩, by rw [ht]; exact hP, va_K.moved hW.alike hK, hD⟩, hS.F ht⟩) hS.2.2 dX0_load_17
    · refine lv_iload_n hx hb dX0_load_11 rfl (lv_at hl 2 rfl) ?_
      refine lv_iconst (v := 3) hx hb dX0_load_12 (by decide) ?_
      refine lv_icmp_le (tgt := 18) hx hb dX0_load_13 (by decide) (fun c13 => ?_) (fun c13 => ?_)
      · obtain ⟨j, hj4, rfl⟩ := sp_nb3 (x := x2) (fun z => z.elim c8 (sp_ngt c13))
        refine lv_aload_n hx hb dX0_load_18 rfl (lv_at hl 0 rfl) ?_
        refine lv_iload_n hx hb dX0_load_19 rfl (lv_at hl 1 rfl) ?_
        refine lv_iconst (v := 1) hx hb dX0_load_20 (by decide) ?_
        have he : 8 * a + b < 16 := by omega
        have hFc := va_free (wc := wX h0 q d (nI a) la gm gr tc ch hf hr hc ce sf sr sm hd nx) hD hS hA [0, 1, 2, 3, 4, 5, 6, 7, 8, 9, 10, 11, 12, 13] rfl
        refine va_calli (va_runV (As := [.int (nI b), .int 1]) (rest := []) ⟨hx, hb, hml, hown, hts⟩ (mX_reach l dC dI h0 q d H_1.size (nI a) la gm gr tc ch hf hr hc ce sf sr sm hd nx a b 1 ha hb8 rfl (Or.inl rfl) hI) (cwV 2 hts (lw_V q89 q91 qs1 q5 q92) rfl rfl rfl (by decide +kernel) ⟨Nat.le_of_ble_eq_true rfl, Nat.le_of_ble_eq_true rfl⟩) ⟨fun a U g mk q => by obtain ⟨q0, q1, qP, qK, qD⟩ := q; exact ⟨q0, q1, qP, va_K.moved (u := U) (U := U.calling g mk a) (Vm.Alike.refl U.vm) qK, qD⟩, va_recv hK hP (ci := 0) (q0 := 0) rfl rfl, fun U hU hW => ⟨rfl, by rw [hU], by rw [hU]; exact hP, va_K.moved hW.alike hK, hD.weaken (fun _ _ _ _ => trivial)⟩⟩ rfl rfl hl.1 rfl (lv_room (Nat.le_of_ble_eq_true rfl)) dX0_load_21 ⟨Nat.le_of_ble_eq_true rfl, Nat.le_of_ble_eq_true rfl⟩) hS (fun q _ h => hFc q h) hFc (fun f u t H_2 locs ht hvm hw hB hz1 hk1 hS => ?_)
        obtain ⟨⟨tc1, ch1, hc1⟩, ⟨sf1, sr1, sm1, hd1, nx1⟩⟩ := u
        obtain ⟨hP1, hK1, hD1⟩ := hB
        rw [ht] at hP1
        have hP := hP1
        have hD := hD1.weaken (fun _ _ _ h => hFc _ h)
        have hP : va_P (dC, dI) spCl (wX h0 q d (nI a) la gm gr tc1 ch1 hf hr hc1 ce sf1 sr1 sm1 hd1 nx1) H_2 := hP
        have hD : va_D A (wX h0 q d (nI a) la gm gr tc1 ch1 hf hr hc1 ce sf1 sr1 sm1 hd1 nx1) := hD
        refine lv_istore_n (lv' := [(3, .int f), (0, .ref h0), (1, .int (nI b)), (2, .int (nI j))]) hx hb dX0_load_24 rfl hl (by decide) rfl (fun ls hl => ?_)
        refine lv_iload_n hx hb dX0_load_25 rfl (lv_at hl 0 rfl) ?_
        refine lv_if_ge (tgt := 31) hx hb dX0_load_26 (by decide) (fun c26 => ?_) (fun c26 => ?_)
        · obtain ⟨j2, hj8, rfl⟩ := sp_mr_nn hI.1 he hw.1 (sp_nge c26)
          refine lv_aload_n hx hb dX0_load_31 rfl (lv_at hl 1 rfl) ?_
          refine lv_aload_n hx hb dX0_load_32 rfl (lv_at hl 1 rfl) ?_
          refine va_get (D := (dC, dI)) (ci := 0) (v := .ref (q 8)) (C := RX0) (T := TX0) (N := 15) hx hb hts in_X0 hown hK hP 0 rfl rfl 8 (by decide) (hts _ q23) (fun _ h9 => h9) rfl dX0_load_33 ?_
          refine lv_iconst (v := 4) hx hb dX0_load_36 (by decide) ?_
          refine lv_iload_n hx hb dX0_load_37 rfl (lv_at hl 0 rfl) ?_
          refine lv_imul hx hb dX0_load_38 ?_
          refine lv_iload_n hx hb dX0_load_39 rfl (lv_at hl 3 rfl) ?_
          refine lv_iadd hx hb dX0_load_40 ?_
          refine lv_topi (fun v_3 ev_3 => ?_)
          obtain rfl : v_3 = nI (4 * j2 + j) := ev_3.trans (sp_cxI j2 j)
          refine sp_ild hx hb hK hP 8 7 rfl rfl (4 * j2 + j) rfl (by omega) (by decide) dX0_load_41 ?_
          refine va_put (D := (dC, dI)) (ci := 0) (v := .int (ce (4 * j2 + j))) (ty := .int) (C := RX0) (T := TX0) (N := 15) hx hb hts in_X0 tyX0 tyX0_ok nmX0 hown hK hP hD hS 0 rfl rfl 9 (by decide) (hts _ q24) (fun _ h9 => h9) rfl (by decide +kernel) rfl rfl (Nat.le_of_ble_eq_true rfl) dX0_load_42 (fun H_4 locs hP hD hS => ?_)
          have hP : va_P (dC, dI) spCl (wX h0 q d (nI a) (ce (4 * j2 + j)) gm gr tc1 ch1 hf hr hc1 ce sf1 sr1 sm1 hd1 nx1) H_4 := hP
          have hD : va_D A (wX h0 q d (nI a) (ce (4 * j2 + j)) gm gr tc1 ch1 hf hr hc1 ce sf1 sr1 sm1 hd1 nx1) := hD
          refine lv_iconst (v := 0) hx hb dX0_load_45 (by decide) ?_
          exact W.iret (v := 0) hx hb hret (fun t ht hW => ⟨⟨0, ((nI a, ce (4 * j2 + j), gm, gr, tc1, ch1, hf, hr, hc1, ce), (sf1, sr1, sm1, hd1, nx1)), rfl, ⟨sp_load_g ha hb8 hj4 hj8 hw.1, hw.2⟩, by rw [ht]; exact hP, va_K.moved hW.alike hK, hD⟩, hS.F ht⟩) hS.2.2 dX0_load_46
        · refine lv_iload_n hx hb dX0_load_29 rfl (lv_at hl 0 rfl) ?_
          exact W.iret (v := f) hx hb hret (fun t ht hW => ⟨⟨f, ((nI a, la, gm, gr, tc1, ch1, hf, hr, hc1, ce), (sf1, sr1, sm1, hd1, nx1)), rfl, ⟨sp_load_n ha hb8 hj4 hw.1 (sp_ge c26), hw.2⟩, by rw [ht]; exact hP, va_K.moved hW.alike hK, hD⟩, hS.F ht⟩) hS.2.2 dX0_load_30
      · refine lv_iconst (v := -1) hx hb dX0_load_16 (by decide) ?_
        exact W.iret (v := (-1)) hx hb hret (fun t ht hW => ⟨⟨-1, ((nI a, la, gm, gr, tc, ch, hf, hr, hc, ce), (sf, sr, sm, hd, nx)), rfl, ⟨sp_load_b (Or.inr (Or.inr (sp_gt c13))), hI⟩, by rw [ht]; exact hP, va_K.moved hW.alike hK, hD⟩, hS.F ht⟩) hS.2.2 dX0_load_17
set_option maxHeartbeats 4000000 in
set_option maxRecDepth 100000 in
theorem mX_store (l : Launch) (dC : Nat → ClassId) (dI : Nat → Nat → Nat) (h0 : Nat) (q : Nat → Nat) (d : Nat → ClassId) (sz : Nat) (pr la : Int32) (gm gr tc ch hf hr hc ce sf sr sm hd nx : FN) (x1 x2 x3 : Int32) (hI : sp_INV pr gm gr tc ch hf hr hc sf sr sm hd nx) : Met l yX0_store (ws_ yX0_store cX0_store 5 (some .int)) ({ frames := 3, cells := 0, slots := 0, locals := 72 }) (va_Pc [.ref h0, .int x1, .int x2, .int x3] (fun U => U.heap.size = sz ∧ va_P (dC, dI) spCl (wX h0 q d pr la gm gr tc ch hf hr hc ce sf sr sm hd nx) U.heap ∧ va_K (dC, dI) spCl (tyX d) U ∧ va_D (fun _ => True) (wX h0 q d pr la gm gr tc ch hf hr hc ce sf sr sm hd nx))) (va_Qi (fun (r : Int32) (u : PT × PS) => (r, u.1) = sp_store pr la gm gr tc ch hf hr hc ce x1 x2 x3 ∧ sp_Inv u) (fun u t => BXu dC dI (va_A (wX h0 q d pr la gm gr tc ch hf hr hc ce sf sr sm hd nx) sz) h0 q d u t) (va_A (wX h0 q d pr la gm gr tc ch hf hr hc ce sf sr sm hd nx) sz)) 0 0 (va_A (wX h0 q d pr la gm gr tc ch hf hr hc ce sf sr sm hd nx) sz) := by
  refine Met.ofW (cc := cX0_store) (maxL := 5) (ret := (some .int)) (by decide) rfl ?_
  intro p ev s m args below meth c s₁ B hml hv
  obtain ⟨rfl, hsz, hP, hK, hD0⟩ := hv
  have hx := B.exec
  have hb := B.bytes
  have hret := B.returns
  have hts := atoms_spec (ws := (ws_ yX0_store cX0_store 5 (some .int))) B.pre
  have hts : ∀ w ∈ lw_all, w.before _ s = true := fun w h => hts w (List.mem_cons_of_mem _ h)
  have hown : s.vm.findClass RX0 = some m.cls := findClass_of_methodNamed B.named
  have hlocks := B.notSynchronized
  subst hsz
  have hD := hD0.self (sz := s.heap.size)
  generalize hAe : va_A (wX h0 q d pr la gm gr tc ch hf hr hc ce sf sr sm hd nx) s.heap.size = A at hD ⊢
  have hA : ∀ q : Nat, s.heap.size ≤ q → A q := fun q h => by rw [← hAe]; exact Or.inr h
  have hS : va_S A s.heap s.heap [] := va_S.rf
  have hl := lv_entry ([.ref h0, .int x1, .int x2, .int x3]) (n := 5) (Nat.le_of_ble_eq_true rfl)
  rw [lg_entry_eq]
  generalize (lg_sl ([.ref h0, .int x1, .int x2, .int x3]) ++ List.replicate (5 - (lg_sl ([.ref h0, .int x1, .int x2, .int x3])).length) Slot.unset).toArray = ls at hl ⊢
  have hl : lv_has ls 5 [(0, .ref h0), (1, .int x1), (2, .int x2), (3, .int x3)] := hl
  obtain ⟨a, ha, hpr⟩ := hI.1.1
  subst hpr
  refine lv_iload_n hx hb dX0_store_0 rfl (lv_at hl 1 rfl) ?_
  have hFc := va_free (wc := []) hD hS hA [] rfl
  refine va_calli (va_runS (As := [.int x1]) (rest := []) ⟨hx, hb, hml, hown, hts⟩ (mX_isNumber l x1 s.heap.size) (va_cwS 1 hts (lw_S q70 q71 q5 q72) rfl rfl rfl (by decide +kernel) ⟨Nat.le_of_ble_eq_true rfl, Nat.le_of_ble_eq_true rfl⟩) ⟨fun a U g mk q => ⟨q.1, q.2⟩, fun U hU hW => ⟨rfl, congrArg Array.size hU⟩⟩ rfl rfl hl.1 rfl (lv_room (Nat.le_of_ble_eq_true rfl)) dX0_store_1 ⟨Nat.le_of_ble_eq_true rfl, Nat.le_of_ble_eq_true rfl⟩) hS (fun q _ h => hFc q h) hFc (fun r1 u t H_1 locs ht hvm hw_r1 hB hz1 hk1 hS => ?_)
  have hP := sp_keep hP hk1
  refine lv_if_eq (tgt := 16) hx hb dX0_store_4 (by decide) (fun c4 => ?_) (fun c4 => ?_)
  · refine lv_iconst (v := -1) hx hb dX0_store_16 (by decide) ?_
    exact W.iret (v := (-1)) hx hb hret (fun t ht hW => ⟨⟨-1, ((nI a, la, gm, gr, tc, ch, hf, hr, hc, ce), (sf, sr, sm, hd, nx)), rfl, ⟨sp_store_b (Or.inl (sp_pnm0 hw_r1 c4)), hI⟩, by rw [ht]; exact hP, va_K.moved hW.alike hK, hD⟩, hS.F ht⟩) hS.2.2 dX0_store_17
  · obtain ⟨b, hb8, rfl⟩ := sp_pnm1 hw_r1 c4
    refine lv_iload_n hx hb dX0_store_7 rfl (lv_at hl 2 rfl) ?_
    refine lv_if_lt (tgt := 16) hx hb dX0_store_8 (by decide) (fun c8 => ?_) (fun c8 => ?_)
    · refine lv_iconst (v := -1) hx hb dX0_store_16 (by decide) ?_
      exact W.iret (v := (-1)) hx hb hret (fun t ht hW => ⟨⟨-1, ((nI a, la, gm, gr, tc, ch, hf, hr, hc, ce), (sf, sr, sm, hd, nx)), rfl, ⟨sp_store_b (Or.inr (Or.inl c8)), hI⟩, by rw [ht]; exact hP, va_K.moved hW.alike hK, hD⟩, hS.F ht⟩) hS.2.2 dX0_store_17
    · refine lv_iload_n hx hb dX0_store_11 rfl (lv_at hl 2 rfl) ?_
      refine lv_iconst (v := 3) hx hb dX0_store_12 (by decide) ?_
      refine lv_icmp_le (tgt := 18) hx hb dX0_store_13 (by decide) (fun c13 => ?_) (fun c13 => ?_)
      · obtain ⟨j, hj4, rfl⟩ := sp_nb3 (x := x2) (fun z => z.elim c8 (sp_ngt c13))
        refine lv_aload_n hx hb dX0_store_18 rfl (lv_at hl 0 rfl) ?_
        refine lv_iload_n hx hb dX0_store_19 rfl (lv_at hl 1 rfl) ?_
        refine lv_iconst (v := 2) hx hb dX0_store_20 (by decide) ?_
        have he : 8 * a + b < 16 := by omega
        have hFc := va_free (wc := wX h0 q d (nI a) la gm gr tc ch hf hr hc ce sf sr sm hd nx) hD hS hA [0, 1, 2, 3, 4, 5, 6, 7, 8, 9, 10, 11, 12, 13] rfl
        refine va_calli (va_runV (As := [.int (nI b), .int 2]) (rest := []) ⟨hx, hb, hml, hown, hts⟩ (mX_reach l dC dI h0 q d H_1.size (nI a) la gm gr tc ch hf hr hc ce sf sr sm hd nx a b 2 ha hb8 rfl (Or.inr (Or.inl rfl)) hI) (cwV 2 hts (lw_V q89 q91 qs1 q5 q92) rfl rfl rfl (by decide +kernel) ⟨Nat.le_of_ble_eq_true rfl, Nat.le_of_ble_eq_true rfl⟩) ⟨fun a U g mk q => by obtain ⟨q0, q1, qP, qK, qD⟩ := q; exact ⟨q0, q1, qP, va_K.moved (u := U) (U := U.calling g mk a) (Vm.Alike.refl U.vm) qK, qD⟩, va_recv hK hP (ci := 0) (q0 := 0) rfl rfl, fun U hU hW => ⟨rfl, by rw [hU], by rw [hU]; exact hP, va_K.moved hW.alike hK, hD.weaken (fun _ _ _ _ => trivial)⟩⟩ rfl rfl hl.1 rfl (lv_room (Nat.le_of_ble_eq_true rfl)) dX0_store_21 ⟨Nat.le_of_ble_eq_true rfl, Nat.le_of_ble_eq_true rfl⟩) hS (fun q _ h => hFc q h) hFc (fun f u t H_2 locs ht hvm hw hB hz1 hk1 hS => ?_)
        obtain ⟨⟨tc1, ch1, hc1⟩, ⟨sf1, sr1, sm1, hd1, nx1⟩⟩ := u
        obtain ⟨hP1, hK1, hD1⟩ := hB
        rw [ht] at hP1
        have hP := hP1
        have hD := hD1.weaken (fun _ _ _ h => hFc _ h)
        have hP : va_P (dC, dI) spCl (wX h0 q d (nI a) la gm gr tc1 ch1 hf hr hc1 ce sf1 sr1 sm1 hd1 nx1) H_2 := hP
        have hD : va_D A (wX h0 q d (nI a) la gm gr tc1 ch1 hf hr hc1 ce sf1 sr1 sm1 hd1 nx1) := hD
        refine lv_istore (lv' := [(4, .int f), (0, .ref h0), (1, .int (nI b)), (2, .int (nI j)), (3, .int x3)]) hx hb dX0_store_24 hl (by decide) rfl (fun ls hl => ?_)
        refine lv_iload hx hb dX0_store_26 (lv_at hl 0 rfl) ?_
        refine lv_if_ge (tgt := 34) hx hb dX0_store_28 (by decide) (fun c28 => ?_) (fun c28 => ?_)
        · obtain ⟨j2, hj8, rfl⟩ := sp_mr_nn hI.1 he hw.1 (sp_nge c28)
          refine lv_aload_n hx hb dX0_store_34 rfl (lv_at hl 1 rfl) ?_
          refine va_get (D := (dC, dI)) (ci := 0) (v := .ref (q 8)) (C := RX0) (T := TX0) (N := 15) hx hb hts in_X0 hown hK hP 0 rfl rfl 8 (by decide) (hts _ q23) (fun _ h9 => h9) rfl dX0_store_35 ?_
          refine lv_iconst (v := 4) hx hb dX0_store_38 (by decide) ?_
          refine lv_iload hx hb dX0_store_39 (lv_at hl 0 rfl) ?_
          refine lv_imul hx hb dX0_store_41 ?_
          refine lv_iload_n hx hb dX0_store_42 rfl (lv_at hl 3 rfl) ?_
          refine lv_iadd hx hb dX0_store_43 ?_
          refine lv_topi (fun v_3 ev_3 => ?_)
          obtain rfl : v_3 = nI (4 * j2 + j) := ev_3.trans (sp_cxI j2 j)
          refine lv_iload_n hx hb dX0_store_44 rfl (lv_at hl 4 rfl) ?_
          refine sp_ist hx hb hK hP hD hS 8 7 rfl rfl (4 * j2 + j) rfl (by omega) (by decide) dX0_store_45 (fun H_4 locs hP hD hS => ?_)
          have hP : va_P (dC, dI) spCl (wX h0 q d (nI a) la gm gr tc1 ch1 hf hr hc1 (upd ce (4 * j2 + j) x3) sf1 sr1 sm1 hd1 nx1) H_4 := hP
          have hD : va_D A (wX h0 q d (nI a) la gm gr tc1 ch1 hf hr hc1 (upd ce (4 * j2 + j) x3) sf1 sr1 sm1 hd1 nx1) := hD
          refine lv_iconst (v := 0) hx hb dX0_store_46 (by decide) ?_
          exact W.iret (v := 0) hx hb hret (fun t ht hW => ⟨⟨0, ((nI a, la, gm, gr, tc1, ch1, hf, hr, hc1, upd ce (4 * j2 + j) x3), (sf1, sr1, sm1, hd1, nx1)), rfl, ⟨sp_store_g ha hb8 hj4 hj8 hw.1, hw.2⟩, by rw [ht]; exact hP, va_K.moved hW.alike hK, hD⟩, hS.F ht⟩) hS.2.2 dX0_store_47
        · refine lv_iload hx hb dX0_store_31 (lv_at hl 0 rfl) ?_
          exact W.iret (v := f) hx hb hret (fun t ht hW => ⟨⟨f, ((nI a, la, gm, gr, tc1, ch1, hf, hr, hc1, ce), (sf1, sr1, sm1, hd1, nx1)), rfl, ⟨sp_store_n ha hb8 hj4 hw.1 (sp_ge c28), hw.2⟩, by rw [ht]; exact hP, va_K.moved hW.alike hK, hD⟩, hS.F ht⟩) hS.2.2 dX0_store_33
      · refine lv_iconst (v := -1) hx hb dX0_store_16 (by decide) ?_
        exact W.iret (v := (-1)) hx hb hret (fun t ht hW => ⟨⟨-1, ((nI a, la, gm, gr, tc, ch, hf, hr, hc, ce), (sf, sr, sm, hd, nx)), rfl, ⟨sp_store_b (Or.inr (Or.inr (sp_gt c13))), hI⟩, by rw [ht]; exact hP, va_K.moved hW.alike hK, hD⟩, hS.F ht⟩) hS.2.2 dX0_store_17
set_option maxHeartbeats 4000000 in
set_option maxRecDepth 100000 in
theorem mX_fetch (l : Launch) (dC : Nat → ClassId) (dI : Nat → Nat → Nat) (h0 : Nat) (q : Nat → Nat) (d : Nat → ClassId) (sz : Nat) (pr la : Int32) (gm gr tc ch hf hr hc ce sf sr sm hd nx : FN) (x1 : Int32) (hI : sp_INV pr gm gr tc ch hf hr hc sf sr sm hd nx) : Met l yX0_fetch (ws_ yX0_fetch cX0_fetch 2 (some .int)) ({ frames := 3, cells := 0, slots := 0, locals := 72 }) (va_Pc [.ref h0, .int x1] (fun U => U.heap.size = sz ∧ va_P (dC, dI) spCl (wX h0 q d pr la gm gr tc ch hf hr hc ce sf sr sm hd nx) U.heap ∧ va_K (dC, dI) spCl (tyX d) U ∧ va_D (fun _ => True) (wX h0 q d pr la gm gr tc ch hf hr hc ce sf sr sm hd nx))) (va_Qi (fun (r : Int32) (u : PT × PS) => (r, u.1) = sp_fetch pr la gm gr tc ch hf hr hc ce x1 ∧ sp_Inv u) (fun u t => BXu dC dI (va_A (wX h0 q d pr la gm gr tc ch hf hr hc ce sf sr sm hd nx) sz) h0 q d u t) (va_A (wX h0 q d pr la gm gr tc ch hf hr hc ce sf sr sm hd nx) sz)) 0 0 (va_A (wX h0 q d pr la gm gr tc ch hf hr hc ce sf sr sm hd nx) sz) := by
  refine Met.ofW (cc := cX0_fetch) (maxL := 2) (ret := (some .int)) (by decide) rfl ?_
  intro p ev s m args below meth c s₁ B hml hv
  obtain ⟨rfl, hsz, hP, hK, hD0⟩ := hv
  have hx := B.exec
  have hb := B.bytes
  have hret := B.returns
  have hts := atoms_spec (ws := (ws_ yX0_fetch cX0_fetch 2 (some .int))) B.pre
  have hts : ∀ w ∈ lw_all, w.before _ s = true := fun w h => hts w (List.mem_cons_of_mem _ h)
  have hown : s.vm.findClass RX0 = some m.cls := findClass_of_methodNamed B.named
  have hlocks := B.notSynchronized
  subst hsz
  have hD := hD0.self (sz := s.heap.size)
  generalize hAe : va_A (wX h0 q d pr la gm gr tc ch hf hr hc ce sf sr sm hd nx) s.heap.size = A at hD ⊢
  have hA : ∀ q : Nat, s.heap.size ≤ q → A q := fun q h => by rw [← hAe]; exact Or.inr h
  have hS : va_S A s.heap s.heap [] := va_S.rf
  have hl := lv_entry ([.ref h0, .int x1]) (n := 2) (Nat.le_of_ble_eq_true rfl)
  rw [lg_entry_eq]
  generalize (lg_sl ([.ref h0, .int x1]) ++ List.replicate (2 - (lg_sl ([.ref h0, .int x1])).length) Slot.unset).toArray = ls at hl ⊢
  have hl : lv_has ls 2 [(0, .ref h0), (1, .int x1)] := hl
  obtain ⟨a, ha, hpr⟩ := hI.1.1
  subst hpr
  refine lv_iload_n hx hb dX0_fetch_0 rfl (lv_at hl 1 rfl) ?_
  have hFc := va_free (wc := []) hD hS hA [] rfl
  refine va_calli (va_runS (As := [.int x1]) (rest := []) ⟨hx, hb, hml, hown, hts⟩ (mX_isNumber l x1 s.heap.size) (va_cwS 1 hts (lw_S q70 q71 q5 q72) rfl rfl rfl (by decide +kernel) ⟨Nat.le_of_ble_eq_true rfl, Nat.le_of_ble_eq_true rfl⟩) ⟨fun a U g mk q => ⟨q.1, q.2⟩, fun U hU hW => ⟨rfl, congrArg Array.size hU⟩⟩ rfl rfl hl.1 rfl (lv_room (Nat.le_of_ble_eq_true rfl)) dX0_fetch_1 ⟨Nat.le_of_ble_eq_true rfl, Nat.le_of_ble_eq_true rfl⟩) hS (fun q _ h => hFc q h) hFc (fun r1 u t H_1 locs ht hvm hw_r1 hB hz1 hk1 hS => ?_)
  have hP := sp_keep hP hk1
  refine lv_if_eq (tgt := 16) hx hb dX0_fetch_4 (by decide) (fun c4 => ?_) (fun c4 => ?_)
  · refine lv_iconst (v := -1) hx hb dX0_fetch_16 (by decide) ?_
    exact W.iret (v := (-1)) hx hb hret (fun t ht hW => ⟨⟨-1, ((nI a, la, gm, gr, tc, ch, hf, hr, hc, ce), (sf, sr, sm, hd, nx)), rfl, ⟨sp_fetch_b (sp_pnm0 hw_r1 c4), hI⟩, by rw [ht]; exact hP, va_K.moved hW.alike hK, hD⟩, hS.F ht⟩) hS.2.2 dX0_fetch_17
  · obtain ⟨b, hb8, rfl⟩ := sp_pnm1 hw_r1 c4
    refine lv_aload_n hx hb dX0_fetch_7 rfl (lv_at hl 0 rfl) ?_
    refine lv_iload_n hx hb dX0_fetch_8 rfl (lv_at hl 1 rfl) ?_
    refine lv_iconst (v := 4) hx hb dX0_fetch_9 (by decide) ?_
    have he : 8 * a + b < 16 := by omega
    have hFc := va_free (wc := wX h0 q d (nI a) la gm gr tc ch hf hr hc ce sf sr sm hd nx) hD hS hA [0, 1, 2, 3, 4, 5, 6, 7, 8, 9, 10, 11, 12, 13] rfl
    refine va_calli (va_runV (As := [.int (nI b), .int 4]) (rest := []) ⟨hx, hb, hml, hown, hts⟩ (mX_reach l dC dI h0 q d H_1.size (nI a) la gm gr tc ch hf hr hc ce sf sr sm hd nx a b 4 ha hb8 rfl (Or.inr (Or.inr rfl)) hI) (cwV 2 hts (lw_V q89 q91 qs1 q5 q92) rfl rfl rfl (by decide +kernel) ⟨Nat.le_of_ble_eq_true rfl, Nat.le_of_ble_eq_true rfl⟩) ⟨fun a U g mk q => by obtain ⟨q0, q1, qP, qK, qD⟩ := q; exact ⟨q0, q1, qP, va_K.moved (u := U) (U := U.calling g mk a) (Vm.Alike.refl U.vm) qK, qD⟩, va_recv hK hP (ci := 0) (q0 := 0) rfl rfl, fun U hU hW => ⟨rfl, by rw [hU], by rw [hU]; exact hP, va_K.moved hW.alike hK, hD.weaken (fun _ _ _ _ => trivial)⟩⟩ rfl rfl hl.1 rfl (lv_room (Nat.le_of_ble_eq_true rfl)) dX0_fetch_10 ⟨Nat.le_of_ble_eq_true rfl, Nat.le_of_ble_eq_true rfl⟩) hS (fun q _ h => hFc q h) hFc (fun f u t H_2 locs ht hvm hw hB hz1 hk1 hS => ?_)
    obtain ⟨⟨tc1, ch1, hc1⟩, ⟨sf1, sr1, sm1, hd1, nx1⟩⟩ := u
    obtain ⟨hP1, hK1, hD1⟩ := hB
    rw [ht] at hP1
    have hP := hP1
    have hD := hD1.weaken (fun _ _ _ h => hFc _ h)
    have hP : va_P (dC, dI) spCl (wX h0 q d (nI a) la gm gr tc1 ch1 hf hr hc1 ce sf1 sr1 sm1 hd1 nx1) H_2 := hP
    have hD : va_D A (wX h0 q d (nI a) la gm gr tc1 ch1 hf hr hc1 ce sf1 sr1 sm1 hd1 nx1) := hD
    refine lv_goto (tgt := 17) hx hb dX0_fetch_13 (by decide) ?_
    exact W.iret (v := f) hx hb hret (fun t ht hW => ⟨⟨f, ((nI a, la, gm, gr, tc1, ch1, hf, hr, hc1, ce), (sf1, sr1, sm1, hd1, nx1)), rfl, ⟨sp_fetch_g ha hb8 hw.1, hw.2⟩, by rw [ht]; exact hP, va_K.moved hW.alike hK, hD⟩, hS.F ht⟩) hS.2.2 dX0_fetch_17
set_option maxHeartbeats 4000000 in
set_option maxRecDepth 100000 in
theorem mX_last (l : Launch) (dC : Nat → ClassId) (dI : Nat → Nat → Nat) (h0 : Nat) (q : Nat → Nat) (d : Nat → ClassId) (sz : Nat) (pr la : Int32) (gm gr tc ch hf hr hc ce sf sr sm hd nx : FN) (hI : sp_INV pr gm gr tc ch hf hr hc sf sr sm hd nx) : Met l yX0_last (ws_ yX0_last cX0_last 1 (some .int)) ({ frames := 0, cells := 0, slots := 0, locals := 0 }) (va_Pc [.ref h0] (fun U => U.heap.size = sz ∧ va_P (dC, dI) spCl (wX h0 q d pr la gm gr tc ch hf hr hc ce sf sr sm hd nx) U.heap ∧ va_K (dC, dI) spCl (tyX d) U ∧ va_D (fun _ => True) (wX h0 q d pr la gm gr tc ch hf hr hc ce sf sr sm hd nx))) (va_Qi (fun (r : Int32) (u : PT × PS) => (r, u.1) = (la, pr, la, gm, gr, tc, ch, hf, hr, hc, ce) ∧ sp_Inv u) (fun u t => BXu dC dI (va_A (wX h0 q d pr la gm gr tc ch hf hr hc ce sf sr sm hd nx) sz) h0 q d u t) (va_A (wX h0 q d pr la gm gr tc ch hf hr hc ce sf sr sm hd nx) sz)) 0 0 (va_A (wX h0 q d pr la gm gr tc ch hf hr hc ce sf sr sm hd nx) sz) := by
  refine Met.ofW (cc := cX0_last) (maxL := 1) (ret := (some .int)) (by decide) rfl ?_
  intro p ev s m args below meth c s₁ B hml hv
  obtain ⟨rfl, hsz, hP, hK, hD0⟩ := hv
  have hx := B.exec
  have hb := B.bytes
  have hret := B.returns
  have hts := atoms_spec (ws := (ws_ yX0_last cX0_last 1 (some .int))) B.pre
  have hts : ∀ w ∈ lw_all, w.before _ s = true := fun w h => hts w (List.mem_cons_of_mem _ h)
  have hown : s.vm.findClass RX0 = some m.cls := findClass_of_methodNamed B.named
  have hlocks := B.notSynchronized
  subst hsz
  have hD := hD0.self (sz := s.heap.size)
  generalize hAe : va_A (wX h0 q d pr la gm gr tc ch hf hr hc ce sf sr sm hd nx) s.heap.size = A at hD ⊢
  have hA : ∀ q : Nat, s.heap.size ≤ q → A q := fun q h => by rw [← hAe]; exact Or.inr h
  have hS : va_S A s.heap s.heap [] := va_S.rf
  have hl := lv_entry ([.ref h0]) (n := 1) (Nat.le_of_ble_eq_true rfl)
  rw [lg_entry_eq]
  generalize (lg_sl ([.ref h0]) ++ List.replicate (1 - (lg_sl ([.ref h0])).length) Slot.unset).toArray = ls at hl ⊢
  have hl : lv_has ls 1 [(0, .ref h0)] := hl
  refine lv_aload_n hx hb dX0_last_0 rfl (lv_at hl 0 rfl) ?_
  refine va_get (D := (dC, dI)) (ci := 0) (v := .int la) (C := RX0) (T := TX0) (N := 15) hx hb hts in_X0 hown hK hP 0 rfl rfl 9 (by decide) (hts _ q24) (fun _ h9 => h9) rfl dX0_last_1 ?_
  exact W.iret (v := la) hx hb hret (fun t ht hW => ⟨⟨la, ((pr, la, gm, gr, tc, ch, hf, hr, hc, ce), (sf, sr, sm, hd, nx)), rfl, ⟨rfl, hI⟩, by rw [ht]; exact hP, va_K.moved hW.alike hK, hD⟩, hS.F ht⟩) hS.2.2 dX0_last_4
end
section
set_option maxHeartbeats 4000000 in
set_option maxRecDepth 100000 in
theorem mX_marks (l : Launch) (dC : Nat → ClassId) (dI : Nat → Nat → Nat) (h0 : Nat) (q : Nat → Nat) (d : Nat → ClassId) (sz : Nat) (pr la : Int32) (gm gr tc ch hf hr hc ce sf sr sm hd nx : FN) (x1 x2 : Int32) (hI : sp_INV pr gm gr tc ch hf hr hc sf sr sm hd nx) : Met l yX0_marks (ws_ yX0_marks cX0_marks 4 (some .int)) ({ frames := 1, cells := 0, slots := 0, locals := 20 }) (va_Pc [.ref h0, .int x1, .int x2] (fun U => U.heap.size = sz ∧ va_P (dC, dI) spCl (wX h0 q d pr la gm gr tc ch hf hr hc ce sf sr sm hd nx) U.heap ∧ va_K (dC, dI) spCl (tyX d) U ∧ va_D (fun _ => True) (wX h0 q d pr la gm gr tc ch hf hr hc ce sf sr sm hd nx))) (va_Qi (fun (r : Int32) (u : PT × PS) => (r, u.1) = (sp_marks gm tc ch x1 x2, pr, la, gm, gr, tc, ch, hf, hr, hc, ce) ∧ sp_Inv u) (fun u t => BXu dC dI (va_A (wX h0 q d pr la gm gr tc ch hf hr hc ce sf sr sm hd nx) sz) h0 q d u t) (va_A (wX h0 q d pr la gm gr tc ch hf hr hc ce sf sr sm hd nx) sz)) 0 0 (va_A (wX h0 q d pr la gm gr tc ch hf hr hc ce sf sr sm hd nx) sz) := by
  refine Met.ofW (cc := cX0_marks) (maxL := 4) (ret := (some .int)) (by decide) rfl ?_
  intro p ev s m args below meth c s₁ B hml hv
  obtain ⟨rfl, hsz, hP, hK, hD0⟩ := hv
  have hx := B.exec
  have hb := B.bytes
  have hret := B.returns
  have hts := atoms_spec (ws := (ws_ yX0_marks cX0_marks 4 (some .int))) B.pre
  have hts : ∀ w ∈ lw_all, w.before _ s = true := fun w h => hts w (List.mem_cons_of_mem _ h)
  have hown : s.vm.findClass RX0 = some m.cls := findClass_of_methodNamed B.named
  have hlocks := B.notSynchronized
  subst hsz
  have hD := hD0.self (sz := s.heap.size)
  generalize hAe : va_A (wX h0 q d pr la gm gr tc ch hf hr hc ce sf sr sm hd nx) s.heap.size = A at hD ⊢
  have hA : ∀ q : Nat, s.heap.size ≤ q → A q := fun q h => by rw [← hAe]; exact Or.inr h
  have hS : va_S A s.heap s.heap [] := va_S.rf
  have hl := lv_entry ([.ref h0, .int x1, .int x2]) (n := 4) (Nat.le_of_ble_eq_true rfl)
  rw [lg_entry_eq]
  generalize (lg_sl ([.ref h0, .int x1, .int x2]) ++ List.replicate (4 - (lg_sl ([.ref h0, .int x1, .int x2])).length) Slot.unset).toArray = ls at hl ⊢
  have hl : lv_has ls 4 [(0, .ref h0), (1, .int x1), (2, .int x2)] := hl
  refine lv_iload_n hx hb dX0_marks_0 rfl (lv_at hl 1 rfl) ?_
  have hFc := va_free (wc := []) hD hS hA [] rfl
  refine va_calli (va_runS (As := [.int x1]) (rest := []) ⟨hx, hb, hml, hown, hts⟩ (mX_isSpace l x1 s.heap.size) (va_cwS 1 hts (lw_S q67 q68 q5 q69) rfl rfl rfl (by decide +kernel) ⟨Nat.le_of_ble_eq_true rfl, Nat.le_of_ble_eq_true rfl⟩) ⟨fun a U g mk q => ⟨q.1, q.2⟩, fun U hU hW => ⟨rfl, congrArg Array.size hU⟩⟩ rfl rfl hl.1 rfl (lv_room (Nat.le_of_ble_eq_true rfl)) dX0_marks_1 ⟨Nat.le_of_ble_eq_true rfl, Nat.le_of_ble_eq_true rfl⟩) hS (fun q _ h => hFc q h) hFc (fun r1 u t H_1 locs ht hvm hw_r1 hB hz1 hk1 hS => ?_)
  have hP := sp_keep hP hk1
  refine lv_if_eq (tgt := 14) hx hb dX0_marks_4 (by decide) (fun c4 => ?_) (fun c4 => ?_)
  · refine lv_iconst (v := -1) hx hb dX0_marks_14 (by decide) ?_
    exact W.iret (v := (-1)) hx hb hret (fun t ht hW => ⟨⟨-1, ((pr, la, gm, gr, tc, ch, hf, hr, hc, ce), (sf, sr, sm, hd, nx)), rfl, ⟨Prod.ext (sp_marks_b (Or.inl (sp_psp0 hw_r1 c4))) rfl, hI⟩, by rw [ht]; exact hP, va_K.moved hW.alike hK, hD⟩, hS.F ht⟩) hS.2.2 dX0_marks_15
  · obtain ⟨a, ha, rfl⟩ := sp_psp1 hw_r1 c4
    refine lv_iload_n hx hb dX0_marks_7 rfl (lv_at hl 2 rfl) ?_
    have hFc := va_free (wc := []) hD hS hA [] rfl
    refine va_calli (va_runS (As := [.int x2]) (rest := []) ⟨hx, hb, hml, hown, hts⟩ (mX_isNumber l x2 H_1.size) (va_cwS 1 hts (lw_S q70 q71 q5 q72) rfl rfl rfl (by decide +kernel) ⟨Nat.le_of_ble_eq_true rfl, Nat.le_of_ble_eq_true rfl⟩) ⟨fun a U g mk q => ⟨q.1, q.2⟩, fun U hU hW => ⟨rfl, congrArg Array.size hU⟩⟩ rfl rfl hl.1 rfl (lv_room (Nat.le_of_ble_eq_true rfl)) dX0_marks_8 ⟨Nat.le_of_ble_eq_true rfl, Nat.le_of_ble_eq_true rfl⟩) hS (fun q _ h => hFc q h) hFc (fun r2 u t H_2 locs ht hvm hw_r2 hB hz1 hk1 hS => ?_)
    have hP := sp_keep hP hk1
    refine lv_if_ne (tgt := 16) hx hb dX0_marks_11 (by decide) (fun c11 => ?_) (fun c11 => ?_)
    · obtain ⟨b, hb8, rfl⟩ := sp_pnm1 hw_r2 c11
      refine lv_bipush (v := 8) hx hb dX0_marks_16 (by decide) ?_
      refine lv_iload_n hx hb dX0_marks_18 rfl (lv_at hl 1 rfl) ?_
      refine lv_imul hx hb dX0_marks_19 ?_
      refine lv_iload_n hx hb dX0_marks_20 rfl (lv_at hl 2 rfl) ?_
      refine lv_iadd hx hb dX0_marks_21 ?_
      refine lv_topi (fun v_3 ev_3 => ?_)
      obtain rfl : v_3 = nI (8 * a + b) := ev_3.trans (sp_ixI a b)
      refine lv_istore_n (lv' := [(3, .int (nI (8 * a + b))), (0, .ref h0), (1, .int (nI a)), (2, .int (nI b))]) hx hb dX0_marks_22 rfl hl (by decide) rfl (fun ls hl => ?_)
      refine lv_aload_n hx hb dX0_marks_23 rfl (lv_at hl 1 rfl) ?_
      refine va_get (D := (dC, dI)) (ci := 0) (v := .ref (q 1)) (C := RX0) (T := TX0) (N := 15) hx hb hts in_X0 hown hK hP 0 rfl rfl 1 (by decide) (hts _ q16) (fun _ h9 => h9) rfl dX0_marks_24 ?_
      refine lv_iload_n hx hb dX0_marks_27 rfl (lv_at hl 0 rfl) ?_
      refine sp_ild hx hb hK hP 1 0 rfl rfl (8 * a + b) rfl (by omega) (by decide) dX0_marks_28 ?_
      refine lv_if_ge (tgt := 34) hx hb dX0_marks_29 (by decide) (fun c29 => ?_) (fun c29 => ?_)
      · refine lv_aload_n hx hb dX0_marks_34 rfl (lv_at hl 1 rfl) ?_
        refine va_get (D := (dC, dI)) (ci := 0) (v := .ref (q 3)) (C := RX0) (T := TX0) (N := 15) hx hb hts in_X0 hown hK hP 0 rfl rfl 3 (by decide) (hts _ q18) (fun _ h9 => h9) rfl dX0_marks_35 ?_
        refine lv_iload_n hx hb dX0_marks_38 rfl (lv_at hl 0 rfl) ?_
        refine sp_zld hx hb hK hP 3 2 rfl rfl (8 * a + b) rfl (by omega) (by decide) dX0_marks_39 ?_
        refine lv_if_eq (tgt := 47) hx hb dX0_marks_40 (by decide) (fun c40 => ?_) (fun c40 => ?_)
        · refine lv_iconst (v := 0) hx hb dX0_marks_47 (by decide) ?_
          refine lv_aload_n hx hb dX0_marks_48 rfl (lv_at hl 1 rfl) ?_
          refine va_get (D := (dC, dI)) (ci := 0) (v := .ref (q 4)) (C := RX0) (T := TX0) (N := 15) hx hb hts in_X0 hown hK hP 0 rfl rfl 4 (by decide) (hts _ q19) (fun _ h9 => h9) rfl dX0_marks_49 ?_
          refine lv_iload_n hx hb dX0_marks_52 rfl (lv_at hl 0 rfl) ?_
          refine sp_zld hx hb hK hP 4 3 rfl rfl (8 * a + b) rfl (by omega) (by decide) dX0_marks_53 ?_
          refine lv_if_eq (tgt := 61) hx hb dX0_marks_54 (by decide) (fun c54 => ?_) (fun c54 => ?_)
          · refine lv_iconst (v := 0) hx hb dX0_marks_61 (by decide) ?_
            refine lv_iadd hx hb dX0_marks_62 ?_
            exact W.iret (v := (0 + 0)) hx hb hret (fun t ht hW => ⟨⟨0 + 0, ((pr, la, gm, gr, tc, ch, hf, hr, hc, ce), (sf, sr, sm, hd, nx)), rfl, ⟨Prod.ext (sp_marks_g ha hb8 (sp_nge c29) (Or.inl ⟨c40, rfl⟩) (Or.inl ⟨c54, rfl⟩)) rfl, hI⟩, by rw [ht]; exact hP, va_K.moved hW.alike hK, hD⟩, hS.F ht⟩) hS.2.2 dX0_marks_63
          · refine lv_iconst (v := 2) hx hb dX0_marks_57 (by decide) ?_
            refine lv_goto (tgt := 62) hx hb dX0_marks_58 (by decide) ?_
            refine lv_iadd hx hb dX0_marks_62 ?_
            exact W.iret (v := (0 + 2)) hx hb hret (fun t ht hW => ⟨⟨0 + 2, ((pr, la, gm, gr, tc, ch, hf, hr, hc, ce), (sf, sr, sm, hd, nx)), rfl, ⟨Prod.ext (sp_marks_g ha hb8 (sp_nge c29) (Or.inl ⟨c40, rfl⟩) (Or.inr ⟨c54, rfl⟩)) rfl, hI⟩, by rw [ht]; exact hP, va_K.moved hW.alike hK, hD⟩, hS.F ht⟩) hS.2.2 dX0_marks_63
        · refine lv_iconst (v := 1) hx hb dX0_marks_43 (by decide) ?_
          refine lv_goto (tgt := 48) hx hb dX0_marks_44 (by decide) ?_
          refine lv_aload_n hx hb dX0_marks_48 rfl (lv_at hl 1 rfl) ?_
          refine va_get (D := (dC, dI)) (ci := 0) (v := .ref (q 4)) (C := RX0) (T := TX0) (N := 15) hx hb hts in_X0 hown hK hP 0 rfl rfl 4 (by decide) (hts _ q19) (fun _ h9 => h9) rfl dX0_marks_49 ?_
          refine lv_iload_n hx hb dX0_marks_52 rfl (lv_at hl 0 rfl) ?_
          refine sp_zld hx hb hK hP 4 3 rfl rfl (8 * a + b) rfl (by omega) (by decide) dX0_marks_53 ?_
          refine lv_if_eq (tgt := 61) hx hb dX0_marks_54 (by decide) (fun c54 => ?_) (fun c54 => ?_)
          · refine lv_iconst (v := 0) hx hb dX0_marks_61 (by decide) ?_
            refine lv_iadd hx hb dX0_marks_62 ?_
            exact W.iret (v := (1 + 0)) hx hb hret (fun t ht hW => ⟨⟨1 + 0, ((pr, la, gm, gr, tc, ch, hf, hr, hc, ce), (sf, sr, sm, hd, nx)), rfl, ⟨Prod.ext (sp_marks_g ha hb8 (sp_nge c29) (Or.inr ⟨c40, rfl⟩) (Or.inl ⟨c54, rfl⟩)) rfl, hI⟩, by rw [ht]; exact hP, va_K.moved hW.alike hK, hD⟩, hS.F ht⟩) hS.2.2 dX0_marks_63
          · refine lv_iconst (v := 2) hx hb dX0_marks_57 (by decide) ?_
            refine lv_goto (tgt := 62) hx hb dX0_marks_58 (by decide) ?_
            refine lv_iadd hx hb dX0_marks_62 ?_
            exact W.iret (v := (1 + 2)) hx hb hret (fun t ht hW => ⟨⟨1 + 2, ((pr, la, gm, gr, tc, ch, hf, hr, hc, ce), (sf, sr, sm, hd, nx)), rfl, ⟨Prod.ext (sp_marks_g ha hb8 (sp_nge c29) (Or.inr ⟨c40, rfl⟩) (Or.inr ⟨c54, rfl⟩)) rfl, hI⟩, by rw [ht]; exact hP, va_K.moved hW.alike hK, hD⟩, hS.F ht⟩) hS.2.2 dX0_marks_63
      · refine lv_iconst (v := 0) hx hb dX0_marks_32 (by decide) ?_
        exact W.iret (v := 0) hx hb hret (fun t ht hW => ⟨⟨0, ((pr, la, gm, gr, tc, ch, hf, hr, hc, ce), (sf, sr, sm, hd, nx)), rfl, ⟨Prod.ext (sp_marks_0 ha hb8 (sp_ge c29)) rfl, hI⟩, by rw [ht]; exact hP, va_K.moved hW.alike hK, hD⟩, hS.F ht⟩) hS.2.2 dX0_marks_33
    · refine lv_iconst (v := -1) hx hb dX0_marks_14 (by decide) ?_
      exact W.iret (v := (-1)) hx hb hret (fun t ht hW => ⟨⟨-1, ((pr, la, gm, gr, tc, ch, hf, hr, hc, ce), (sf, sr, sm, hd, nx)), rfl, ⟨Prod.ext (sp_marks_b (Or.inr (sp_pnm0 hw_r2 c11))) rfl, hI⟩, by rw [ht]; exact hP, va_K.moved hW.alike hK, hD⟩, hS.F ht⟩) hS.2.2 dX0_marks_15
set_option maxHeartbeats 4000000 in
set_option maxRecDepth 100000 in
theorem mX_hostMark (l : Launch) (dC : Nat → ClassId) (dI : Nat → Nat → Nat) (h0 : Nat) (q : Nat → Nat) (d : Nat → ClassId) (sz : Nat) (pr la : Int32) (gm gr tc ch hf hr hc ce sf sr sm hd nx : FN) (x1 : Int32) (hI : sp_INV pr gm gr tc ch hf hr hc sf sr sm hd nx) : Met l yX0_hostMark (ws_ yX0_hostMark cX0_hostMark 2 (some .int)) ({ frames := 1, cells := 0, slots := 0, locals := 20 }) (va_Pc [.ref h0, .int x1] (fun U => U.heap.size = sz ∧ va_P (dC, dI) spCl (wX h0 q d pr la gm gr tc ch hf hr hc ce sf sr sm hd nx) U.heap ∧ va_K (dC, dI) spCl (tyX d) U ∧ va_D (fun _ => True) (wX h0 q d pr la gm gr tc ch hf hr hc ce sf sr sm hd nx))) (va_Qi (fun (r : Int32) (u : PT × PS) => (r, u.1) = (sp_hostMark hf hc x1, pr, la, gm, gr, tc, ch, hf, hr, hc, ce) ∧ sp_Inv u) (fun u t => BXu dC dI (va_A (wX h0 q d pr la gm gr tc ch hf hr hc ce sf sr sm hd nx) sz) h0 q d u t) (va_A (wX h0 q d pr la gm gr tc ch hf hr hc ce sf sr sm hd nx) sz)) 0 0 (va_A (wX h0 q d pr la gm gr tc ch hf hr hc ce sf sr sm hd nx) sz) := by
  refine Met.ofW (cc := cX0_hostMark) (maxL := 2) (ret := (some .int)) (by decide) rfl ?_
  intro p ev s m args below meth c s₁ B hml hv
  obtain ⟨rfl, hsz, hP, hK, hD0⟩ := hv
  have hx := B.exec
  have hb := B.bytes
  have hret := B.returns
  have hts := atoms_spec (ws := (ws_ yX0_hostMark cX0_hostMark 2 (some .int))) B.pre
  have hts : ∀ w ∈ lw_all, w.before _ s = true := fun w h => hts w (List.mem_cons_of_mem _ h)
  have hown : s.vm.findClass RX0 = some m.cls := findClass_of_methodNamed B.named
  have hlocks := B.notSynchronized
  subst hsz
  have hD := hD0.self (sz := s.heap.size)
  generalize hAe : va_A (wX h0 q d pr la gm gr tc ch hf hr hc ce sf sr sm hd nx) s.heap.size = A at hD ⊢
  have hA : ∀ q : Nat, s.heap.size ≤ q → A q := fun q h => by rw [← hAe]; exact Or.inr h
  have hS : va_S A s.heap s.heap [] := va_S.rf
  have hl := lv_entry ([.ref h0, .int x1]) (n := 2) (Nat.le_of_ble_eq_true rfl)
  rw [lg_entry_eq]
  generalize (lg_sl ([.ref h0, .int x1]) ++ List.replicate (2 - (lg_sl ([.ref h0, .int x1])).length) Slot.unset).toArray = ls at hl ⊢
  have hl : lv_has ls 2 [(0, .ref h0), (1, .int x1)] := hl
  refine lv_iload_n hx hb dX0_hostMark_0 rfl (lv_at hl 1 rfl) ?_
  have hFc := va_free (wc := []) hD hS hA [] rfl
  refine va_calli (va_runS (As := [.int x1]) (rest := []) ⟨hx, hb, hml, hown, hts⟩ (mX_isNumber l x1 s.heap.size) (va_cwS 1 hts (lw_S q70 q71 q5 q72) rfl rfl rfl (by decide +kernel) ⟨Nat.le_of_ble_eq_true rfl, Nat.le_of_ble_eq_true rfl⟩) ⟨fun a U g mk q => ⟨q.1, q.2⟩, fun U hU hW => ⟨rfl, congrArg Array.size hU⟩⟩ rfl rfl hl.1 rfl (lv_room (Nat.le_of_ble_eq_true rfl)) dX0_hostMark_1 ⟨Nat.le_of_ble_eq_true rfl, Nat.le_of_ble_eq_true rfl⟩) hS (fun q _ h => hFc q h) hFc (fun r1 u t H_1 locs ht hvm hw_r1 hB hz1 hk1 hS => ?_)
  have hP := sp_keep hP hk1
  refine lv_if_ne (tgt := 9) hx hb dX0_hostMark_4 (by decide) (fun c4 => ?_) (fun c4 => ?_)
  · obtain ⟨b, hb8, rfl⟩ := sp_pnm1 hw_r1 c4
    refine lv_aload_n hx hb dX0_hostMark_9 rfl (lv_at hl 0 rfl) ?_
    refine va_get (D := (dC, dI)) (ci := 0) (v := .ref (q 5)) (C := RX0) (T := TX0) (N := 15) hx hb hts in_X0 hown hK hP 0 rfl rfl 5 (by decide) (hts _ q20) (fun _ h9 => h9) rfl dX0_hostMark_10 ?_
    refine lv_iload_n hx hb dX0_hostMark_13 rfl (lv_at hl 1 rfl) ?_
    refine sp_ild hx hb hK hP 5 4 rfl rfl b rfl (by omega) (by decide) dX0_hostMark_14 ?_
    refine lv_if_lt (tgt := 31) hx hb dX0_hostMark_15 (by decide) (fun c15 => ?_) (fun c15 => ?_)
    · refine lv_iconst (v := 0) hx hb dX0_hostMark_31 (by decide) ?_
      exact W.iret (v := 0) hx hb hret (fun t ht hW => ⟨⟨0, ((pr, la, gm, gr, tc, ch, hf, hr, hc, ce), (sf, sr, sm, hd, nx)), rfl, ⟨Prod.ext (sp_hostMark_0 hb8 (Or.inl c15)) rfl, hI⟩, by rw [ht]; exact hP, va_K.moved hW.alike hK, hD⟩, hS.F ht⟩) hS.2.2 dX0_hostMark_32
    · refine lv_aload_n hx hb dX0_hostMark_18 rfl (lv_at hl 0 rfl) ?_
      refine va_get (D := (dC, dI)) (ci := 0) (v := .ref (q 7)) (C := RX0) (T := TX0) (N := 15) hx hb hts in_X0 hown hK hP 0 rfl rfl 7 (by decide) (hts _ q22) (fun _ h9 => h9) rfl dX0_hostMark_19 ?_
      refine lv_iload_n hx hb dX0_hostMark_22 rfl (lv_at hl 1 rfl) ?_
      refine sp_zld hx hb hK hP 7 6 rfl rfl b rfl (by omega) (by decide) dX0_hostMark_23 ?_
      refine lv_if_eq (tgt := 31) hx hb dX0_hostMark_24 (by decide) (fun c24 => ?_) (fun c24 => ?_)
      · refine lv_iconst (v := 0) hx hb dX0_hostMark_31 (by decide) ?_
        exact W.iret (v := 0) hx hb hret (fun t ht hW => ⟨⟨0, ((pr, la, gm, gr, tc, ch, hf, hr, hc, ce), (sf, sr, sm, hd, nx)), rfl, ⟨Prod.ext (sp_hostMark_0 hb8 (Or.inr c24)) rfl, hI⟩, by rw [ht]; exact hP, va_K.moved hW.alike hK, hD⟩, hS.F ht⟩) hS.2.2 dX0_hostMark_32
      · refine lv_iconst (v := 1) hx hb dX0_hostMark_27 (by decide) ?_
        refine lv_goto (tgt := 32) hx hb dX0_hostMark_28 (by decide) ?_
        exact W.iret (v := 1) hx hb hret (fun t ht hW => ⟨⟨1, ((pr, la, gm, gr, tc, ch, hf, hr, hc, ce), (sf, sr, sm, hd, nx)), rfl, ⟨Prod.ext (sp_hostMark_1 hb8 c15 c24) rfl, hI⟩, by rw [ht]; exact hP, va_K.moved hW.alike hK, hD⟩, hS.F ht⟩) hS.2.2 dX0_hostMark_32
  · refine lv_iconst (v := -1) hx hb dX0_hostMark_7 (by decide) ?_
    exact W.iret (v := (-1)) hx hb hret (fun t ht hW => ⟨⟨-1, ((pr, la, gm, gr, tc, ch, hf, hr, hc, ce), (sf, sr, sm, hd, nx)), rfl, ⟨Prod.ext (sp_hostMark_b (sp_pnm0 hw_r1 c4)) rfl, hI⟩, by rw [ht]; exact hP, va_K.moved hW.alike hK, hD⟩, hS.F ht⟩) hS.2.2 dX0_hostMark_8
set_option maxHeartbeats 4000000 in
set_option maxRecDepth 100000 in
theorem mX_frameCell (l : Launch) (dC : Nat → ClassId) (dI : Nat → Nat → Nat) (h0 : Nat) (q : Nat → Nat) (d : Nat → ClassId) (sz : Nat) (pr la : Int32) (gm gr tc ch hf hr hc ce sf sr sm hd nx : FN) (x1 x2 : Int32) (hI : sp_INV pr gm gr tc ch hf hr hc sf sr sm hd nx) : Met l yX0_frameCell (ws_ yX0_frameCell cX0_frameCell 3 (some .int)) ({ frames := 1, cells := 0, slots := 0, locals := 20 }) (va_Pc [.ref h0, .int x1, .int x2] (fun U => U.heap.size = sz ∧ va_P (dC, dI) spCl (wX h0 q d pr la gm gr tc ch hf hr hc ce sf sr sm hd nx) U.heap ∧ va_K (dC, dI) spCl (tyX d) U ∧ va_D (fun _ => True) (wX h0 q d pr la gm gr tc ch hf hr hc ce sf sr sm hd nx))) (va_Qi (fun (r : Int32) (u : PT × PS) => (r, u.1) = (sp_frameCell ce x1 x2, pr, la, gm, gr, tc, ch, hf, hr, hc, ce) ∧ sp_Inv u) (fun u t => BXu dC dI (va_A (wX h0 q d pr la gm gr tc ch hf hr hc ce sf sr sm hd nx) sz) h0 q d u t) (va_A (wX h0 q d pr la gm gr tc ch hf hr hc ce sf sr sm hd nx) sz)) 0 0 (va_A (wX h0 q d pr la gm gr tc ch hf hr hc ce sf sr sm hd nx) sz) := by
  refine Met.ofW (cc := cX0_frameCell) (maxL := 3) (ret := (some .int)) (by decide) rfl ?_
  intro p ev s m args below meth c s₁ B hml hv
  obtain ⟨rfl, hsz, hP, hK, hD0⟩ := hv
  have hx := B.exec
  have hb := B.bytes
  have hret := B.returns
  have hts := atoms_spec (ws := (ws_ yX0_frameCell cX0_frameCell 3 (some .int))) B.pre
  have hts : ∀ w ∈ lw_all, w.before _ s = true := fun w h => hts w (List.mem_cons_of_mem _ h)
  have hown : s.vm.findClass RX0 = some m.cls := findClass_of_methodNamed B.named
  have hlocks := B.notSynchronized
  subst hsz
  have hD := hD0.self (sz := s.heap.size)
  generalize hAe : va_A (wX h0 q d pr la gm gr tc ch hf hr hc ce sf sr sm hd nx) s.heap.size = A at hD ⊢
  have hA : ∀ q : Nat, s.heap.size ≤ q → A q := fun q h => by rw [← hAe]; exact Or.inr h
  have hS : va_S A s.heap s.heap [] := va_S.rf
  have hl := lv_entry ([.ref h0, .int x1, .int x2]) (n := 3) (Nat.le_of_ble_eq_true rfl)
  rw [lg_entry_eq]
  generalize (lg_sl ([.ref h0, .int x1, .int x2]) ++ List.replicate (3 - (lg_sl ([.ref h0, .int x1, .int x2])).length) Slot.unset).toArray = ls at hl ⊢
  have hl : lv_has ls 3 [(0, .ref h0), (1, .int x1), (2, .int x2)] := hl
  refine lv_iload_n hx hb dX0_frameCell_0 rfl (lv_at hl 1 rfl) ?_
  have hFc := va_free (wc := []) hD hS hA [] rfl
  refine va_calli (va_runS (As := [.int x1]) (rest := []) ⟨hx, hb, hml, hown, hts⟩ (mX_isNumber l x1 s.heap.size) (va_cwS 1 hts (lw_S q70 q71 q5 q72) rfl rfl rfl (by decide +kernel) ⟨Nat.le_of_ble_eq_true rfl, Nat.le_of_ble_eq_true rfl⟩) ⟨fun a U g mk q => ⟨q.1, q.2⟩, fun U hU hW => ⟨rfl, congrArg Array.size hU⟩⟩ rfl rfl hl.1 rfl (lv_room (Nat.le_of_ble_eq_true rfl)) dX0_frameCell_1 ⟨Nat.le_of_ble_eq_true rfl, Nat.le_of_ble_eq_true rfl⟩) hS (fun q _ h => hFc q h) hFc (fun r1 u t H_1 locs ht hvm hw_r1 hB hz1 hk1 hS => ?_)
  have hP := sp_keep hP hk1
  refine lv_if_eq (tgt := 29) hx hb dX0_frameCell_4 (by decide) (fun c4 => ?_) (fun c4 => ?_)
  · refine lv_iconst (v := 0) hx hb dX0_frameCell_29 (by decide) ?_
    exact W.iret (v := 0) hx hb hret (fun t ht hW => ⟨⟨0, ((pr, la, gm, gr, tc, ch, hf, hr, hc, ce), (sf, sr, sm, hd, nx)), rfl, ⟨Prod.ext (sp_frameCell_b (Or.inl (sp_pnm0 hw_r1 c4))) rfl, hI⟩, by rw [ht]; exact hP, va_K.moved hW.alike hK, hD⟩, hS.F ht⟩) hS.2.2 dX0_frameCell_30
  · obtain ⟨b, hb8, rfl⟩ := sp_pnm1 hw_r1 c4
    refine lv_iload_n hx hb dX0_frameCell_7 rfl (lv_at hl 2 rfl) ?_
    refine lv_if_lt (tgt := 29) hx hb dX0_frameCell_8 (by decide) (fun c8 => ?_) (fun c8 => ?_)
    · refine lv_iconst (v := 0) hx hb dX0_frameCell_29 (by decide) ?_
      exact W.iret (v := 0) hx hb hret (fun t ht hW => ⟨⟨0, ((pr, la, gm, gr, tc, ch, hf, hr, hc, ce), (sf, sr, sm, hd, nx)), rfl, ⟨Prod.ext (sp_frameCell_b (Or.inr (Or.inl c8))) rfl, hI⟩, by rw [ht]; exact hP, va_K.moved hW.alike hK, hD⟩, hS.F ht⟩) hS.2.2 dX0_frameCell_30
    · refine lv_iload_n hx hb dX0_frameCell_11 rfl (lv_at hl 2 rfl) ?_
      refine lv_iconst (v := 3) hx hb dX0_frameCell_12 (by decide) ?_
      refine lv_icmp_gt (tgt := 29) hx hb dX0_frameCell_13 (by decide) (fun c13 => ?_) (fun c13 => ?_)
      · refine lv_iconst (v := 0) hx hb dX0_frameCell_29 (by decide) ?_
        exact W.iret (v := 0) hx hb hret (fun t ht hW => ⟨⟨0, ((pr, la, gm, gr, tc, ch, hf, hr, hc, ce), (sf, sr, sm, hd, nx)), rfl, ⟨Prod.ext (sp_frameCell_b (Or.inr (Or.inr c13))) rfl, hI⟩, by rw [ht]; exact hP, va_K.moved hW.alike hK, hD⟩, hS.F ht⟩) hS.2.2 dX0_frameCell_30
      · obtain ⟨j, hj4, rfl⟩ := sp_nb3 (x := x2) (fun z => z.elim c8 (c13))
        refine lv_aload_n hx hb dX0_frameCell_16 rfl (lv_at hl 0 rfl) ?_
        refine va_get (D := (dC, dI)) (ci := 0) (v := .ref (q 8)) (C := RX0) (T := TX0) (N := 15) hx hb hts in_X0 hown hK hP 0 rfl rfl 8 (by decide) (hts _ q23) (fun _ h9 => h9) rfl dX0_frameCell_17 ?_
        refine lv_iconst (v := 4) hx hb dX0_frameCell_20 (by decide) ?_
        refine lv_iload_n hx hb dX0_frameCell_21 rfl (lv_at hl 1 rfl) ?_
        refine lv_imul hx hb dX0_frameCell_22 ?_
        refine lv_iload_n hx hb dX0_frameCell_23 rfl (lv_at hl 2 rfl) ?_
        refine lv_iadd hx hb dX0_frameCell_24 ?_
        refine lv_topi (fun v_2 ev_2 => ?_)
        obtain rfl : v_2 = nI (4 * b + j) := ev_2.trans (sp_cxI b j)
        refine sp_ild hx hb hK hP 8 7 rfl rfl (4 * b + j) rfl (by omega) (by decide) dX0_frameCell_25 ?_
        refine lv_goto (tgt := 30) hx hb dX0_frameCell_26 (by decide) ?_
        exact W.iret (v := (ce (4 * b + j))) hx hb hret (fun t ht hW => ⟨⟨ce (4 * b + j), ((pr, la, gm, gr, tc, ch, hf, hr, hc, ce), (sf, sr, sm, hd, nx)), rfl, ⟨Prod.ext (sp_frameCell_g hb8 hj4) rfl, hI⟩, by rw [ht]; exact hP, va_K.moved hW.alike hK, hD⟩, hS.F ht⟩) hS.2.2 dX0_frameCell_30
set_option maxHeartbeats 4000000 in
set_option maxRecDepth 100000 in
theorem lpX_age {p : Program} {l : Launch} {ev : Env} {s : State} {m : MethodId} {args : Array Value} {below : List Frame} {meth : Method} {c : Code} {Q : State → Prop} {dC : Nat → ClassId} {dI : Nat → Nat → Nat} {h0 : Nat} {q : Nat → Nat} {d : Nat → ClassId} {A : Nat → Prop} {pr la : Int32} {gm gr tc ch hf hr hc ce sr sm : FN} {a : Nat} (hx : p.tables.exec = Jvm.exec) (hb : c.code = cX0_age) (hts : ∀ w ∈ lw_all, w.before args s = true) (hown : s.vm.findClass RX0 = some m.cls) (hml : c.maxLocals = 4) (hA : ∀ q : Nat, s.heap.size ≤ q → A q) (hK : va_K (dC, dI) spCl (tyX d) s) (ha : a < 2)
    (kk : ∀ (sf hd nx : FN) (H : Heap) (locs : List Loc) (ls : Array Slot), sp_INV pr gm gr (sp_aget tc (8 * a) 8) ch hf hr hc sf sr sm hd nx → va_P (dC, dI) spCl (wX h0 q d pr la gm gr (sp_aget tc (8 * a) 8) ch hf hr hc ce sf sr sm hd nx) H → va_D A (wX h0 q d pr la gm gr (sp_aget tc (8 * a) 8) ch hf hr hc ce sf sr sm hd nx) → va_S A s.heap H locs → lv_has ls 4 [(3, .int (nI (8 * a + 8))), (2, .int (sp_agec tc (8 * a) 8)), (1, .int (nI a)), (0, .ref h0)] → W p l ev (headSpec (ws_ yX0_age cX0_age 4 (some .int)) ({ frames := 1, cells := 0, slots := 0, locals := 24 })).room s m args below meth c H locs 0 0 Q (F0 m 62 ls [])) :
    ∀ (n k : Nat) (sf hd nx : FN) (H : Heap) (locs : List Loc) (ls : Array Slot), 8 < k + n → k ≤ 8 → sp_INV pr gm gr (sp_aget tc (8 * a) k) ch hf hr hc sf sr sm hd nx → va_P (dC, dI) spCl (wX h0 q d pr la gm gr (sp_aget tc (8 * a) k) ch hf hr hc ce sf sr sm hd nx) H → va_D A (wX h0 q d pr la gm gr (sp_aget tc (8 * a) k) ch hf hr hc ce sf sr sm hd nx) → va_S A s.heap H locs → lv_has ls 4 [(3, .int (nI (8 * a + k))), (2, .int (sp_agec tc (8 * a) k)), (1, .int (nI a)), (0, .ref h0)] → W p l ev (headSpec (ws_ yX0_age cX0_age 4 (some .int)) ({ frames := 1, cells := 0, slots := 0, locals := 24 })).room s m args below meth c H locs 0 0 Q (F0 m 16 ls []) := by
  intro n
  induction n with
  | zero =>
    intro k sf hd nx H locs ls h1 h2
    exact absurd h1 (by omega)
  | succ n ih =>
    intro k sf hd nx H locs ls hn hk hI hP hD hS hl
    refine lv_iload_n hx hb dX0_age_16 rfl (lv_at hl 0 rfl) ?_
    refine lv_bipush (v := 8) hx hb dX0_age_17 (by decide) ?_
    refine lv_iload_n hx hb dX0_age_19 rfl (lv_at hl 2 rfl) ?_
    refine lv_imul hx hb dX0_age_20 ?_
    refine lv_bipush (v := 8) hx hb dX0_age_21 (by decide) ?_
    refine lv_iadd hx hb dX0_age_23 ?_
    refine lv_topi (fun v_1 ev_1 => ?_)
    obtain rfl : v_1 = nI (8 * a + 8) := ev_1.trans (sp_ixI a 8)
    refine lv_icmp_ge (tgt := 62) hx hb dX0_age_24 (by decide) (fun c24 => ?_) (fun c24 => ?_)
    · have hk8 : k = 8 := by
        have := (nI_leI (by omega) (by omega)).mp c24
        omega
      subst hk8
      exact kk sf hd nx _ _ ls hI hP hD hS (lv_sub hl [0, 1, 2, 3] rfl)
    · have hk8 : k < 8 := by
        rcases Nat.lt_or_ge k 8 with z | z
        · exact z
        · exact absurd (nI_le (by omega) (by omega)) c24
      have he : 8 * a + k < 16 := by omega
      refine lv_iload_n hx hb dX0_age_27 rfl (lv_at hl 1 rfl) ?_
      refine lv_aload_n hx hb dX0_age_28 rfl (lv_at hl 3 rfl) ?_
      refine va_get (D := (dC, dI)) (ci := 0) (v := .ref (q 3)) (C := RX0) (T := TX0) (N := 15) hx hb hts in_X0 hown hK hP 0 rfl rfl 3 (by decide) (hts _ q18) (fun _ h9 => h9) rfl dX0_age_29 ?_
      refine lv_iload_n hx hb dX0_age_32 rfl (lv_at hl 0 rfl) ?_
      refine sp_zld hx hb hK hP 3 2 rfl rfl (8 * a + k) rfl (by omega) (by decide) dX0_age_33 ?_
      refine lv_topi (fun v_2 ev_2 => ?_)
      obtain rfl : v_2 = tc (8 * a + k) := ev_2.trans (sp_aget_ge k k (Nat.le_refl k))
      refine lv_if_eq (tgt := 41) hx hb dX0_age_34 (by decide) (fun c34 => ?_) (fun c34 => ?_)
      · refine lv_iconst (v := 0) hx hb dX0_age_41 (by decide) ?_
        refine lv_iadd hx hb dX0_age_42 ?_
        refine lv_topi (fun v_3 ev_3 => ?_)
        obtain rfl : v_3 = sp_agec tc (8 * a) (k + 1) := ev_3.trans (by rw [sp_agec_0 c34, Int32.add_zero])
        refine lv_istore_n (lv' := [(2, .int (sp_agec tc (8 * a) (k + 1))), (3, .int (nI (8 * a + k))), (1, .int (nI a)), (0, .ref h0)]) hx hb dX0_age_43 rfl hl (by decide) rfl (fun ls hl => ?_)
        refine lv_aload_n hx hb dX0_age_44 rfl (lv_at hl 3 rfl) ?_
        refine va_get (D := (dC, dI)) (ci := 0) (v := .ref (q 3)) (C := RX0) (T := TX0) (N := 15) hx hb hts in_X0 hown hK hP 0 rfl rfl 3 (by decide) (hts _ q18) (fun _ h9 => h9) rfl dX0_age_45 ?_
        refine lv_iload_n hx hb dX0_age_48 rfl (lv_at hl 1 rfl) ?_
        refine lv_iconst (v := 0) hx hb dX0_age_49 (by decide) ?_
        refine sp_zst hx hb hK hP hD hS 3 2 rfl rfl (8 * a + k) rfl (by omega) (by decide) rfl dX0_age_50 (fun H_4 locs hP hD hS => ?_)
        have hP : va_P (dC, dI) spCl (wX h0 q d pr la gm gr (upd (sp_aget tc (8 * a) k) (8 * a + k) 0) ch hf hr hc ce sf sr sm hd nx) H_4 := hP
        have hD : va_D A (wX h0 q d pr la gm gr (upd (sp_aget tc (8 * a) k) (8 * a + k) 0) ch hf hr hc ce sf sr sm hd nx) := hD
        have hP : va_P (dC, dI) spCl (wX h0 q d pr la gm gr (sp_aget tc (8 * a) (k + 1)) ch hf hr hc ce sf sr sm hd nx) H_4 := hP
        have hD : va_D A (wX h0 q d pr la gm gr (sp_aget tc (8 * a) (k + 1)) ch hf hr hc ce sf sr sm hd nx) := hD
        refine lv_aload_n hx hb dX0_age_51 rfl (lv_at hl 3 rfl) ?_
        refine lv_iload_n hx hb dX0_age_52 rfl (lv_at hl 1 rfl) ?_
        have hFc := va_free (wc := wX h0 q d pr la gm gr (sp_aget tc (8 * a) (k + 1)) ch hf hr hc ce sf sr sm hd nx) hD hS hA [0, 1, 2, 3, 4, 5, 6, 7, 8, 9, 10, 11, 12, 13] rfl
        refine va_callv (va_runV (As := [.int (nI (8 * a + k))]) (rest := []) ⟨hx, hb, hml, hown, hts⟩ (mX_takeBack l dC dI h0 q d H_4.size pr la gm gr (sp_aget tc (8 * a) (k + 1)) ch hf hr hc ce sf sr sm hd nx (8 * a + k) he hI.2.1) (cwV 1 hts (lw_V q73 q75 qs0 q5 q76) rfl rfl rfl (by decide +kernel) ⟨Nat.le_of_ble_eq_true rfl, Nat.le_of_ble_eq_true rfl⟩) ⟨fun a U g mk q => by obtain ⟨q0, q1, qP, qK, qD⟩ := q; exact ⟨q0, q1, qP, va_K.moved (u := U) (U := U.calling g mk a) (Vm.Alike.refl U.vm) qK, qD⟩, va_recv hK hP (ci := 0) (q0 := 0) rfl rfl, fun U hU hW => ⟨rfl, by rw [hU], by rw [hU]; exact hP, va_K.moved hW.alike hK, hD.weaken (fun _ _ _ _ => trivial)⟩⟩ rfl rfl hl.1 rfl (lv_room (Nat.le_of_ble_eq_true rfl)) dX0_age_53 ⟨Nat.le_of_ble_eq_true rfl, Nat.le_of_ble_eq_true rfl⟩) hS (fun q _ h => hFc q h) hFc (fun u t H_5 locs ht hvm hw hB hz1 hk1 hS => ?_)
        obtain ⟨sf1, hd1, nx1⟩ := u
        obtain ⟨hP1, hK1, hD1⟩ := hB
        rw [ht] at hP1
        have hP := hP1
        have hD := hD1.weaken (fun _ _ _ h => hFc _ h)
        have hP : va_P (dC, dI) spCl (wX h0 q d pr la gm gr (sp_aget tc (8 * a) (k + 1)) ch hf hr hc ce sf1 sr sm hd1 nx1) H_5 := hP
        have hD : va_D A (wX h0 q d pr la gm gr (sp_aget tc (8 * a) (k + 1)) ch hf hr hc ce sf1 sr sm hd1 nx1) := hD
        refine lv_iinc (v := (nI (8 * a + (k + 1)))) (lv' := [(3, .int (nI (8 * a + (k + 1)))), (2, .int (sp_agec tc (8 * a) (k + 1))), (1, .int (nI a)), (0, .ref h0)]) hx hb dX0_age_56 hl (k := 1) rfl (sp_inc (8 * a + k)) (by decide) rfl (fun ls hl => ?_)
        refine lv_goto (tgt := 16) hx hb dX0_age_59 (by decide) ?_
        exact ih (k + 1) sf1 hd1 nx1 _ _ ls (by omega) (by omega) (sp_inv_age (sp_inv_tb hI hw.1 hw.2.1 hw.2.2) hw.2.2) hP hD hS (lv_sub hl [0, 1, 2, 3] rfl)
      · refine lv_iconst (v := 1) hx hb dX0_age_37 (by decide) ?_
        refine lv_goto (tgt := 42) hx hb dX0_age_38 (by decide) ?_
        refine lv_iadd hx hb dX0_age_42 ?_
        refine lv_topi (fun v_6 ev_6 => ?_)
        obtain rfl : v_6 = sp_agec tc (8 * a) (k + 1) := ev_6.trans ((sp_agec_1 c34).symm)
        refine lv_istore_n (lv' := [(2, .int (sp_agec tc (8 * a) (k + 1))), (3, .int (nI (8 * a + k))), (1, .int (nI a)), (0, .ref h0)]) hx hb dX0_age_43 rfl hl (by decide) rfl (fun ls hl => ?_)
        refine lv_aload_n hx hb dX0_age_44 rfl (lv_at hl 3 rfl) ?_
        refine va_get (D := (dC, dI)) (ci := 0) (v := .ref (q 3)) (C := RX0) (T := TX0) (N := 15) hx hb hts in_X0 hown hK hP 0 rfl rfl 3 (by decide) (hts _ q18) (fun _ h9 => h9) rfl dX0_age_45 ?_
        refine lv_iload_n hx hb dX0_age_48 rfl (lv_at hl 1 rfl) ?_
        refine lv_iconst (v := 0) hx hb dX0_age_49 (by decide) ?_
        refine sp_zst hx hb hK hP hD hS 3 2 rfl rfl (8 * a + k) rfl (by omega) (by decide) rfl dX0_age_50 (fun H_7 locs hP hD hS => ?_)
        have hP : va_P (dC, dI) spCl (wX h0 q d pr la gm gr (upd (sp_aget tc (8 * a) k) (8 * a + k) 0) ch hf hr hc ce sf sr sm hd nx) H_7 := hP
        have hD : va_D A (wX h0 q d pr la gm gr (upd (sp_aget tc (8 * a) k) (8 * a + k) 0) ch hf hr hc ce sf sr sm hd nx) := hD
        have hP : va_P (dC, dI) spCl (wX h0 q d pr la gm gr (sp_aget tc (8 * a) (k + 1)) ch hf hr hc ce sf sr sm hd nx) H_7 := hP
        have hD : va_D A (wX h0 q d pr la gm gr (sp_aget tc (8 * a) (k + 1)) ch hf hr hc ce sf sr sm hd nx) := hD
        refine lv_aload_n hx hb dX0_age_51 rfl (lv_at hl 3 rfl) ?_
        refine lv_iload_n hx hb dX0_age_52 rfl (lv_at hl 1 rfl) ?_
        have hFc := va_free (wc := wX h0 q d pr la gm gr (sp_aget tc (8 * a) (k + 1)) ch hf hr hc ce sf sr sm hd nx) hD hS hA [0, 1, 2, 3, 4, 5, 6, 7, 8, 9, 10, 11, 12, 13] rfl
        refine va_callv (va_runV (As := [.int (nI (8 * a + k))]) (rest := []) ⟨hx, hb, hml, hown, hts⟩ (mX_takeBack l dC dI h0 q d H_7.size pr la gm gr (sp_aget tc (8 * a) (k + 1)) ch hf hr hc ce sf sr sm hd nx (8 * a + k) he hI.2.1) (cwV 1 hts (lw_V q73 q75 qs0 q5 q76) rfl rfl rfl (by decide +kernel) ⟨Nat.le_of_ble_eq_true rfl, Nat.le_of_ble_eq_true rfl⟩) ⟨fun a U g mk q => by obtain ⟨q0, q1, qP, qK, qD⟩ := q; exact ⟨q0, q1, qP, va_K.moved (u := U) (U := U.calling g mk a) (Vm.Alike.refl U.vm) qK, qD⟩, va_recv hK hP (ci := 0) (q0 := 0) rfl rfl, fun U hU hW => ⟨rfl, by rw [hU], by rw [hU]; exact hP, va_K.moved hW.alike hK, hD.weaken (fun _ _ _ _ => trivial)⟩⟩ rfl rfl hl.1 rfl (lv_room (Nat.le_of_ble_eq_true rfl)) dX0_age_53 ⟨Nat.le_of_ble_eq_true rfl, Nat.le_of_ble_eq_true rfl⟩) hS (fun q _ h => hFc q h) hFc (fun u t H_8 locs ht hvm hw hB hz1 hk1 hS => ?_)
        obtain ⟨sf1, hd1, nx1⟩ := u
        obtain ⟨hP1, hK1, hD1⟩ := hB
        rw [ht] at hP1
        have hP := hP1
        have hD := hD1.weaken (fun _ _ _ h => hFc _ h)
        have hP : va_P (dC, dI) spCl (wX h0 q d pr la gm gr (sp_aget tc (8 * a) (k + 1)) ch hf hr hc ce sf1 sr sm hd1 nx1) H_8 := hP
        have hD : va_D A (wX h0 q d pr la gm gr (sp_aget tc (8 * a) (k + 1)) ch hf hr hc ce sf1 sr sm hd1 nx1) := hD
        refine lv_iinc (v := (nI (8 * a + (k + 1)))) (lv' := [(3, .int (nI (8 * a + (k + 1)))), (2, .int (sp_agec tc (8 * a) (k + 1))), (1, .int (nI a)), (0, .ref h0)]) hx hb dX0_age_56 hl (k := 1) rfl (sp_inc (8 * a + k)) (by decide) rfl (fun ls hl => ?_)
        refine lv_goto (tgt := 16) hx hb dX0_age_59 (by decide) ?_
        exact ih (k + 1) sf1 hd1 nx1 _ _ ls (by omega) (by omega) (sp_inv_age (sp_inv_tb hI hw.1 hw.2.1 hw.2.2) hw.2.2) hP hD hS (lv_sub hl [0, 1, 2, 3] rfl)
set_option maxHeartbeats 4000000 in
set_option maxRecDepth 100000 in
theorem mX_age (l : Launch) (dC : Nat → ClassId) (dI : Nat → Nat → Nat) (h0 : Nat) (q : Nat → Nat) (d : Nat → ClassId) (sz : Nat) (pr la : Int32) (gm gr tc ch hf hr hc ce sf sr sm hd nx : FN) (x1 : Int32) (hI : sp_INV pr gm gr tc ch hf hr hc sf sr sm hd nx) : Met l yX0_age (ws_ yX0_age cX0_age 4 (some .int)) ({ frames := 1, cells := 0, slots := 0, locals := 24 }) (va_Pc [.ref h0, .int x1] (fun U => U.heap.size = sz ∧ va_P (dC, dI) spCl (wX h0 q d pr la gm gr tc ch hf hr hc ce sf sr sm hd nx) U.heap ∧ va_K (dC, dI) spCl (tyX d) U ∧ va_D (fun _ => True) (wX h0 q d pr la gm gr tc ch hf hr hc ce sf sr sm hd nx))) (va_Qi (fun (r : Int32) (u : PT × PS) => (r, u.1) = sp_age pr la gm gr tc ch hf hr hc ce x1 ∧ sp_Inv u) (fun u t => BXu dC dI (va_A (wX h0 q d pr la gm gr tc ch hf hr hc ce sf sr sm hd nx) sz) h0 q d u t) (va_A (wX h0 q d pr la gm gr tc ch hf hr hc ce sf sr sm hd nx) sz)) 0 0 (va_A (wX h0 q d pr la gm gr tc ch hf hr hc ce sf sr sm hd nx) sz) := by
  refine Met.ofW (cc := cX0_age) (maxL := 4) (ret := (some .int)) (by decide) rfl ?_
  intro p ev s m args below meth c s₁ B hml hv
  obtain ⟨rfl, hsz, hP, hK, hD0⟩ := hv
  have hx := B.exec
  have hb := B.bytes
  have hret := B.returns
  have hts := atoms_spec (ws := (ws_ yX0_age cX0_age 4 (some .int))) B.pre
  have hts : ∀ w ∈ lw_all, w.before _ s = true := fun w h => hts w (List.mem_cons_of_mem _ h)
  have hown : s.vm.findClass RX0 = some m.cls := findClass_of_methodNamed B.named
  have hlocks := B.notSynchronized
  subst hsz
  have hD := hD0.self (sz := s.heap.size)
  generalize hAe : va_A (wX h0 q d pr la gm gr tc ch hf hr hc ce sf sr sm hd nx) s.heap.size = A at hD ⊢
  have hA : ∀ q : Nat, s.heap.size ≤ q → A q := fun q h => by rw [← hAe]; exact Or.inr h
  have hS : va_S A s.heap s.heap [] := va_S.rf
  have hl := lv_entry ([.ref h0, .int x1]) (n := 4) (Nat.le_of_ble_eq_true rfl)
  rw [lg_entry_eq]
  generalize (lg_sl ([.ref h0, .int x1]) ++ List.replicate (4 - (lg_sl ([.ref h0, .int x1])).length) Slot.unset).toArray = ls at hl ⊢
  have hl : lv_has ls 4 [(0, .ref h0), (1, .int x1)] := hl
  refine lv_iload_n hx hb dX0_age_0 rfl (lv_at hl 1 rfl) ?_
  have hFc := va_free (wc := []) hD hS hA [] rfl
  refine va_calli (va_runS (As := [.int x1]) (rest := []) ⟨hx, hb, hml, hown, hts⟩ (mX_isSpace l x1 s.heap.size) (va_cwS 1 hts (lw_S q67 q68 q5 q69) rfl rfl rfl (by decide +kernel) ⟨Nat.le_of_ble_eq_true rfl, Nat.le_of_ble_eq_true rfl⟩) ⟨fun a U g mk q => ⟨q.1, q.2⟩, fun U hU hW => ⟨rfl, congrArg Array.size hU⟩⟩ rfl rfl hl.1 rfl (lv_room (Nat.le_of_ble_eq_true rfl)) dX0_age_1 ⟨Nat.le_of_ble_eq_true rfl, Nat.le_of_ble_eq_true rfl⟩) hS (fun q _ h => hFc q h) hFc (fun r1 u t H_1 locs ht hvm hw_r1 hB hz1 hk1 hS => ?_)
  have hP := sp_keep hP hk1
  refine lv_if_ne (tgt := 9) hx hb dX0_age_4 (by decide) (fun c4 => ?_) (fun c4 => ?_)
  · obtain ⟨a, ha, rfl⟩ := sp_psp1 hw_r1 c4
    refine lv_iconst (v := 0) hx hb dX0_age_9 (by decide) ?_
    refine lv_istore_n (lv' := [(2, .int 0), (0, .ref h0), (1, .int (nI a))]) hx hb dX0_age_10 rfl hl (by decide) rfl (fun ls hl => ?_)
    refine lv_bipush (v := 8) hx hb dX0_age_11 (by decide) ?_
    refine lv_iload_n hx hb dX0_age_13 rfl (lv_at hl 2 rfl) ?_
    refine lv_imul hx hb dX0_age_14 ?_
    refine lv_topi (fun v_2 ev_2 => ?_)
    obtain rfl : v_2 = nI (8 * a + 0) := ev_2.trans (sp_ix8 a)
    refine lv_istore_n (lv' := [(3, .int (nI (8 * a + 0))), (2, .int 0), (0, .ref h0), (1, .int (nI a))]) hx hb dX0_age_15 rfl hl (by decide) rfl (fun ls hl => ?_)
    refine lpX_age (tc := tc) hx hb hts hown hml hA hK ha (fun sf1 hd1 nx1 H1 locs ls hI hP hD hS hl => ?_) 9 0 sf hd nx _ _ ls (by omega) (by omega) hI hP hD hS (lv_sub hl [0, 1, 3, 2] rfl)
    refine lv_iload_n hx hb dX0_age_62 rfl (lv_at hl 1 rfl) ?_
    exact W.iret (v := (sp_agec tc (8 * a) 8)) hx hb hret (fun t ht hW => ⟨⟨sp_agec tc (8 * a) 8, ((pr, la, gm, gr, sp_aget tc (8 * a) 8, ch, hf, hr, hc, ce), (sf1, sr, sm, hd1, nx1)), rfl, ⟨sp_age_g ha, hI⟩, by rw [ht]; exact hP, va_K.moved hW.alike hK, hD⟩, hS.F ht⟩) hS.2.2 dX0_age_63
  · refine lv_iconst (v := -1) hx hb dX0_age_7 (by decide) ?_
    exact W.iret (v := (-1)) hx hb hret (fun t ht hW => ⟨⟨-1, ((pr, la, gm, gr, tc, ch, hf, hr, hc, ce), (sf, sr, sm, hd, nx)), rfl, ⟨sp_age_b (sp_psp0 hw_r1 c4), hI⟩, by rw [ht]; exact hP, va_K.moved hW.alike hK, hD⟩, hS.F ht⟩) hS.2.2 dX0_age_8
end
section
set_option maxHeartbeats 4000000 in
set_option maxRecDepth 100000 in
theorem mM_setGuest (l : Launch) (dC : Nat → ClassId) (dI : Nat → Nat → Nat) (h0 : Nat) (q : Nat → Nat) (d : Nat → ClassId) (sz : Nat) (pr la : Int32) (gm gr tc ch hf hr hc ce : FN) (x1 x2 x3 x4 : Int32) (hT : sp_IT pr gm ch hf hc) : Met l yX1_setGuest (ws_ yX1_setGuest cX1_setGuest 6 (some .int)) ({ frames := 1, cells := 0, slots := 0, locals := 21 }) (va_Pc [.ref h0, .int x1, .int x2, .int x3, .int x4] (fun U => U.heap.size = sz ∧ va_P (dC, dI) spCl (wM h0 q d pr la gm gr tc ch hf hr hc ce) U.heap ∧ va_K (dC, dI) spCl (tyM d) U ∧ va_D (fun _ => True) (wM h0 q d pr la gm gr tc ch hf hr hc ce))) (va_Qi (fun (r : Int32) (u : PT) => (r, u) = sp_setGuest pr la gm gr tc ch hf hr hc ce x1 x2 x3 x4) (fun u t => BMu dC dI (va_A (wM h0 q d pr la gm gr tc ch hf hr hc ce) sz) h0 q d u t) (va_A (wM h0 q d pr la gm gr tc ch hf hr hc ce) sz)) 0 0 (va_A (wM h0 q d pr la gm gr tc ch hf hr hc ce) sz) := by
  refine Met.ofW (cc := cX1_setGuest) (maxL := 6) (ret := (some .int)) (by decide) rfl ?_
  intro p ev s m args below meth c s₁ B hml hv
  obtain ⟨rfl, hsz, hP, hK, hD0⟩ := hv
  have hx := B.exec
  have hb := B.bytes
  have hret := B.returns
  have hts := atoms_spec (ws := (ws_ yX1_setGuest cX1_setGuest 6 (some .int))) B.pre
  have hts : ∀ w ∈ lw_all, w.before _ s = true := fun w h => hts w (List.mem_cons_of_mem _ h)
  have hown : s.vm.findClass RX1 = some m.cls := findClass_of_methodNamed B.named
  have hlocks := B.notSynchronized
  subst hsz
  have hD := hD0.self (sz := s.heap.size)
  generalize hAe : va_A (wM h0 q d pr la gm gr tc ch hf hr hc ce) s.heap.size = A at hD ⊢
  have hA : ∀ q : Nat, s.heap.size ≤ q → A q := fun q h => by rw [← hAe]; exact Or.inr h
  have hS : va_S A s.heap s.heap [] := va_S.rf
  have hl := lv_entry ([.ref h0, .int x1, .int x2, .int x3, .int x4]) (n := 6) (Nat.le_of_ble_eq_true rfl)
  rw [lg_entry_eq]
  generalize (lg_sl ([.ref h0, .int x1, .int x2, .int x3, .int x4]) ++ List.replicate (6 - (lg_sl ([.ref h0, .int x1, .int x2, .int x3, .int x4])).length) Slot.unset).toArray = ls at hl ⊢
  have hl : lv_has ls 6 [(0, .ref h0), (1, .int x1), (2, .int x2), (3, .int x3), (4, .int x4)] := hl
  refine lv_iload_n hx hb dX1_setGuest_0 rfl (lv_at hl 1 rfl) ?_
  refine lv_iconst (v := 1) hx hb dX1_setGuest_1 (by decide) ?_
  have hFc := va_free (wc := []) hD hS hA [] rfl
  refine va_calli (va_runS (As := [.int x1, .int 1]) (rest := []) ⟨hx, hb, hml, hown, hts⟩ (mM_outside l x1 1 s.heap.size) (va_cwS 2 hts (lw_S q166 q167 q6 q168) rfl rfl rfl (by decide +kernel) ⟨Nat.le_of_ble_eq_true rfl, Nat.le_of_ble_eq_true rfl⟩) ⟨fun a U g mk q => ⟨q.1, q.2⟩, fun U hU hW => ⟨rfl, congrArg Array.size hU⟩⟩ rfl rfl hl.1 rfl (lv_room (Nat.le_of_ble_eq_true rfl)) dX1_setGuest_2 ⟨Nat.le_of_ble_eq_true rfl, Nat.le_of_ble_eq_true rfl⟩) hS (fun q _ h => hFc q h) hFc (fun r1 u t H_1 locs ht hvm hw_r1 hB hz1 hk1 hS => ?_)
  have hP := sp_keep hP hk1
  refine lv_if_ne (tgt := 28) hx hb dX1_setGuest_5 (by decide) (fun c5 => ?_) (fun c5 => ?_)
  · refine lv_iconst (v := -1) hx hb dX1_setGuest_28 (by decide) ?_
    exact W.iret (v := (-1)) hx hb hret (fun t ht hW => ⟨⟨-1, (pr, la, gm, gr, tc, ch, hf, hr, hc, ce), rfl, sp_setGuest_b (Or.inl (Or.inl (sp_pou1 hw_r1 c5))), by rw [ht]; exact hP, va_K.moved hW.alike hK, hD⟩, hS.F ht⟩) hS.2.2 dX1_setGuest_29
  · obtain ⟨a, ha, rfl⟩ := sp_nb1 (sp_pou0 hw_r1 c5)
    refine lv_iload_n hx hb dX1_setGuest_8 rfl (lv_at hl 2 rfl) ?_
    refine lv_bipush (v := 7) hx hb dX1_setGuest_9 (by decide) ?_
    have hFc := va_free (wc := []) hD hS hA [] rfl
    refine va_calli (va_runS (As := [.int x2, .int 7]) (rest := []) ⟨hx, hb, hml, hown, hts⟩ (mM_outside l x2 7 H_1.size) (va_cwS 2 hts (lw_S q166 q167 q6 q168) rfl rfl rfl (by decide +kernel) ⟨Nat.le_of_ble_eq_true rfl, Nat.le_of_ble_eq_true rfl⟩) ⟨fun a U g mk q => ⟨q.1, q.2⟩, fun U hU hW => ⟨rfl, congrArg Array.size hU⟩⟩ rfl rfl hl.1 rfl (lv_room (Nat.le_of_ble_eq_true rfl)) dX1_setGuest_11 ⟨Nat.le_of_ble_eq_true rfl, Nat.le_of_ble_eq_true rfl⟩) hS (fun q _ h => hFc q h) hFc (fun r2 u t H_2 locs ht hvm hw_r2 hB hz1 hk1 hS => ?_)
    have hP := sp_keep hP hk1
    refine lv_if_ne (tgt := 28) hx hb dX1_setGuest_14 (by decide) (fun c14 => ?_) (fun c14 => ?_)
    · refine lv_iconst (v := -1) hx hb dX1_setGuest_28 (by decide) ?_
      exact W.iret (v := (-1)) hx hb hret (fun t ht hW => ⟨⟨-1, (pr, la, gm, gr, tc, ch, hf, hr, hc, ce), rfl, sp_setGuest_b (Or.inl (Or.inr (sp_pou1 hw_r2 c14))), by rw [ht]; exact hP, va_K.moved hW.alike hK, hD⟩, hS.F ht⟩) hS.2.2 dX1_setGuest_29
    · obtain ⟨b, hb8, rfl⟩ := sp_nb7 (sp_pou0 hw_r2 c14)
      refine lv_iload_n hx hb dX1_setGuest_17 rfl (lv_at hl 3 rfl) ?_
      refine lv_iconst (v := -1) hx hb dX1_setGuest_18 (by decide) ?_
      refine lv_icmp_lt (tgt := 28) hx hb dX1_setGuest_19 (by decide) (fun c19 => ?_) (fun c19 => ?_)
      · refine lv_iconst (v := -1) hx hb dX1_setGuest_28 (by decide) ?_
        exact W.iret (v := (-1)) hx hb hret (fun t ht hW => ⟨⟨-1, (pr, la, gm, gr, tc, ch, hf, hr, hc, ce), rfl, sp_setGuest_b (Or.inr (Or.inl c19)), by rw [ht]; exact hP, va_K.moved hW.alike hK, hD⟩, hS.F ht⟩) hS.2.2 dX1_setGuest_29
      · refine lv_iload_n hx hb dX1_setGuest_22 rfl (lv_at hl 3 rfl) ?_
        refine lv_bipush (v := 7) hx hb dX1_setGuest_23 (by decide) ?_
        refine lv_icmp_le (tgt := 30) hx hb dX1_setGuest_25 (by decide) (fun c25 => ?_) (fun c25 => ?_)
        · refine lv_bipush (v := 8) hx hb dX1_setGuest_30 (by decide) ?_
          refine lv_iload_n hx hb dX1_setGuest_32 rfl (lv_at hl 1 rfl) ?_
          refine lv_imul hx hb dX1_setGuest_33 ?_
          refine lv_iload_n hx hb dX1_setGuest_34 rfl (lv_at hl 2 rfl) ?_
          refine lv_iadd hx hb dX1_setGuest_35 ?_
          refine lv_topi (fun v_3 ev_3 => ?_)
          obtain rfl : v_3 = nI (8 * a + b) := ev_3.trans (sp_ixI a b)
          have he : 8 * a + b < 16 := by omega
          refine lv_istore (lv' := [(5, .int (nI (8 * a + b))), (0, .ref h0), (1, .int (nI a)), (2, .int (nI b)), (3, .int x3), (4, .int x4)]) hx hb dX1_setGuest_36 hl (by decide) rfl (fun ls hl => ?_)
          refine lv_aload_n hx hb dX1_setGuest_38 rfl (lv_at hl 1 rfl) ?_
          refine va_get (D := (dC, dI)) (ci := 1) (v := .ref (q 1)) (C := RX1) (T := TX1) (N := 10) hx hb hts in_X1 hown hK hP 0 rfl rfl 0 (by decide) (hts _ q131) (fun _ h9 => h9) rfl dX1_setGuest_39 ?_
          refine lv_iload hx hb dX1_setGuest_42 (lv_at hl 0 rfl) ?_
          refine lv_iload_n hx hb dX1_setGuest_44 rfl (lv_at hl 4 rfl) ?_
          refine sp_ist hx hb hK hP hD hS 1 0 rfl rfl (8 * a + b) rfl (by omega) (by decide) dX1_setGuest_45 (fun H_4 locs hP hD hS => ?_)
          have hP : va_P (dC, dI) spCl (wM h0 q d pr la (upd gm (8 * a + b) x3) gr tc ch hf hr hc ce) H_4 := hP
          have hD : va_D A (wM h0 q d pr la (upd gm (8 * a + b) x3) gr tc ch hf hr hc ce) := hD
          refine lv_aload_n hx hb dX1_setGuest_46 rfl (lv_at hl 1 rfl) ?_
          refine va_get (D := (dC, dI)) (ci := 1) (v := .ref (q 2)) (C := RX1) (T := TX1) (N := 10) hx hb hts in_X1 hown hK hP 0 rfl rfl 1 (by decide) (hts _ q132) (fun _ h9 => h9) rfl dX1_setGuest_47 ?_
          refine lv_iload hx hb dX1_setGuest_50 (lv_at hl 0 rfl) ?_
          refine lv_iload hx hb dX1_setGuest_52 (lv_at hl 5 rfl) ?_
          refine lv_bipush (v := 7) hx hb dX1_setGuest_54 (by decide) ?_
          refine lv_iand hx hb dX1_setGuest_56 ?_
          refine sp_ist hx hb hK hP hD hS 2 1 rfl rfl (8 * a + b) rfl (by omega) (by decide) dX1_setGuest_57 (fun H_5 locs hP hD hS => ?_)
          have hP : va_P (dC, dI) spCl (wM h0 q d pr la (upd gm (8 * a + b) x3) (upd gr (8 * a + b) (x4 &&& 7)) tc ch hf hr hc ce) H_5 := hP
          have hD : va_D A (wM h0 q d pr la (upd gm (8 * a + b) x3) (upd gr (8 * a + b) (x4 &&& 7)) tc ch hf hr hc ce) := hD
          refine lv_aload_n hx hb dX1_setGuest_58 rfl (lv_at hl 1 rfl) ?_
          refine va_get (D := (dC, dI)) (ci := 1) (v := .ref (q 3)) (C := RX1) (T := TX1) (N := 10) hx hb hts in_X1 hown hK hP 0 rfl rfl 2 (by decide) (hts _ q133) (fun _ h9 => h9) rfl dX1_setGuest_59 ?_
          refine lv_iload hx hb dX1_setGuest_62 (lv_at hl 0 rfl) ?_
          refine lv_iconst (v := 0) hx hb dX1_setGuest_64 (by decide) ?_
          refine sp_zst hx hb hK hP hD hS 3 2 rfl rfl (8 * a + b) rfl (by omega) (by decide) rfl dX1_setGuest_65 (fun H_6 locs hP hD hS => ?_)
          have hP : va_P (dC, dI) spCl (wM h0 q d pr la (upd gm (8 * a + b) x3) (upd gr (8 * a + b) (x4 &&& 7)) (upd tc (8 * a + b) 0) ch hf hr hc ce) H_6 := hP
          have hD : va_D A (wM h0 q d pr la (upd gm (8 * a + b) x3) (upd gr (8 * a + b) (x4 &&& 7)) (upd tc (8 * a + b) 0) ch hf hr hc ce) := hD
          refine lv_aload_n hx hb dX1_setGuest_66 rfl (lv_at hl 1 rfl) ?_
          refine va_get (D := (dC, dI)) (ci := 1) (v := .ref (q 4)) (C := RX1) (T := TX1) (N := 10) hx hb hts in_X1 hown hK hP 0 rfl rfl 3 (by decide) (hts _ q134) (fun _ h9 => h9) rfl dX1_setGuest_67 ?_
          refine lv_iload hx hb dX1_setGuest_70 (lv_at hl 0 rfl) ?_
          refine lv_iconst (v := 0) hx hb dX1_setGuest_72 (by decide) ?_
          refine sp_zst hx hb hK hP hD hS 4 3 rfl rfl (8 * a + b) rfl (by omega) (by decide) rfl dX1_setGuest_73 (fun H_7 locs hP hD hS => ?_)
          have hP : va_P (dC, dI) spCl (wM h0 q d pr la (upd gm (8 * a + b) x3) (upd gr (8 * a + b) (x4 &&& 7)) (upd tc (8 * a + b) 0) (upd ch (8 * a + b) 0) hf hr hc ce) H_7 := hP
          have hD : va_D A (wM h0 q d pr la (upd gm (8 * a + b) x3) (upd gr (8 * a + b) (x4 &&& 7)) (upd tc (8 * a + b) 0) (upd ch (8 * a + b) 0) hf hr hc ce) := hD
          refine lv_iconst (v := 0) hx hb dX1_setGuest_74 (by decide) ?_
          exact W.iret (v := 0) hx hb hret (fun t ht hW => ⟨⟨0, (pr, la, upd gm (8 * a + b) x3, upd gr (8 * a + b) (x4 &&& 7), upd tc (8 * a + b) 0, upd ch (8 * a + b) 0, hf, hr, hc, ce), rfl, sp_setGuest_g ha hb8 c19 (sp_ngt c25), by rw [ht]; exact hP, va_K.moved hW.alike hK, hD⟩, hS.F ht⟩) hS.2.2 dX1_setGuest_75
        · refine lv_iconst (v := -1) hx hb dX1_setGuest_28 (by decide) ?_
          exact W.iret (v := (-1)) hx hb hret (fun t ht hW => ⟨⟨-1, (pr, la, gm, gr, tc, ch, hf, hr, hc, ce), rfl, sp_setGuest_b (Or.inr (Or.inr (sp_gt c25))), by rw [ht]; exact hP, va_K.moved hW.alike hK, hD⟩, hS.F ht⟩) hS.2.2 dX1_setGuest_29
set_option maxHeartbeats 4000000 in
set_option maxRecDepth 100000 in
theorem mM_setHost (l : Launch) (dC : Nat → ClassId) (dI : Nat → Nat → Nat) (h0 : Nat) (q : Nat → Nat) (d : Nat → ClassId) (sz : Nat) (pr la : Int32) (gm gr tc ch hf hr hc ce : FN) (x1 x2 x3 : Int32) (hT : sp_IT pr gm ch hf hc) : Met l yX1_setHost (ws_ yX1_setHost cX1_setHost 4 (some .int)) ({ frames := 1, cells := 0, slots := 0, locals := 21 }) (va_Pc [.ref h0, .int x1, .int x2, .int x3] (fun U => U.heap.size = sz ∧ va_P (dC, dI) spCl (wM h0 q d pr la gm gr tc ch hf hr hc ce) U.heap ∧ va_K (dC, dI) spCl (tyM d) U ∧ va_D (fun _ => True) (wM h0 q d pr la gm gr tc ch hf hr hc ce))) (va_Qi (fun (r : Int32) (u : PT) => (r, u) = sp_setHost pr la gm gr tc ch hf hr hc ce x1 x2 x3) (fun u t => BMu dC dI (va_A (wM h0 q d pr la gm gr tc ch hf hr hc ce) sz) h0 q d u t) (va_A (wM h0 q d pr la gm gr tc ch hf hr hc ce) sz)) 0 0 (va_A (wM h0 q d pr la gm gr tc ch hf hr hc ce) sz) := by
  refine Met.ofW (cc := cX1_setHost) (maxL := 4) (ret := (some .int)) (by decide) rfl ?_
  intro p ev s m args below meth c s₁ B hml hv
  obtain ⟨rfl, hsz, hP, hK, hD0⟩ := hv
  have hx := B.exec
  have hb := B.bytes
  have hret := B.returns
  have hts := atoms_spec (ws := (ws_ yX1_setHost cX1_setHost 4 (some .int))) B.pre
  have hts : ∀ w ∈ lw_all, w.before _ s = true := fun w h => hts w (List.mem_cons_of_mem _ h)
  have hown : s.vm.findClass RX1 = some m.cls := findClass_of_methodNamed B.named
  have hlocks := B.notSynchronized
  subst hsz
  have hD := hD0.self (sz := s.heap.size)
  generalize hAe : va_A (wM h0 q d pr la gm gr tc ch hf hr hc ce) s.heap.size = A at hD ⊢
  have hA : ∀ q : Nat, s.heap.size ≤ q → A q := fun q h => by rw [← hAe]; exact Or.inr h
  have hS : va_S A s.heap s.heap [] := va_S.rf
  have hl := lv_entry ([.ref h0, .int x1, .int x2, .int x3]) (n := 4) (Nat.le_of_ble_eq_true rfl)
  rw [lg_entry_eq]
  generalize (lg_sl ([.ref h0, .int x1, .int x2, .int x3]) ++ List.replicate (4 - (lg_sl ([.ref h0, .int x1, .int x2, .int x3])).length) Slot.unset).toArray = ls at hl ⊢
  have hl : lv_has ls 4 [(0, .ref h0), (1, .int x1), (2, .int x2), (3, .int x3)] := hl
  refine lv_iload_n hx hb dX1_setHost_0 rfl (lv_at hl 1 rfl) ?_
  refine lv_bipush (v := 7) hx hb dX1_setHost_1 (by decide) ?_
  have hFc := va_free (wc := []) hD hS hA [] rfl
  refine va_calli (va_runS (As := [.int x1, .int 7]) (rest := []) ⟨hx, hb, hml, hown, hts⟩ (mM_outside l x1 7 s.heap.size) (va_cwS 2 hts (lw_S q166 q167 q6 q168) rfl rfl rfl (by decide +kernel) ⟨Nat.le_of_ble_eq_true rfl, Nat.le_of_ble_eq_true rfl⟩) ⟨fun a U g mk q => ⟨q.1, q.2⟩, fun U hU hW => ⟨rfl, congrArg Array.size hU⟩⟩ rfl rfl hl.1 rfl (lv_room (Nat.le_of_ble_eq_true rfl)) dX1_setHost_3 ⟨Nat.le_of_ble_eq_true rfl, Nat.le_of_ble_eq_true rfl⟩) hS (fun q _ h => hFc q h) hFc (fun r1 u t H_1 locs ht hvm hw_r1 hB hz1 hk1 hS => ?_)
  have hP := sp_keep hP hk1
  refine lv_if_ne (tgt := 20) hx hb dX1_setHost_6 (by decide) (fun c6 => ?_) (fun c6 => ?_)
  · refine lv_iconst (v := -1) hx hb dX1_setHost_20 (by decide) ?_
    exact W.iret (v := (-1)) hx hb hret (fun t ht hW => ⟨⟨-1, (pr, la, gm, gr, tc, ch, hf, hr, hc, ce), rfl, sp_setHost_b (Or.inl (sp_pou1 hw_r1 c6)), by rw [ht]; exact hP, va_K.moved hW.alike hK, hD⟩, hS.F ht⟩) hS.2.2 dX1_setHost_21
  · obtain ⟨k, hk, rfl⟩ := sp_nb7 (sp_pou0 hw_r1 c6)
    refine lv_iload_n hx hb dX1_setHost_9 rfl (lv_at hl 2 rfl) ?_
    refine lv_iconst (v := -1) hx hb dX1_setHost_10 (by decide) ?_
    refine lv_icmp_lt (tgt := 20) hx hb dX1_setHost_11 (by decide) (fun c11 => ?_) (fun c11 => ?_)
    · refine lv_iconst (v := -1) hx hb dX1_setHost_20 (by decide) ?_
      exact W.iret (v := (-1)) hx hb hret (fun t ht hW => ⟨⟨-1, (pr, la, gm, gr, tc, ch, hf, hr, hc, ce), rfl, sp_setHost_b (Or.inr (Or.inl c11)), by rw [ht]; exact hP, va_K.moved hW.alike hK, hD⟩, hS.F ht⟩) hS.2.2 dX1_setHost_21
    · refine lv_iload_n hx hb dX1_setHost_14 rfl (lv_at hl 2 rfl) ?_
      refine lv_bipush (v := 7) hx hb dX1_setHost_15 (by decide) ?_
      refine lv_icmp_le (tgt := 22) hx hb dX1_setHost_17 (by decide) (fun c17 => ?_) (fun c17 => ?_)
      · refine lv_aload_n hx hb dX1_setHost_22 rfl (lv_at hl 0 rfl) ?_
        refine va_get (D := (dC, dI)) (ci := 1) (v := .ref (q 5)) (C := RX1) (T := TX1) (N := 10) hx hb hts in_X1 hown hK hP 0 rfl rfl 4 (by decide) (hts _ q135) (fun _ h9 => h9) rfl dX1_setHost_23 ?_
        refine lv_iload_n hx hb dX1_setHost_26 rfl (lv_at hl 1 rfl) ?_
        refine lv_iload_n hx hb dX1_setHost_27 rfl (lv_at hl 2 rfl) ?_
        refine sp_ist hx hb hK hP hD hS 5 4 rfl rfl k rfl (by omega) (by decide) dX1_setHost_28 (fun H_2 locs hP hD hS => ?_)
        have hP : va_P (dC, dI) spCl (wM h0 q d pr la gm gr tc ch (upd hf k x2) hr hc ce) H_2 := hP
        have hD : va_D A (wM h0 q d pr la gm gr tc ch (upd hf k x2) hr hc ce) := hD
        refine lv_aload_n hx hb dX1_setHost_29 rfl (lv_at hl 0 rfl) ?_
        refine va_get (D := (dC, dI)) (ci := 1) (v := .ref (q 6)) (C := RX1) (T := TX1) (N := 10) hx hb hts in_X1 hown hK hP 0 rfl rfl 5 (by decide) (hts _ q136) (fun _ h9 => h9) rfl dX1_setHost_30 ?_
        refine lv_iload_n hx hb dX1_setHost_33 rfl (lv_at hl 1 rfl) ?_
        refine lv_iload_n hx hb dX1_setHost_34 rfl (lv_at hl 3 rfl) ?_
        refine lv_bipush (v := 7) hx hb dX1_setHost_35 (by decide) ?_
        refine lv_iand hx hb dX1_setHost_37 ?_
        refine sp_ist hx hb hK hP hD hS 6 5 rfl rfl k rfl (by omega) (by decide) dX1_setHost_38 (fun H_3 locs hP hD hS => ?_)
        have hP : va_P (dC, dI) spCl (wM h0 q d pr la gm gr tc ch (upd hf k x2) (upd hr k (x3 &&& 7)) hc ce) H_3 := hP
        have hD : va_D A (wM h0 q d pr la gm gr tc ch (upd hf k x2) (upd hr k (x3 &&& 7)) hc ce) := hD
        refine lv_aload_n hx hb dX1_setHost_39 rfl (lv_at hl 0 rfl) ?_
        refine va_get (D := (dC, dI)) (ci := 1) (v := .ref (q 7)) (C := RX1) (T := TX1) (N := 10) hx hb hts in_X1 hown hK hP 0 rfl rfl 6 (by decide) (hts _ q137) (fun _ h9 => h9) rfl dX1_setHost_40 ?_
        refine lv_iload_n hx hb dX1_setHost_43 rfl (lv_at hl 1 rfl) ?_
        refine lv_iconst (v := 0) hx hb dX1_setHost_44 (by decide) ?_
        refine sp_zst hx hb hK hP hD hS 7 6 rfl rfl k rfl (by omega) (by decide) rfl dX1_setHost_45 (fun H_4 locs hP hD hS => ?_)
        have hP : va_P (dC, dI) spCl (wM h0 q d pr la gm gr tc ch (upd hf k x2) (upd hr k (x3 &&& 7)) (upd hc k 0) ce) H_4 := hP
        have hD : va_D A (wM h0 q d pr la gm gr tc ch (upd hf k x2) (upd hr k (x3 &&& 7)) (upd hc k 0) ce) := hD
        refine lv_iconst (v := 0) hx hb dX1_setHost_46 (by decide) ?_
        exact W.iret (v := 0) hx hb hret (fun t ht hW => ⟨⟨0, (pr, la, gm, gr, tc, ch, upd hf k x2, upd hr k (x3 &&& 7), upd hc k 0, ce), rfl, sp_setHost_g hk c11 (sp_ngt c17), by rw [ht]; exact hP, va_K.moved hW.alike hK, hD⟩, hS.F ht⟩) hS.2.2 dX1_setHost_47
      · refine lv_iconst (v := -1) hx hb dX1_setHost_20 (by decide) ?_
        exact W.iret (v := (-1)) hx hb hret (fun t ht hW => ⟨⟨-1, (pr, la, gm, gr, tc, ch, hf, hr, hc, ce), rfl, sp_setHost_b (Or.inr (Or.inr (sp_gt c17))), by rw [ht]; exact hP, va_K.moved hW.alike hK, hD⟩, hS.F ht⟩) hS.2.2 dX1_setHost_21
set_option maxHeartbeats 4000000 in
set_option maxRecDepth 100000 in
theorem mM_change (l : Launch) (dC : Nat → ClassId) (dI : Nat → Nat → Nat) (h0 : Nat) (q : Nat → Nat) (d : Nat → ClassId) (sz : Nat) (pr la : Int32) (gm gr tc ch hf hr hc ce : FN) (x1 : Int32) (hT : sp_IT pr gm ch hf hc) : Met l yX1_change (ws_ yX1_change cX1_change 2 none) ({ frames := 0, cells := 0, slots := 0, locals := 0 }) (va_Pc [.ref h0, .int x1] (fun U => U.heap.size = sz ∧ va_P (dC, dI) spCl (wM h0 q d pr la gm gr tc ch hf hr hc ce) U.heap ∧ va_K (dC, dI) spCl (tyM d) U ∧ va_D (fun _ => True) (wM h0 q d pr la gm gr tc ch hf hr hc ce))) (va_Qv (fun (u : PT) => u = sp_change pr la gm gr tc ch hf hr hc ce x1) (fun u t => BMu dC dI (va_A (wM h0 q d pr la gm gr tc ch hf hr hc ce) sz) h0 q d u t) (va_A (wM h0 q d pr la gm gr tc ch hf hr hc ce) sz)) 0 0 (va_A (wM h0 q d pr la gm gr tc ch hf hr hc ce) sz) := by
  refine Met.ofW (cc := cX1_change) (maxL := 2) (ret := none) (by decide) rfl ?_
  intro p ev s m args below meth c s₁ B hml hv
  obtain ⟨rfl, hsz, hP, hK, hD0⟩ := hv
  have hx := B.exec
  have hb := B.bytes
  have hret := B.returns
  have hts := atoms_spec (ws := (ws_ yX1_change cX1_change 2 none)) B.pre
  have hts : ∀ w ∈ lw_all, w.before _ s = true := fun w h => hts w (List.mem_cons_of_mem _ h)
  have hown : s.vm.findClass RX1 = some m.cls := findClass_of_methodNamed B.named
  have hlocks := B.notSynchronized
  subst hsz
  have hD := hD0.self (sz := s.heap.size)
  generalize hAe : va_A (wM h0 q d pr la gm gr tc ch hf hr hc ce) s.heap.size = A at hD ⊢
  have hA : ∀ q : Nat, s.heap.size ≤ q → A q := fun q h => by rw [← hAe]; exact Or.inr h
  have hS : va_S A s.heap s.heap [] := va_S.rf
  have hl := lv_entry ([.ref h0, .int x1]) (n := 2) (Nat.le_of_ble_eq_true rfl)
  rw [lg_entry_eq]
  generalize (lg_sl ([.ref h0, .int x1]) ++ List.replicate (2 - (lg_sl ([.ref h0, .int x1])).length) Slot.unset).toArray = ls at hl ⊢
  have hl : lv_has ls 2 [(0, .ref h0), (1, .int x1)] := hl
  refine lv_aload_n hx hb dX1_change_0 rfl (lv_at hl 0 rfl) ?_
  refine lv_iload_n hx hb dX1_change_1 rfl (lv_at hl 1 rfl) ?_
  refine lv_iconst (v := 1) hx hb dX1_change_2 (by decide) ?_
  refine lv_iand hx hb dX1_change_3 ?_
  refine va_put (D := (dC, dI)) (ci := 1) (v := .int (x1 &&& 1)) (ty := .int) (C := RX1) (T := TX1) (N := 10) hx hb hts in_X1 tyX1 tyX1_ok nmX1 hown hK hP hD hS 0 rfl rfl 8 (by decide) (hts _ q139) (fun _ h9 => h9) rfl (by decide +kernel) rfl rfl (Nat.le_of_ble_eq_true rfl) dX1_change_4 (fun H_1 locs hP hD hS => ?_)
  have hP : va_P (dC, dI) spCl (wM h0 q d (x1 &&& 1) la gm gr tc ch hf hr hc ce) H_1 := hP
  have hD : va_D A (wM h0 q d (x1 &&& 1) la gm gr tc ch hf hr hc ce) := hD
  exact W.vret hx hb hret (fun t ht hW => ⟨⟨(x1 &&& 1, la, gm, gr, tc, ch, hf, hr, hc, ce), rfl, rfl, by rw [ht]; exact hP, va_K.moved hW.alike hK, hD⟩, hS.F ht⟩) hS.2.2 dX1_change_7
set_option maxHeartbeats 4000000 in
set_option maxRecDepth 100000 in
theorem mM_reach (l : Launch) (dC : Nat → ClassId) (dI : Nat → Nat → Nat) (h0 : Nat) (q : Nat → Nat) (d : Nat → ClassId) (sz : Nat) (pr la : Int32) (gm gr tc ch hf hr hc ce : FN) (a b : Nat) (x2 : Int32) (ha : a < 2) (hb8 : b < 8) (hpr : pr = nI a) (hT : sp_IT pr gm ch hf hc) : Met l yX1_reach (ws_ yX1_reach cX1_reach 5 (some .int)) ({ frames := 0, cells := 0, slots := 0, locals := 0 }) (va_Pc [.ref h0, .int (nI b), .int x2] (fun U => U.heap.size = sz ∧ va_P (dC, dI) spCl (wM h0 q d pr la gm gr tc ch hf hr hc ce) U.heap ∧ va_K (dC, dI) spCl (tyM d) U ∧ va_D (fun _ => True) (wM h0 q d pr la gm gr tc ch hf hr hc ce))) (va_Qi (fun (r : Int32) (u : FN × FN × FN) => (r, u) = sp_mreach gm gr tc ch hf hr hc (8 * a + b) x2) (fun u t => BM dC dI (va_A (wM h0 q d pr la gm gr tc ch hf hr hc ce) sz) h0 q d pr la gm gr u.1 u.2.1 hf hr u.2.2 ce t) (va_A (wM h0 q d pr la gm gr tc ch hf hr hc ce) sz)) 0 0 (va_A (wM h0 q d pr la gm gr tc ch hf hr hc ce) sz) := by
  refine Met.ofW (cc := cX1_reach) (maxL := 5) (ret := (some .int)) (by decide) rfl ?_
  intro p ev s m args below meth c s₁ B hml hv
  obtain ⟨rfl, hsz, hP, hK, hD0⟩ := hv
  have hx := B.exec
  have hb := B.bytes
  have hret := B.returns
  have hts := atoms_spec (ws := (ws_ yX1_reach cX1_reach 5 (some .int))) B.pre
  have hts : ∀ w ∈ lw_all, w.before _ s = true := fun w h => hts w (List.mem_cons_of_mem _ h)
  have hown : s.vm.findClass RX1 = some m.cls := findClass_of_methodNamed B.named
  have hlocks := B.notSynchronized
  subst hsz
  have hD := hD0.self (sz := s.heap.size)
  generalize hAe : va_A (wM h0 q d pr la gm gr tc ch hf hr hc ce) s.heap.size = A at hD ⊢
  have hA : ∀ q : Nat, s.heap.size ≤ q → A q := fun q h => by rw [← hAe]; exact Or.inr h
  have hS : va_S A s.heap s.heap [] := va_S.rf
  have hl := lv_entry ([.ref h0, .int (nI b), .int x2]) (n := 5) (Nat.le_of_ble_eq_true rfl)
  rw [lg_entry_eq]
  generalize (lg_sl ([.ref h0, .int (nI b), .int x2]) ++ List.replicate (5 - (lg_sl ([.ref h0, .int (nI b), .int x2])).length) Slot.unset).toArray = ls at hl ⊢
  have hl : lv_has ls 5 [(0, .ref h0), (1, .int (nI b)), (2, .int x2)] := hl
  subst hpr
  have he : 8 * a + b < 16 := by omega
  refine lv_bipush (v := 8) hx hb dX1_reach_0 (by decide) ?_
  refine lv_aload_n hx hb dX1_reach_2 rfl (lv_at hl 0 rfl) ?_
  refine va_get (D := (dC, dI)) (ci := 1) (v := .int (nI a)) (C := RX1) (T := TX1) (N := 10) hx hb hts in_X1 hown hK hP 0 rfl rfl 8 (by decide) (hts _ q139) (fun _ h9 => h9) rfl dX1_reach_3 ?_
  refine lv_imul hx hb dX1_reach_6 ?_
  refine lv_iload_n hx hb dX1_reach_7 rfl (lv_at hl 1 rfl) ?_
  refine lv_iadd hx hb dX1_reach_8 ?_
  refine lv_topi (fun v_1 ev_1 => ?_)
  obtain rfl : v_1 = nI (8 * a + b) := ev_1.trans (sp_ixI a b)
  refine lv_istore_n (lv' := [(3, .int (nI (8 * a + b))), (0, .ref h0), (1, .int (nI b)), (2, .int x2)]) hx hb dX1_reach_9 rfl hl (by decide) rfl (fun ls hl => ?_)
  refine lv_aload_n hx hb dX1_reach_10 rfl (lv_at hl 1 rfl) ?_
  refine va_get (D := (dC, dI)) (ci := 1) (v := .ref (q 1)) (C := RX1) (T := TX1) (N := 10) hx hb hts in_X1 hown hK hP 0 rfl rfl 0 (by decide) (hts _ q131) (fun _ h9 => h9) rfl dX1_reach_11 ?_
  refine lv_iload_n hx hb dX1_reach_14 rfl (lv_at hl 0 rfl) ?_
  refine sp_ild hx hb hK hP 1 0 rfl rfl (8 * a + b) rfl (by omega) (by decide) dX1_reach_15 ?_
  refine lv_istore (lv' := [(4, .int (gm (8 * a + b))), (3, .int (nI (8 * a + b))), (0, .ref h0), (1, .int (nI b)), (2, .int x2)]) hx hb dX1_reach_16 hl (by decide) rfl (fun ls hl => ?_)
  refine lv_iload hx hb dX1_reach_18 (lv_at hl 0 rfl) ?_
  refine lv_if_lt (tgt := 34) hx hb dX1_reach_20 (by decide) (fun c20 => ?_) (fun c20 => ?_)
  · refine lv_bipush (v := -2) hx hb dX1_reach_34 (by decide) ?_
    exact W.iret (v := (-2)) hx hb hret (fun t ht hW => ⟨⟨-2, (tc, ch, hc), rfl, (sp_mr_g (Or.inl c20)).symm, by rw [ht]; exact hP, va_K.moved hW.alike hK, hD⟩, hS.F ht⟩) hS.2.2 dX1_reach_36
  · obtain ⟨k, hk, hgk⟩ := hT.2.1 _ he c20
    rw [hgk] at hl
    refine lv_aload_n hx hb dX1_reach_23 rfl (lv_at hl 2 rfl) ?_
    refine va_get (D := (dC, dI)) (ci := 1) (v := .ref (q 2)) (C := RX1) (T := TX1) (N := 10) hx hb hts in_X1 hown hK hP 0 rfl rfl 1 (by decide) (hts _ q132) (fun _ h9 => h9) rfl dX1_reach_24 ?_
    refine lv_iload_n hx hb dX1_reach_27 rfl (lv_at hl 1 rfl) ?_
    refine sp_ild hx hb hK hP 2 1 rfl rfl (8 * a + b) rfl (by omega) (by decide) dX1_reach_28 ?_
    refine lv_iload_n hx hb dX1_reach_29 rfl (lv_at hl 4 rfl) ?_
    refine lv_iand hx hb dX1_reach_30 ?_
    refine lv_if_ne (tgt := 37) hx hb dX1_reach_31 (by decide) (fun c31 => ?_) (fun c31 => ?_)
    · refine lv_aload_n hx hb dX1_reach_37 rfl (lv_at hl 2 rfl) ?_
      refine va_get (D := (dC, dI)) (ci := 1) (v := .ref (q 5)) (C := RX1) (T := TX1) (N := 10) hx hb hts in_X1 hown hK hP 0 rfl rfl 4 (by decide) (hts _ q135) (fun _ h9 => h9) rfl dX1_reach_38 ?_
      refine lv_iload hx hb dX1_reach_41 (lv_at hl 0 rfl) ?_
      refine sp_ild hx hb hK hP 5 4 rfl rfl k rfl (by omega) (by decide) dX1_reach_43 ?_
      refine lv_if_lt (tgt := 59) hx hb dX1_reach_44 (by decide) (fun c44 => ?_) (fun c44 => ?_)
      · refine lv_bipush (v := -3) hx hb dX1_reach_59 (by decide) ?_
        exact W.iret (v := (-3)) hx hb hret (fun t ht hW => ⟨⟨-3, (tc, ch, hc), rfl, (sp_mr_h hk hgk c31 (Or.inl c44)).symm, by rw [ht]; exact hP, va_K.moved hW.alike hK, hD⟩, hS.F ht⟩) hS.2.2 dX1_reach_61
      · refine lv_aload_n hx hb dX1_reach_47 rfl (lv_at hl 2 rfl) ?_
        refine va_get (D := (dC, dI)) (ci := 1) (v := .ref (q 6)) (C := RX1) (T := TX1) (N := 10) hx hb hts in_X1 hown hK hP 0 rfl rfl 5 (by decide) (hts _ q136) (fun _ h9 => h9) rfl dX1_reach_48 ?_
        refine lv_iload hx hb dX1_reach_51 (lv_at hl 0 rfl) ?_
        refine sp_ild hx hb hK hP 6 5 rfl rfl k rfl (by omega) (by decide) dX1_reach_53 ?_
        refine lv_iload_n hx hb dX1_reach_54 rfl (lv_at hl 4 rfl) ?_
        refine lv_iand hx hb dX1_reach_55 ?_
        refine lv_if_ne (tgt := 62) hx hb dX1_reach_56 (by decide) (fun c56 => ?_) (fun c56 => ?_)
        · refine lv_aload_n hx hb dX1_reach_62 rfl (lv_at hl 2 rfl) ?_
          refine va_get (D := (dC, dI)) (ci := 1) (v := .ref (q 3)) (C := RX1) (T := TX1) (N := 10) hx hb hts in_X1 hown hK hP 0 rfl rfl 2 (by decide) (hts _ q133) (fun _ h9 => h9) rfl dX1_reach_63 ?_
          refine lv_iload_n hx hb dX1_reach_66 rfl (lv_at hl 1 rfl) ?_
          refine lv_iconst (v := 1) hx hb dX1_reach_67 (by decide) ?_
          refine sp_zst hx hb hK hP hD hS 3 2 rfl rfl (8 * a + b) rfl (by omega) (by decide) rfl dX1_reach_68 (fun H_2 locs hP hD hS => ?_)
          have hP : va_P (dC, dI) spCl (wM h0 q d (nI a) la gm gr (upd tc (8 * a + b) 1) ch hf hr hc ce) H_2 := hP
          have hD : va_D A (wM h0 q d (nI a) la gm gr (upd tc (8 * a + b) 1) ch hf hr hc ce) := hD
          refine lv_iload_n hx hb dX1_reach_69 rfl (lv_at hl 4 rfl) ?_
          refine lv_iconst (v := 2) hx hb dX1_reach_70 (by decide) ?_
          refine lv_icmp_ne (tgt := 89) hx hb dX1_reach_71 (by decide) (fun c71 => ?_) (fun c71 => ?_)
          · refine lv_aload_n hx hb dX1_reach_89 rfl (lv_at hl 2 rfl) ?_
            refine va_get (D := (dC, dI)) (ci := 1) (v := .ref (q 5)) (C := RX1) (T := TX1) (N := 10) hx hb hts in_X1 hown hK hP 0 rfl rfl 4 (by decide) (hts _ q135) (fun _ h9 => h9) rfl dX1_reach_90 ?_
            refine lv_iload hx hb dX1_reach_93 (lv_at hl 0 rfl) ?_
            refine sp_ild hx hb hK hP 5 4 rfl rfl k rfl (by omega) (by decide) dX1_reach_95 ?_
            exact W.iret (v := (hf k)) hx hb hret (fun t ht hW => ⟨⟨hf k, (upd tc (8 * a + b) 1, ch, hc), rfl, sp_mr_1 hk hgk c31 c44 c56 c71, by rw [ht]; exact hP, va_K.moved hW.alike hK, hD⟩, hS.F ht⟩) hS.2.2 dX1_reach_96
          · refine lv_aload_n hx hb dX1_reach_74 rfl (lv_at hl 2 rfl) ?_
            refine va_get (D := (dC, dI)) (ci := 1) (v := .ref (q 4)) (C := RX1) (T := TX1) (N := 10) hx hb hts in_X1 hown hK hP 0 rfl rfl 3 (by decide) (hts _ q134) (fun _ h9 => h9) rfl dX1_reach_75 ?_
            refine lv_iload_n hx hb dX1_reach_78 rfl (lv_at hl 1 rfl) ?_
            refine lv_iconst (v := 1) hx hb dX1_reach_79 (by decide) ?_
            refine sp_zst hx hb hK hP hD hS 4 3 rfl rfl (8 * a + b) rfl (by omega) (by decide) rfl dX1_reach_80 (fun H_3 locs hP hD hS => ?_)
            have hP : va_P (dC, dI) spCl (wM h0 q d (nI a) la gm gr (upd tc (8 * a + b) 1) (upd ch (8 * a + b) 1) hf hr hc ce) H_3 := hP
            have hD : va_D A (wM h0 q d (nI a) la gm gr (upd tc (8 * a + b) 1) (upd ch (8 * a + b) 1) hf hr hc ce) := hD
            refine lv_aload_n hx hb dX1_reach_81 rfl (lv_at hl 2 rfl) ?_
            refine va_get (D := (dC, dI)) (ci := 1) (v := .ref (q 7)) (C := RX1) (T := TX1) (N := 10) hx hb hts in_X1 hown hK hP 0 rfl rfl 6 (by decide) (hts _ q137) (fun _ h9 => h9) rfl dX1_reach_82 ?_
            refine lv_iload hx hb dX1_reach_85 (lv_at hl 0 rfl) ?_
            refine lv_iconst (v := 1) hx hb dX1_reach_87 (by decide) ?_
            refine sp_zst hx hb hK hP hD hS 7 6 rfl rfl k rfl (by omega) (by decide) rfl dX1_reach_88 (fun H_4 locs hP hD hS => ?_)
            have hP : va_P (dC, dI) spCl (wM h0 q d (nI a) la gm gr (upd tc (8 * a + b) 1) (upd ch (8 * a + b) 1) hf hr (upd hc k 1) ce) H_4 := hP
            have hD : va_D A (wM h0 q d (nI a) la gm gr (upd tc (8 * a + b) 1) (upd ch (8 * a + b) 1) hf hr (upd hc k 1) ce) := hD
            refine lv_aload_n hx hb dX1_reach_89 rfl (lv_at hl 2 rfl) ?_
            refine va_get (D := (dC, dI)) (ci := 1) (v := .ref (q 5)) (C := RX1) (T := TX1) (N := 10) hx hb hts in_X1 hown hK hP 0 rfl rfl 4 (by decide) (hts _ q135) (fun _ h9 => h9) rfl dX1_reach_90 ?_
            refine lv_iload hx hb dX1_reach_93 (lv_at hl 0 rfl) ?_
            refine sp_ild hx hb hK hP 5 4 rfl rfl k rfl (by omega) (by decide) dX1_reach_95 ?_
            exact W.iret (v := (hf k)) hx hb hret (fun t ht hW => ⟨⟨hf k, (upd tc (8 * a + b) 1, upd ch (8 * a + b) 1, upd hc k 1), rfl, sp_mr_2 hk hgk c31 c44 c56 c71, by rw [ht]; exact hP, va_K.moved hW.alike hK, hD⟩, hS.F ht⟩) hS.2.2 dX1_reach_96
        · refine lv_bipush (v := -3) hx hb dX1_reach_59 (by decide) ?_
          exact W.iret (v := (-3)) hx hb hret (fun t ht hW => ⟨⟨-3, (tc, ch, hc), rfl, (sp_mr_h hk hgk c31 (Or.inr c56)).symm, by rw [ht]; exact hP, va_K.moved hW.alike hK, hD⟩, hS.F ht⟩) hS.2.2 dX1_reach_61
    · refine lv_bipush (v := -2) hx hb dX1_reach_34 (by decide) ?_
      exact W.iret (v := (-2)) hx hb hret (fun t ht hW => ⟨⟨-2, (tc, ch, hc), rfl, (sp_mr_g (Or.inr c31)).symm, by rw [ht]; exact hP, va_K.moved hW.alike hK, hD⟩, hS.F ht⟩) hS.2.2 dX1_reach_36
set_option maxHeartbeats 4000000 in
set_option maxRecDepth 100000 in
theorem mM_load (l : Launch) (dC : Nat → ClassId) (dI : Nat → Nat → Nat) (h0 : Nat) (q : Nat → Nat) (d : Nat → ClassId) (sz : Nat) (pr la : Int32) (gm gr tc ch hf hr hc ce : FN) (x1 x2 : Int32) (hT : sp_IT pr gm ch hf hc) : Met l yX1_load (ws_ yX1_load cX1_load 4 (some .int)) ({ frames := 1, cells := 0, slots := 0, locals := 24 }) (va_Pc [.ref h0, .int x1, .int x2] (fun U => U.heap.size = sz ∧ va_P (dC, dI) spCl (wM h0 q d pr la gm gr tc ch hf hr hc ce) U.heap ∧ va_K (dC, dI) spCl (tyM d) U ∧ va_D (fun _ => True) (wM h0 q d pr la gm gr tc ch hf hr hc ce))) (va_Qi (fun (r : Int32) (u : PT) => (r, u) = sp_load pr la gm gr tc ch hf hr hc ce x1 x2) (fun u t => BMu dC dI (va_A (wM h0 q d pr la gm gr tc ch hf hr hc ce) sz) h0 q d u t) (va_A (wM h0 q d pr la gm gr tc ch hf hr hc ce) sz)) 0 0 (va_A (wM h0 q d pr la gm gr tc ch hf hr hc ce) sz) := by
  refine Met.ofW (cc := cX1_load) (maxL := 4) (ret := (some .int)) (by decide) rfl ?_
  intro p ev s m args below meth c s₁ B hml hv
  obtain ⟨rfl, hsz, hP, hK, hD0⟩ := hv
  have hx := B.exec
  have hb := B.bytes
  have hret := B.returns
  have hts := atoms_spec (ws := (ws_ yX1_load cX1_load 4 (some .int))) B.pre
  have hts : ∀ w ∈ lw_all, w.before _ s = true := fun w h => hts w (List.mem_cons_of_mem _ h)
  have hown : s.vm.findClass RX1 = some m.cls := findClass_of_methodNamed B.named
  have hlocks := B.notSynchronized
  subst hsz
  have hD := hD0.self (sz := s.heap.size)
  generalize hAe : va_A (wM h0 q d pr la gm gr tc ch hf hr hc ce) s.heap.size = A at hD ⊢
  have hA : ∀ q : Nat, s.heap.size ≤ q → A q := fun q h => by rw [← hAe]; exact Or.inr h
  have hS : va_S A s.heap s.heap [] := va_S.rf
  have hl := lv_entry ([.ref h0, .int x1, .int x2]) (n := 4) (Nat.le_of_ble_eq_true rfl)
  rw [lg_entry_eq]
  generalize (lg_sl ([.ref h0, .int x1, .int x2]) ++ List.replicate (4 - (lg_sl ([.ref h0, .int x1, .int x2])).length) Slot.unset).toArray = ls at hl ⊢
  have hl : lv_has ls 4 [(0, .ref h0), (1, .int x1), (2, .int x2)] := hl
  obtain ⟨a, ha, hpr⟩ := hT.1
  subst hpr
  refine lv_iload_n hx hb dX1_load_0 rfl (lv_at hl 1 rfl) ?_
  refine lv_bipush (v := 7) hx hb dX1_load_1 (by decide) ?_
  have hFc := va_free (wc := []) hD hS hA [] rfl
  refine va_calli (va_runS (As := [.int x1, .int 7]) (rest := []) ⟨hx, hb, hml, hown, hts⟩ (mM_outside l x1 7 s.heap.size) (va_cwS 2 hts (lw_S q166 q167 q6 q168) rfl rfl rfl (by decide +kernel) ⟨Nat.le_of_ble_eq_true rfl, Nat.le_of_ble_eq_true rfl⟩) ⟨fun a U g mk q => ⟨q.1, q.2⟩, fun U hU hW => ⟨rfl, congrArg Array.size hU⟩⟩ rfl rfl hl.1 rfl (lv_room (Nat.le_of_ble_eq_true rfl)) dX1_load_3 ⟨Nat.le_of_ble_eq_true rfl, Nat.le_of_ble_eq_true rfl⟩) hS (fun q _ h => hFc q h) hFc (fun r1 u t H_1 locs ht hvm hw_r1 hB hz1 hk1 hS => ?_)
  have hP := sp_keep hP hk1
  refine lv_if_ne (tgt := 17) hx hb dX1_load_6 (by decide) (fun c6 => ?_) (fun c6 => ?_)
  · refine lv_iconst (v := -1) hx hb dX1_load_17 (by decide) ?_
    exact W.iret (v := (-1)) hx hb hret (fun t ht hW => ⟨⟨-1, (nI a, la, gm, gr, tc, ch, hf, hr, hc, ce), rfl, sp_load_b (Or.inl (sp_pou1 hw_r1 c6)), by rw [ht]; exact hP, va_K.moved hW.alike hK, hD⟩, hS.F ht⟩) hS.2.2 dX1_load_18
  · obtain ⟨b, hb8, rfl⟩ := sp_nb7 (sp_pou0 hw_r1 c6)
    refine lv_iload_n hx hb dX1_load_9 rfl (lv_at hl 2 rfl) ?_
    refine lv_iconst (v := 3) hx hb dX1_load_10 (by decide) ?_
    have hFc := va_free (wc := []) hD hS hA [] rfl
    refine va_calli (va_runS (As := [.int x2, .int 3]) (rest := []) ⟨hx, hb, hml, hown, hts⟩ (mM_outside l x2 3 H_1.size) (va_cwS 2 hts (lw_S q166 q167 q6 q168) rfl rfl rfl (by decide +kernel) ⟨Nat.le_of_ble_eq_true rfl, Nat.le_of_ble_eq_true rfl⟩) ⟨fun a U g mk q => ⟨q.1, q.2⟩, fun U hU hW => ⟨rfl, congrArg Array.size hU⟩⟩ rfl rfl hl.1 rfl (lv_room (Nat.le_of_ble_eq_true rfl)) dX1_load_11 ⟨Nat.le_of_ble_eq_true rfl, Nat.le_of_ble_eq_true rfl⟩) hS (fun q _ h => hFc q h) hFc (fun r2 u t H_2 locs ht hvm hw_r2 hB hz1 hk1 hS => ?_)
    have hP := sp_keep hP hk1
    refine lv_if_eq (tgt := 19) hx hb dX1_load_14 (by decide) (fun c14 => ?_) (fun c14 => ?_)
    · obtain ⟨j, hj4, rfl⟩ := sp_nb3 (sp_pou0 hw_r2 c14)
      refine lv_aload_n hx hb dX1_load_19 rfl (lv_at hl 0 rfl) ?_
      refine lv_iload_n hx hb dX1_load_20 rfl (lv_at hl 1 rfl) ?_
      refine lv_iconst (v := 1) hx hb dX1_load_21 (by decide) ?_
      have he : 8 * a + b < 16 := by omega
      have hFc := va_free (wc := wM h0 q d (nI a) la gm gr tc ch hf hr hc ce) hD hS hA [0, 1, 2, 3, 4, 5, 6, 7, 8] rfl
      refine va_calli (va_runV (As := [.int (nI b), .int 1]) (rest := []) ⟨hx, hb, hml, hown, hts⟩ (mM_reach l dC dI h0 q d H_2.size (nI a) la gm gr tc ch hf hr hc ce a b 1 ha hb8 rfl hT) (cwV 2 hts (lw_V q181 q183 qs3 q6 q184) rfl rfl rfl (by decide +kernel) ⟨Nat.le_of_ble_eq_true rfl, Nat.le_of_ble_eq_true rfl⟩) ⟨fun a U g mk q => by obtain ⟨q0, q1, qP, qK, qD⟩ := q; exact ⟨q0, q1, qP, va_K.moved (u := U) (U := U.calling g mk a) (Vm.Alike.refl U.vm) qK, qD⟩, va_recv hK hP (ci := 1) (q0 := 0) rfl rfl, fun U hU hW => ⟨rfl, by rw [hU], by rw [hU]; exact hP, va_K.moved hW.alike hK, hD.weaken (fun _ _ _ _ => trivial)⟩⟩ rfl rfl hl.1 rfl (lv_room (Nat.le_of_ble_eq_true rfl)) dX1_load_22 ⟨Nat.le_of_ble_eq_true rfl, Nat.le_of_ble_eq_true rfl⟩) hS (fun q _ h => hFc q h) hFc (fun f u t H_3 locs ht hvm hw hB hz1 hk1 hS => ?_)
      obtain ⟨tc1, ch1, hc1⟩ := u
      obtain ⟨hP1, hK1, hD1⟩ := hB
      rw [ht] at hP1
      have hP := hP1
      have hD := hD1.weaken (fun _ _ _ h => hFc _ h)
      have hP : va_P (dC, dI) spCl (wM h0 q d (nI a) la gm gr tc1 ch1 hf hr hc1 ce) H_3 := hP
      have hD : va_D A (wM h0 q d (nI a) la gm gr tc1 ch1 hf hr hc1 ce) := hD
      refine lv_istore_n (lv' := [(3, .int f), (0, .ref h0), (1, .int (nI b)), (2, .int (nI j))]) hx hb dX1_load_25 rfl hl (by decide) rfl (fun ls hl => ?_)
      refine lv_iload_n hx hb dX1_load_26 rfl (lv_at hl 0 rfl) ?_
      refine lv_if_ge (tgt := 32) hx hb dX1_load_27 (by decide) (fun c27 => ?_) (fun c27 => ?_)
      · obtain ⟨j2, hj8, rfl⟩ := sp_mr_nn hT he hw (sp_nge c27)
        refine lv_aload_n hx hb dX1_load_32 rfl (lv_at hl 1 rfl) ?_
        refine lv_aload_n hx hb dX1_load_33 rfl (lv_at hl 1 rfl) ?_
        refine va_get (D := (dC, dI)) (ci := 1) (v := .ref (q 8)) (C := RX1) (T := TX1) (N := 10) hx hb hts in_X1 hown hK hP 0 rfl rfl 7 (by decide) (hts _ q138) (fun _ h9 => h9) rfl dX1_load_34 ?_
        refine lv_iconst (v := 4) hx hb dX1_load_37 (by decide) ?_
        refine lv_iload_n hx hb dX1_load_38 rfl (lv_at hl 0 rfl) ?_
        refine lv_imul hx hb dX1_load_39 ?_
        refine lv_iload_n hx hb dX1_load_40 rfl (lv_at hl 3 rfl) ?_
        refine lv_iadd hx hb dX1_load_41 ?_
        refine lv_topi (fun v_4 ev_4 => ?_)
        obtain rfl : v_4 = nI (4 * j2 + j) := ev_4.trans (sp_cxI j2 j)
        refine sp_ild hx hb hK hP 8 7 rfl rfl (4 * j2 + j) rfl (by omega) (by decide) dX1_load_42 ?_
        refine va_put (D := (dC, dI)) (ci := 1) (v := .int (ce (4 * j2 + j))) (ty := .int) (C := RX1) (T := TX1) (N := 10) hx hb hts in_X1 tyX1 tyX1_ok nmX1 hown hK hP hD hS 0 rfl rfl 9 (by decide) (hts _ q140) (fun _ h9 => h9) rfl (by decide +kernel) rfl rfl (Nat.le_of_ble_eq_true rfl) dX1_load_43 (fun H_5 locs hP hD hS => ?_)
        have hP : va_P (dC, dI) spCl (wM h0 q d (nI a) (ce (4 * j2 + j)) gm gr tc1 ch1 hf hr hc1 ce) H_5 := hP
        have hD : va_D A (wM h0 q d (nI a) (ce (4 * j2 + j)) gm gr tc1 ch1 hf hr hc1 ce) := hD
        refine lv_iconst (v := 0) hx hb dX1_load_46 (by decide) ?_
        exact W.iret (v := 0) hx hb hret (fun t ht hW => ⟨⟨0, (nI a, ce (4 * j2 + j), gm, gr, tc1, ch1, hf, hr, hc1, ce), rfl, sp_load_g ha hb8 hj4 hj8 hw, by rw [ht]; exact hP, va_K.moved hW.alike hK, hD⟩, hS.F ht⟩) hS.2.2 dX1_load_47
      · refine lv_iload_n hx hb dX1_load_30 rfl (lv_at hl 0 rfl) ?_
        exact W.iret (v := f) hx hb hret (fun t ht hW => ⟨⟨f, (nI a, la, gm, gr, tc1, ch1, hf, hr, hc1, ce), rfl, sp_load_n ha hb8 hj4 hw (sp_ge c27), by rw [ht]; exact hP, va_K.moved hW.alike hK, hD⟩, hS.F ht⟩) hS.2.2 dX1_load_31
    · refine lv_iconst (v := -1) hx hb dX1_load_17 (by decide) ?_
      exact W.iret (v := (-1)) hx hb hret (fun t ht hW => ⟨⟨-1, (nI a, la, gm, gr, tc, ch, hf, hr, hc, ce), rfl, sp_load_b (Or.inr (sp_pou1 hw_r2 c14)), by rw [ht]; exact hP, va_K.moved hW.alike hK, hD⟩, hS.F ht⟩) hS.2.2 dX1_load_18
set_option maxHeartbeats 4000000 in
set_option maxRecDepth 100000 in
theorem mM_store (l : Launch) (dC : Nat → ClassId) (dI : Nat → Nat → Nat) (h0 : Nat) (q : Nat → Nat) (d : Nat → ClassId) (sz : Nat) (pr la : Int32) (gm gr tc ch hf hr hc ce : FN) (x1 x2 x3 : Int32) (hT : sp_IT pr gm ch hf hc) : Met l yX1_store (ws_ yX1_store cX1_store 5 (some .int)) ({ frames := 1, cells := 0, slots := 0, locals := 24 }) (va_Pc [.ref h0, .int x1, .int x2, .int x3] (fun U => U.heap.size = sz ∧ va_P (dC, dI) spCl (wM h0 q d pr la gm gr tc ch hf hr hc ce) U.heap ∧ va_K (dC, dI) spCl (tyM d) U ∧ va_D (fun _ => True) (wM h0 q d pr la gm gr tc ch hf hr hc ce))) (va_Qi (fun (r : Int32) (u : PT) => (r, u) = sp_store pr la gm gr tc ch hf hr hc ce x1 x2 x3) (fun u t => BMu dC dI (va_A (wM h0 q d pr la gm gr tc ch hf hr hc ce) sz) h0 q d u t) (va_A (wM h0 q d pr la gm gr tc ch hf hr hc ce) sz)) 0 0 (va_A (wM h0 q d pr la gm gr tc ch hf hr hc ce) sz) := by
  refine Met.ofW (cc := cX1_store) (maxL := 5) (ret := (some .int)) (by decide) rfl ?_
  intro p ev s m args below meth c s₁ B hml hv
  obtain ⟨rfl, hsz, hP, hK, hD0⟩ := hv
  have hx := B.exec
  have hb := B.bytes
  have hret := B.returns
  have hts := atoms_spec (ws := (ws_ yX1_store cX1_store 5 (some .int))) B.pre
  have hts : ∀ w ∈ lw_all, w.before _ s = true := fun w h => hts w (List.mem_cons_of_mem _ h)
  have hown : s.vm.findClass RX1 = some m.cls := findClass_of_methodNamed B.named
  have hlocks := B.notSynchronized
  subst hsz
  have hD := hD0.self (sz := s.heap.size)
  generalize hAe : va_A (wM h0 q d pr la gm gr tc ch hf hr hc ce) s.heap.size = A at hD ⊢
  have hA : ∀ q : Nat, s.heap.size ≤ q → A q := fun q h => by rw [← hAe]; exact Or.inr h
  have hS : va_S A s.heap s.heap [] := va_S.rf
  have hl := lv_entry ([.ref h0, .int x1, .int x2, .int x3]) (n := 5) (Nat.le_of_ble_eq_true rfl)
  rw [lg_entry_eq]
  generalize (lg_sl ([.ref h0, .int x1, .int x2, .int x3]) ++ List.replicate (5 - (lg_sl ([.ref h0, .int x1, .int x2, .int x3])).length) Slot.unset).toArray = ls at hl ⊢
  have hl : lv_has ls 5 [(0, .ref h0), (1, .int x1), (2, .int x2), (3, .int x3)] := hl
  obtain ⟨a, ha, hpr⟩ := hT.1
  subst hpr
  refine lv_iload_n hx hb dX1_store_0 rfl (lv_at hl 1 rfl) ?_
  refine lv_bipush (v := 7) hx hb dX1_store_1 (by decide) ?_
  have hFc := va_free (wc := []) hD hS hA [] rfl
  refine va_calli (va_runS (As := [.int x1, .int 7]) (rest := []) ⟨hx, hb, hml, hown, hts⟩ (mM_outside l x1 7 s.heap.size) (va_cwS 2 hts (lw_S q166 q167 q6 q168) rfl rfl rfl (by decide +kernel) ⟨Nat.le_of_ble_eq_true rfl, Nat.le_of_ble_eq_true rfl⟩) ⟨fun a U g mk q => ⟨q.1, q.2⟩, fun U hU hW => ⟨rfl, congrArg Array.size hU⟩⟩ rfl rfl hl.1 rfl (lv_room (Nat.le_of_ble_eq_true rfl)) dX1_store_3 ⟨Nat.le_of_ble_eq_true rfl, Nat.le_of_ble_eq_true rfl⟩) hS (fun q _ h => hFc q h) hFc (fun r1 u t H_1 locs ht hvm hw_r1 hB hz1 hk1 hS => ?_)
  have hP := sp_keep hP hk1
  refine lv_if_ne (tgt := 17) hx hb dX1_store_6 (by decide) (fun c6 => ?_) (fun c6 => ?_)
  · refine lv_iconst (v := -1) hx hb dX1_store_17 (by decide) ?_
    exact W.iret (v := (-1)) hx hb hret (fun t ht hW => ⟨⟨-1, (nI a, la, gm, gr, tc, ch, hf, hr, hc, ce), rfl, sp_store_b (Or.inl (sp_pou1 hw_r1 c6)), by rw [ht]; exact hP, va_K.moved hW.alike hK, hD⟩, hS.F ht⟩) hS.2.2 dX1_store_18
  · obtain ⟨b, hb8, rfl⟩ := sp_nb7 (sp_pou0 hw_r1 c6)
    refine lv_iload_n hx hb dX1_store_9 rfl (lv_at hl 2 rfl) ?_
    refine lv_iconst (v := 3) hx hb dX1_store_10 (by decide) ?_
    have hFc := va_free (wc := []) hD hS hA [] rfl
    refine va_calli (va_runS (As := [.int x2, .int 3]) (rest := []) ⟨hx, hb, hml, hown, hts⟩ (mM_outside l x2 3 H_1.size) (va_cwS 2 hts (lw_S q166 q167 q6 q168) rfl rfl rfl (by decide +kernel) ⟨Nat.le_of_ble_eq_true rfl, Nat.le_of_ble_eq_true rfl⟩) ⟨fun a U g mk q => ⟨q.1, q.2⟩, fun U hU hW => ⟨rfl, congrArg Array.size hU⟩⟩ rfl rfl hl.1 rfl (lv_room (Nat.le_of_ble_eq_true rfl)) dX1_store_11 ⟨Nat.le_of_ble_eq_true rfl, Nat.le_of_ble_eq_true rfl⟩) hS (fun q _ h => hFc q h) hFc (fun r2 u t H_2 locs ht hvm hw_r2 hB hz1 hk1 hS => ?_)
    have hP := sp_keep hP hk1
    refine lv_if_eq (tgt := 19) hx hb dX1_store_14 (by decide) (fun c14 => ?_) (fun c14 => ?_)
    · obtain ⟨j, hj4, rfl⟩ := sp_nb3 (sp_pou0 hw_r2 c14)
      refine lv_aload_n hx hb dX1_store_19 rfl (lv_at hl 0 rfl) ?_
      refine lv_iload_n hx hb dX1_store_20 rfl (lv_at hl 1 rfl) ?_
      refine lv_iconst (v := 2) hx hb dX1_store_21 (by decide) ?_
      have he : 8 * a + b < 16 := by omega
      have hFc := va_free (wc := wM h0 q d (nI a) la gm gr tc ch hf hr hc ce) hD hS hA [0, 1, 2, 3, 4, 5, 6, 7, 8] rfl
      refine va_calli (va_runV (As := [.int (nI b), .int 2]) (rest := []) ⟨hx, hb, hml, hown, hts⟩ (mM_reach l dC dI h0 q d H_2.size (nI a) la gm gr tc ch hf hr hc ce a b 2 ha hb8 rfl hT) (cwV 2 hts (lw_V q181 q183 qs3 q6 q184) rfl rfl rfl (by decide +kernel) ⟨Nat.le_of_ble_eq_true rfl, Nat.le_of_ble_eq_true rfl⟩) ⟨fun a U g mk q => by obtain ⟨q0, q1, qP, qK, qD⟩ := q; exact ⟨q0, q1, qP, va_K.moved (u := U) (U := U.calling g mk a) (Vm.Alike.refl U.vm) qK, qD⟩, va_recv hK hP (ci := 1) (q0 := 0) rfl rfl, fun U hU hW => ⟨rfl, by rw [hU], by rw [hU]; exact hP, va_K.moved hW.alike hK, hD.weaken (fun _ _ _ _ => trivial)⟩⟩ rfl rfl hl.1 rfl (lv_room (Nat.le_of_ble_eq_true rfl)) dX1_store_22 ⟨Nat.le_of_ble_eq_true rfl, Nat.le_of_ble_eq_true rfl⟩) hS (fun q _ h => hFc q h) hFc (fun f u t H_3 locs ht hvm hw hB hz1 hk1 hS => ?_)
      obtain ⟨tc1, ch1, hc1⟩ := u
      obtain ⟨hP1, hK1, hD1⟩ := hB
      rw [ht] at hP1
      have hP := hP1
      have hD := hD1.weaken (fun _ _ _ h => hFc _ h)
      have hP : va_P (dC, dI) spCl (wM h0 q d (nI a) la gm gr tc1 ch1 hf hr hc1 ce) H_3 := hP
      have hD : va_D A (wM h0 q d (nI a) la gm gr tc1 ch1 hf hr hc1 ce) := hD
      refine lv_istore (lv' := [(4, .int f), (0, .ref h0), (1, .int (nI b)), (2, .int (nI j)), (3, .int x3)]) hx hb dX1_store_25 hl (by decide) rfl (fun ls hl => ?_)
      refine lv_iload hx hb dX1_store_27 (lv_at hl 0 rfl) ?_
      refine lv_if_ge (tgt := 35) hx hb dX1_store_29 (by decide) (fun c29 => ?_) (fun c29 => ?_)
      · obtain ⟨j2, hj8, rfl⟩ := sp_mr_nn hT he hw (sp_nge c29)
        refine lv_aload_n hx hb dX1_store_35 rfl (lv_at hl 1 rfl) ?_
        refine va_get (D := (dC, dI)) (ci := 1) (v := .ref (q 8)) (C := RX1) (T := TX1) (N := 10) hx hb hts in_X1 hown hK hP 0 rfl rfl 7 (by decide) (hts _ q138) (fun _ h9 => h9) rfl dX1_store_36 ?_
        refine lv_iconst (v := 4) hx hb dX1_store_39 (by decide) ?_
        refine lv_iload hx hb dX1_store_40 (lv_at hl 0 rfl) ?_
        refine lv_imul hx hb dX1_store_42 ?_
        refine lv_iload_n hx hb dX1_store_43 rfl (lv_at hl 3 rfl) ?_
        refine lv_iadd hx hb dX1_store_44 ?_
        refine lv_topi (fun v_4 ev_4 => ?_)
        obtain rfl : v_4 = nI (4 * j2 + j) := ev_4.trans (sp_cxI j2 j)
        refine lv_iload_n hx hb dX1_store_45 rfl (lv_at hl 4 rfl) ?_
        refine sp_ist hx hb hK hP hD hS 8 7 rfl rfl (4 * j2 + j) rfl (by omega) (by decide) dX1_store_46 (fun H_5 locs hP hD hS => ?_)
        have hP : va_P (dC, dI) spCl (wM h0 q d (nI a) la gm gr tc1 ch1 hf hr hc1 (upd ce (4 * j2 + j) x3)) H_5 := hP
        have hD : va_D A (wM h0 q d (nI a) la gm gr tc1 ch1 hf hr hc1 (upd ce (4 * j2 + j) x3)) := hD
        refine lv_iconst (v := 0) hx hb dX1_store_47 (by decide) ?_
        exact W.iret (v := 0) hx hb hret (fun t ht hW => ⟨⟨0, (nI a, la, gm, gr, tc1, ch1, hf, hr, hc1, upd ce (4 * j2 + j) x3), rfl, sp_store_g ha hb8 hj4 hj8 hw, by rw [ht]; exact hP, va_K.moved hW.alike hK, hD⟩, hS.F ht⟩) hS.2.2 dX1_store_48
      · refine lv_iload hx hb dX1_store_32 (lv_at hl 0 rfl) ?_
        exact W.iret (v := f) hx hb hret (fun t ht hW => ⟨⟨f, (nI a, la, gm, gr, tc1, ch1, hf, hr, hc1, ce), rfl, sp_store_n ha hb8 hj4 hw (sp_ge c29), by rw [ht]; exact hP, va_K.moved hW.alike hK, hD⟩, hS.F ht⟩) hS.2.2 dX1_store_34
    · refine lv_iconst (v := -1) hx hb dX1_store_17 (by decide) ?_
      exact W.iret (v := (-1)) hx hb hret (fun t ht hW => ⟨⟨-1, (nI a, la, gm, gr, tc, ch, hf, hr, hc, ce), rfl, sp_store_b (Or.inr (sp_pou1 hw_r2 c14)), by rw [ht]; exact hP, va_K.moved hW.alike hK, hD⟩, hS.F ht⟩) hS.2.2 dX1_store_18
end
section
set_option maxHeartbeats 4000000 in
set_option maxRecDepth 100000 in
theorem mM_fetch (l : Launch) (dC : Nat → ClassId) (dI : Nat → Nat → Nat) (h0 : Nat) (q : Nat → Nat) (d : Nat → ClassId) (sz : Nat) (pr la : Int32) (gm gr tc ch hf hr hc ce : FN) (x1 : Int32) (hT : sp_IT pr gm ch hf hc) : Met l yX1_fetch (ws_ yX1_fetch cX1_fetch 2 (some .int)) ({ frames := 1, cells := 0, slots := 0, locals := 24 }) (va_Pc [.ref h0, .int x1] (fun U => U.heap.size = sz ∧ va_P (dC, dI) spCl (wM h0 q d pr la gm gr tc ch hf hr hc ce) U.heap ∧ va_K (dC, dI) spCl (tyM d) U ∧ va_D (fun _ => True) (wM h0 q d pr la gm gr tc ch hf hr hc ce))) (va_Qi (fun (r : Int32) (u : PT) => (r, u) = sp_fetch pr la gm gr tc ch hf hr hc ce x1) (fun u t => BMu dC dI (va_A (wM h0 q d pr la gm gr tc ch hf hr hc ce) sz) h0 q d u t) (va_A (wM h0 q d pr la gm gr tc ch hf hr hc ce) sz)) 0 0 (va_A (wM h0 q d pr la gm gr tc ch hf hr hc ce) sz) := by
  refine Met.ofW (cc := cX1_fetch) (maxL := 2) (ret := (some .int)) (by decide) rfl ?_
  intro p ev s m args below meth c s₁ B hml hv
  obtain ⟨rfl, hsz, hP, hK, hD0⟩ := hv
  have hx := B.exec
  have hb := B.bytes
  have hret := B.returns
  have hts := atoms_spec (ws := (ws_ yX1_fetch cX1_fetch 2 (some .int))) B.pre
  have hts : ∀ w ∈ lw_all, w.before _ s = true := fun w h => hts w (List.mem_cons_of_mem _ h)
  have hown : s.vm.findClass RX1 = some m.cls := findClass_of_methodNamed B.named
  have hlocks := B.notSynchronized
  subst hsz
  have hD := hD0.self (sz := s.heap.size)
  generalize hAe : va_A (wM h0 q d pr la gm gr tc ch hf hr hc ce) s.heap.size = A at hD ⊢
  have hA : ∀ q : Nat, s.heap.size ≤ q → A q := fun q h => by rw [← hAe]; exact Or.inr h
  have hS : va_S A s.heap s.heap [] := va_S.rf
  have hl := lv_entry ([.ref h0, .int x1]) (n := 2) (Nat.le_of_ble_eq_true rfl)
  rw [lg_entry_eq]
  generalize (lg_sl ([.ref h0, .int x1]) ++ List.replicate (2 - (lg_sl ([.ref h0, .int x1])).length) Slot.unset).toArray = ls at hl ⊢
  have hl : lv_has ls 2 [(0, .ref h0), (1, .int x1)] := hl
  obtain ⟨a, ha, hpr⟩ := hT.1
  subst hpr
  refine lv_iload_n hx hb dX1_fetch_0 rfl (lv_at hl 1 rfl) ?_
  refine lv_bipush (v := 7) hx hb dX1_fetch_1 (by decide) ?_
  have hFc := va_free (wc := []) hD hS hA [] rfl
  refine va_calli (va_runS (As := [.int x1, .int 7]) (rest := []) ⟨hx, hb, hml, hown, hts⟩ (mM_outside l x1 7 s.heap.size) (va_cwS 2 hts (lw_S q166 q167 q6 q168) rfl rfl rfl (by decide +kernel) ⟨Nat.le_of_ble_eq_true rfl, Nat.le_of_ble_eq_true rfl⟩) ⟨fun a U g mk q => ⟨q.1, q.2⟩, fun U hU hW => ⟨rfl, congrArg Array.size hU⟩⟩ rfl rfl hl.1 rfl (lv_room (Nat.le_of_ble_eq_true rfl)) dX1_fetch_3 ⟨Nat.le_of_ble_eq_true rfl, Nat.le_of_ble_eq_true rfl⟩) hS (fun q _ h => hFc q h) hFc (fun r1 u t H_1 locs ht hvm hw_r1 hB hz1 hk1 hS => ?_)
  have hP := sp_keep hP hk1
  refine lv_if_eq (tgt := 13) hx hb dX1_fetch_6 (by decide) (fun c6 => ?_) (fun c6 => ?_)
  · obtain ⟨b, hb8, rfl⟩ := sp_nb7 (sp_pou0 hw_r1 c6)
    refine lv_aload_n hx hb dX1_fetch_13 rfl (lv_at hl 0 rfl) ?_
    refine lv_iload_n hx hb dX1_fetch_14 rfl (lv_at hl 1 rfl) ?_
    refine lv_iconst (v := 4) hx hb dX1_fetch_15 (by decide) ?_
    have he : 8 * a + b < 16 := by omega
    have hFc := va_free (wc := wM h0 q d (nI a) la gm gr tc ch hf hr hc ce) hD hS hA [0, 1, 2, 3, 4, 5, 6, 7, 8] rfl
    refine va_calli (va_runV (As := [.int (nI b), .int 4]) (rest := []) ⟨hx, hb, hml, hown, hts⟩ (mM_reach l dC dI h0 q d H_1.size (nI a) la gm gr tc ch hf hr hc ce a b 4 ha hb8 rfl hT) (cwV 2 hts (lw_V q181 q183 qs3 q6 q184) rfl rfl rfl (by decide +kernel) ⟨Nat.le_of_ble_eq_true rfl, Nat.le_of_ble_eq_true rfl⟩) ⟨fun a U g mk q => by obtain ⟨q0, q1, qP, qK, qD⟩ := q; exact ⟨q0, q1, qP, va_K.moved (u := U) (U := U.calling g mk a) (Vm.Alike.refl U.vm) qK, qD⟩, va_recv hK hP (ci := 1) (q0 := 0) rfl rfl, fun U hU hW => ⟨rfl, by rw [hU], by rw [hU]; exact hP, va_K.moved hW.alike hK, hD.weaken (fun _ _ _ _ => trivial)⟩⟩ rfl rfl hl.1 rfl (lv_room (Nat.le_of_ble_eq_true rfl)) dX1_fetch_16 ⟨Nat.le_of_ble_eq_true rfl, Nat.le_of_ble_eq_true rfl⟩) hS (fun q _ h => hFc q h) hFc (fun f u t H_2 locs ht hvm hw hB hz1 hk1 hS => ?_)
    obtain ⟨tc1, ch1, hc1⟩ := u
    obtain ⟨hP1, hK1, hD1⟩ := hB
    rw [ht] at hP1
    have hP := hP1
    have hD := hD1.weaken (fun _ _ _ h => hFc _ h)
    have hP : va_P (dC, dI) spCl (wM h0 q d (nI a) la gm gr tc1 ch1 hf hr hc1 ce) H_2 := hP
    have hD : va_D A (wM h0 q d (nI a) la gm gr tc1 ch1 hf hr hc1 ce) := hD
    exact W.iret (v := f) hx hb hret (fun t ht hW => ⟨⟨f, (nI a, la, gm, gr, tc1, ch1, hf, hr, hc1, ce), rfl, sp_fetch_g ha hb8 hw, by rw [ht]; exact hP, va_K.moved hW.alike hK, hD⟩, hS.F ht⟩) hS.2.2 dX1_fetch_19
  · refine lv_iconst (v := -1) hx hb dX1_fetch_9 (by decide) ?_
    refine lv_goto (tgt := 19) hx hb dX1_fetch_10 (by decide) ?_
    exact W.iret (v := (-1)) hx hb hret (fun t ht hW => ⟨⟨-1, (nI a, la, gm, gr, tc, ch, hf, hr, hc, ce), rfl, sp_fetch_b (sp_pou1 hw_r1 c6), by rw [ht]; exact hP, va_K.moved hW.alike hK, hD⟩, hS.F ht⟩) hS.2.2 dX1_fetch_19
set_option maxHeartbeats 4000000 in
set_option maxRecDepth 100000 in
theorem mM_last (l : Launch) (dC : Nat → ClassId) (dI : Nat → Nat → Nat) (h0 : Nat) (q : Nat → Nat) (d : Nat → ClassId) (sz : Nat) (pr la : Int32) (gm gr tc ch hf hr hc ce : FN) (hT : sp_IT pr gm ch hf hc) : Met l yX1_last (ws_ yX1_last cX1_last 1 (some .int)) ({ frames := 0, cells := 0, slots := 0, locals := 0 }) (va_Pc [.ref h0] (fun U => U.heap.size = sz ∧ va_P (dC, dI) spCl (wM h0 q d pr la gm gr tc ch hf hr hc ce) U.heap ∧ va_K (dC, dI) spCl (tyM d) U ∧ va_D (fun _ => True) (wM h0 q d pr la gm gr tc ch hf hr hc ce))) (va_Qi (fun (r : Int32) (u : PT) => (r, u) = (la, pr, la, gm, gr, tc, ch, hf, hr, hc, ce)) (fun u t => BMu dC dI (va_A (wM h0 q d pr la gm gr tc ch hf hr hc ce) sz) h0 q d u t) (va_A (wM h0 q d pr la gm gr tc ch hf hr hc ce) sz)) 0 0 (va_A (wM h0 q d pr la gm gr tc ch hf hr hc ce) sz) := by
  refine Met.ofW (cc := cX1_last) (maxL := 1) (ret := (some .int)) (by decide) rfl ?_
  intro p ev s m args below meth c s₁ B hml hv
  obtain ⟨rfl, hsz, hP, hK, hD0⟩ := hv
  have hx := B.exec
  have hb := B.bytes
  have hret := B.returns
  have hts := atoms_spec (ws := (ws_ yX1_last cX1_last 1 (some .int))) B.pre
  have hts : ∀ w ∈ lw_all, w.before _ s = true := fun w h => hts w (List.mem_cons_of_mem _ h)
  have hown : s.vm.findClass RX1 = some m.cls := findClass_of_methodNamed B.named
  have hlocks := B.notSynchronized
  subst hsz
  have hD := hD0.self (sz := s.heap.size)
  generalize hAe : va_A (wM h0 q d pr la gm gr tc ch hf hr hc ce) s.heap.size = A at hD ⊢
  have hA : ∀ q : Nat, s.heap.size ≤ q → A q := fun q h => by rw [← hAe]; exact Or.inr h
  have hS : va_S A s.heap s.heap [] := va_S.rf
  have hl := lv_entry ([.ref h0]) (n := 1) (Nat.le_of_ble_eq_true rfl)
  rw [lg_entry_eq]
  generalize (lg_sl ([.ref h0]) ++ List.replicate (1 - (lg_sl ([.ref h0])).length) Slot.unset).toArray = ls at hl ⊢
  have hl : lv_has ls 1 [(0, .ref h0)] := hl
  refine lv_aload_n hx hb dX1_last_0 rfl (lv_at hl 0 rfl) ?_
  refine va_get (D := (dC, dI)) (ci := 1) (v := .int la) (C := RX1) (T := TX1) (N := 10) hx hb hts in_X1 hown hK hP 0 rfl rfl 9 (by decide) (hts _ q140) (fun _ h9 => h9) rfl dX1_last_1 ?_
  exact W.iret (v := la) hx hb hret (fun t ht hW => ⟨⟨la, (pr, la, gm, gr, tc, ch, hf, hr, hc, ce), rfl, rfl, by rw [ht]; exact hP, va_K.moved hW.alike hK, hD⟩, hS.F ht⟩) hS.2.2 dX1_last_4
set_option maxHeartbeats 4000000 in
set_option maxRecDepth 100000 in
theorem mM_marks (l : Launch) (dC : Nat → ClassId) (dI : Nat → Nat → Nat) (h0 : Nat) (q : Nat → Nat) (d : Nat → ClassId) (sz : Nat) (pr la : Int32) (gm gr tc ch hf hr hc ce : FN) (x1 x2 : Int32) (hT : sp_IT pr gm ch hf hc) : Met l yX1_marks (ws_ yX1_marks cX1_marks 4 (some .int)) ({ frames := 1, cells := 0, slots := 0, locals := 21 }) (va_Pc [.ref h0, .int x1, .int x2] (fun U => U.heap.size = sz ∧ va_P (dC, dI) spCl (wM h0 q d pr la gm gr tc ch hf hr hc ce) U.heap ∧ va_K (dC, dI) spCl (tyM d) U ∧ va_D (fun _ => True) (wM h0 q d pr la gm gr tc ch hf hr hc ce))) (va_Qi (fun (r : Int32) (u : PT) => (r, u) = (sp_marks gm tc ch x1 x2, pr, la, gm, gr, tc, ch, hf, hr, hc, ce)) (fun u t => BMu dC dI (va_A (wM h0 q d pr la gm gr tc ch hf hr hc ce) sz) h0 q d u t) (va_A (wM h0 q d pr la gm gr tc ch hf hr hc ce) sz)) 0 0 (va_A (wM h0 q d pr la gm gr tc ch hf hr hc ce) sz) := by
  refine Met.ofW (cc := cX1_marks) (maxL := 4) (ret := (some .int)) (by decide) rfl ?_
  intro p ev s m args below meth c s₁ B hml hv
  obtain ⟨rfl, hsz, hP, hK, hD0⟩ := hv
  have hx := B.exec
  have hb := B.bytes
  have hret := B.returns
  have hts := atoms_spec (ws := (ws_ yX1_marks cX1_marks 4 (some .int))) B.pre
  have hts : ∀ w ∈ lw_all, w.before _ s = true := fun w h => hts w (List.mem_cons_of_mem _ h)
  have hown : s.vm.findClass RX1 = some m.cls := findClass_of_methodNamed B.named
  have hlocks := B.notSynchronized
  subst hsz
  have hD := hD0.self (sz := s.heap.size)
  generalize hAe : va_A (wM h0 q d pr la gm gr tc ch hf hr hc ce) s.heap.size = A at hD ⊢
  have hA : ∀ q : Nat, s.heap.size ≤ q → A q := fun q h => by rw [← hAe]; exact Or.inr h
  have hS : va_S A s.heap s.heap [] := va_S.rf
  have hl := lv_entry ([.ref h0, .int x1, .int x2]) (n := 4) (Nat.le_of_ble_eq_true rfl)
  rw [lg_entry_eq]
  generalize (lg_sl ([.ref h0, .int x1, .int x2]) ++ List.replicate (4 - (lg_sl ([.ref h0, .int x1, .int x2])).length) Slot.unset).toArray = ls at hl ⊢
  have hl : lv_has ls 4 [(0, .ref h0), (1, .int x1), (2, .int x2)] := hl
  refine lv_iload_n hx hb dX1_marks_0 rfl (lv_at hl 1 rfl) ?_
  refine lv_iconst (v := 1) hx hb dX1_marks_1 (by decide) ?_
  have hFc := va_free (wc := []) hD hS hA [] rfl
  refine va_calli (va_runS (As := [.int x1, .int 1]) (rest := []) ⟨hx, hb, hml, hown, hts⟩ (mM_outside l x1 1 s.heap.size) (va_cwS 2 hts (lw_S q166 q167 q6 q168) rfl rfl rfl (by decide +kernel) ⟨Nat.le_of_ble_eq_true rfl, Nat.le_of_ble_eq_true rfl⟩) ⟨fun a U g mk q => ⟨q.1, q.2⟩, fun U hU hW => ⟨rfl, congrArg Array.size hU⟩⟩ rfl rfl hl.1 rfl (lv_room (Nat.le_of_ble_eq_true rfl)) dX1_marks_2 ⟨Nat.le_of_ble_eq_true rfl, Nat.le_of_ble_eq_true rfl⟩) hS (fun q _ h => hFc q h) hFc (fun r1 u t H_1 locs ht hvm hw_r1 hB hz1 hk1 hS => ?_)
  have hP := sp_keep hP hk1
  refine lv_if_ne (tgt := 17) hx hb dX1_marks_5 (by decide) (fun c5 => ?_) (fun c5 => ?_)
  · refine lv_iconst (v := -1) hx hb dX1_marks_17 (by decide) ?_
    exact W.iret (v := (-1)) hx hb hret (fun t ht hW => ⟨⟨-1, (pr, la, gm, gr, tc, ch, hf, hr, hc, ce), rfl, Prod.ext (sp_marks_b (Or.inl (sp_pou1 hw_r1 c5))) rfl, by rw [ht]; exact hP, va_K.moved hW.alike hK, hD⟩, hS.F ht⟩) hS.2.2 dX1_marks_18
  · obtain ⟨a, ha, rfl⟩ := sp_nb1 (sp_pou0 hw_r1 c5)
    refine lv_iload_n hx hb dX1_marks_8 rfl (lv_at hl 2 rfl) ?_
    refine lv_bipush (v := 7) hx hb dX1_marks_9 (by decide) ?_
    have hFc := va_free (wc := []) hD hS hA [] rfl
    refine va_calli (va_runS (As := [.int x2, .int 7]) (rest := []) ⟨hx, hb, hml, hown, hts⟩ (mM_outside l x2 7 H_1.size) (va_cwS 2 hts (lw_S q166 q167 q6 q168) rfl rfl rfl (by decide +kernel) ⟨Nat.le_of_ble_eq_true rfl, Nat.le_of_ble_eq_true rfl⟩) ⟨fun a U g mk q => ⟨q.1, q.2⟩, fun U hU hW => ⟨rfl, congrArg Array.size hU⟩⟩ rfl rfl hl.1 rfl (lv_room (Nat.le_of_ble_eq_true rfl)) dX1_marks_11 ⟨Nat.le_of_ble_eq_true rfl, Nat.le_of_ble_eq_true rfl⟩) hS (fun q _ h => hFc q h) hFc (fun r2 u t H_2 locs ht hvm hw_r2 hB hz1 hk1 hS => ?_)
    have hP := sp_keep hP hk1
    refine lv_if_eq (tgt := 19) hx hb dX1_marks_14 (by decide) (fun c14 => ?_) (fun c14 => ?_)
    · obtain ⟨b, hb8, rfl⟩ := sp_nb7 (sp_pou0 hw_r2 c14)
      refine lv_bipush (v := 8) hx hb dX1_marks_19 (by decide) ?_
      refine lv_iload_n hx hb dX1_marks_21 rfl (lv_at hl 1 rfl) ?_
      refine lv_imul hx hb dX1_marks_22 ?_
      refine lv_iload_n hx hb dX1_marks_23 rfl (lv_at hl 2 rfl) ?_
      refine lv_iadd hx hb dX1_marks_24 ?_
      refine lv_topi (fun v_3 ev_3 => ?_)
      obtain rfl : v_3 = nI (8 * a + b) := ev_3.trans (sp_ixI a b)
      refine lv_istore_n (lv' := [(3, .int (nI (8 * a + b))), (0, .ref h0), (1, .int (nI a)), (2, .int (nI b))]) hx hb dX1_marks_25 rfl hl (by decide) rfl (fun ls hl => ?_)
      refine lv_aload_n hx hb dX1_marks_26 rfl (lv_at hl 1 rfl) ?_
      refine va_get (D := (dC, dI)) (ci := 1) (v := .ref (q 1)) (C := RX1) (T := TX1) (N := 10) hx hb hts in_X1 hown hK hP 0 rfl rfl 0 (by decide) (hts _ q131) (fun _ h9 => h9) rfl dX1_marks_27 ?_
      refine lv_iload_n hx hb dX1_marks_30 rfl (lv_at hl 0 rfl) ?_
      refine sp_ild hx hb hK hP 1 0 rfl rfl (8 * a + b) rfl (by omega) (by decide) dX1_marks_31 ?_
      refine lv_if_ge (tgt := 37) hx hb dX1_marks_32 (by decide) (fun c32 => ?_) (fun c32 => ?_)
      · refine lv_aload_n hx hb dX1_marks_37 rfl (lv_at hl 1 rfl) ?_
        refine va_get (D := (dC, dI)) (ci := 1) (v := .ref (q 3)) (C := RX1) (T := TX1) (N := 10) hx hb hts in_X1 hown hK hP 0 rfl rfl 2 (by decide) (hts _ q133) (fun _ h9 => h9) rfl dX1_marks_38 ?_
        refine lv_iload_n hx hb dX1_marks_41 rfl (lv_at hl 0 rfl) ?_
        refine sp_zld hx hb hK hP 3 2 rfl rfl (8 * a + b) rfl (by omega) (by decide) dX1_marks_42 ?_
        refine lv_if_eq (tgt := 50) hx hb dX1_marks_43 (by decide) (fun c43 => ?_) (fun c43 => ?_)
        · refine lv_iconst (v := 0) hx hb dX1_marks_50 (by decide) ?_
          refine lv_aload_n hx hb dX1_marks_51 rfl (lv_at hl 1 rfl) ?_
          refine va_get (D := (dC, dI)) (ci := 1) (v := .ref (q 4)) (C := RX1) (T := TX1) (N := 10) hx hb hts in_X1 hown hK hP 0 rfl rfl 3 (by decide) (hts _ q134) (fun _ h9 => h9) rfl dX1_marks_52 ?_
          refine lv_iload_n hx hb dX1_marks_55 rfl (lv_at hl 0 rfl) ?_
          refine sp_zld hx hb hK hP 4 3 rfl rfl (8 * a + b) rfl (by omega) (by decide) dX1_marks_56 ?_
          refine lv_if_eq (tgt := 64) hx hb dX1_marks_57 (by decide) (fun c57 => ?_) (fun c57 => ?_)
          · refine lv_iconst (v := 0) hx hb dX1_marks_64 (by decide) ?_
            refine lv_iadd hx hb dX1_marks_65 ?_
            exact W.iret (v := (0 + 0)) hx hb hret (fun t ht hW => ⟨⟨0 + 0, (pr, la, gm, gr, tc, ch, hf, hr, hc, ce), rfl, Prod.ext (sp_marks_g ha hb8 (sp_nge c32) (Or.inl ⟨c43, rfl⟩) (Or.inl ⟨c57, rfl⟩)) rfl, by rw [ht]; exact hP, va_K.moved hW.alike hK, hD⟩, hS.F ht⟩) hS.2.2 dX1_marks_66
          · refine lv_iconst (v := 2) hx hb dX1_marks_60 (by decide) ?_
            refine lv_goto (tgt := 65) hx hb dX1_marks_61 (by decide) ?_
            refine lv_iadd hx hb dX1_marks_65 ?_
            exact W.iret (v := (0 + 2)) hx hb hret (fun t ht hW => ⟨⟨0 + 2, (pr, la, gm, gr, tc, ch, hf, hr, hc, ce), rfl, Prod.ext (sp_marks_g ha hb8 (sp_nge c32) (Or.inl ⟨c43, rfl⟩) (Or.inr ⟨c57, rfl⟩)) rfl, by rw [ht]; exact hP, va_K.moved hW.alike hK, hD⟩, hS.F ht⟩) hS.2.2 dX1_marks_66
        · refine lv_iconst (v := 1) hx hb dX1_marks_46 (by decide) ?_
          refine lv_goto (tgt := 51) hx hb dX1_marks_47 (by decide) ?_
          refine lv_aload_n hx hb dX1_marks_51 rfl (lv_at hl 1 rfl) ?_
          refine va_get (D := (dC, dI)) (ci := 1) (v := .ref (q 4)) (C := RX1) (T := TX1) (N := 10) hx hb hts in_X1 hown hK hP 0 rfl rfl 3 (by decide) (hts _ q134) (fun _ h9 => h9) rfl dX1_marks_52 ?_
          refine lv_iload_n hx hb dX1_marks_55 rfl (lv_at hl 0 rfl) ?_
          refine sp_zld hx hb hK hP 4 3 rfl rfl (8 * a + b) rfl (by omega) (by decide) dX1_marks_56 ?_
          refine lv_if_eq (tgt := 64) hx hb dX1_marks_57 (by decide) (fun c57 => ?_) (fun c57 => ?_)
          · refine lv_iconst (v := 0) hx hb dX1_marks_64 (by decide) ?_
            refine lv_iadd hx hb dX1_marks_65 ?_
            exact W.iret (v := (1 + 0)) hx hb hret (fun t ht hW => ⟨⟨1 + 0, (pr, la, gm, gr, tc, ch, hf, hr, hc, ce), rfl, Prod.ext (sp_marks_g ha hb8 (sp_nge c32) (Or.inr ⟨c43, rfl⟩) (Or.inl ⟨c57, rfl⟩)) rfl, by rw [ht]; exact hP, va_K.moved hW.alike hK, hD⟩, hS.F ht⟩) hS.2.2 dX1_marks_66
          · refine lv_iconst (v := 2) hx hb dX1_marks_60 (by decide) ?_
            refine lv_goto (tgt := 65) hx hb dX1_marks_61 (by decide) ?_
            refine lv_iadd hx hb dX1_marks_65 ?_
            exact W.iret (v := (1 + 2)) hx hb hret (fun t ht hW => ⟨⟨1 + 2, (pr, la, gm, gr, tc, ch, hf, hr, hc, ce), rfl, Prod.ext (sp_marks_g ha hb8 (sp_nge c32) (Or.inr ⟨c43, rfl⟩) (Or.inr ⟨c57, rfl⟩)) rfl, by rw [ht]; exact hP, va_K.moved hW.alike hK, hD⟩, hS.F ht⟩) hS.2.2 dX1_marks_66
      · refine lv_iconst (v := 0) hx hb dX1_marks_35 (by decide) ?_
        exact W.iret (v := 0) hx hb hret (fun t ht hW => ⟨⟨0, (pr, la, gm, gr, tc, ch, hf, hr, hc, ce), rfl, Prod.ext (sp_marks_0 ha hb8 (sp_ge c32)) rfl, by rw [ht]; exact hP, va_K.moved hW.alike hK, hD⟩, hS.F ht⟩) hS.2.2 dX1_marks_36
    · refine lv_iconst (v := -1) hx hb dX1_marks_17 (by decide) ?_
      exact W.iret (v := (-1)) hx hb hret (fun t ht hW => ⟨⟨-1, (pr, la, gm, gr, tc, ch, hf, hr, hc, ce), rfl, Prod.ext (sp_marks_b (Or.inr (sp_pou1 hw_r2 c14))) rfl, by rw [ht]; exact hP, va_K.moved hW.alike hK, hD⟩, hS.F ht⟩) hS.2.2 dX1_marks_18
set_option maxHeartbeats 4000000 in
set_option maxRecDepth 100000 in
theorem mM_hostMark (l : Launch) (dC : Nat → ClassId) (dI : Nat → Nat → Nat) (h0 : Nat) (q : Nat → Nat) (d : Nat → ClassId) (sz : Nat) (pr la : Int32) (gm gr tc ch hf hr hc ce : FN) (x1 : Int32) (hT : sp_IT pr gm ch hf hc) : Met l yX1_hostMark (ws_ yX1_hostMark cX1_hostMark 2 (some .int)) ({ frames := 1, cells := 0, slots := 0, locals := 21 }) (va_Pc [.ref h0, .int x1] (fun U => U.heap.size = sz ∧ va_P (dC, dI) spCl (wM h0 q d pr la gm gr tc ch hf hr hc ce) U.heap ∧ va_K (dC, dI) spCl (tyM d) U ∧ va_D (fun _ => True) (wM h0 q d pr la gm gr tc ch hf hr hc ce))) (va_Qi (fun (r : Int32) (u : PT) => (r, u) = (sp_hostMark hf hc x1, pr, la, gm, gr, tc, ch, hf, hr, hc, ce)) (fun u t => BMu dC dI (va_A (wM h0 q d pr la gm gr tc ch hf hr hc ce) sz) h0 q d u t) (va_A (wM h0 q d pr la gm gr tc ch hf hr hc ce) sz)) 0 0 (va_A (wM h0 q d pr la gm gr tc ch hf hr hc ce) sz) := by
  refine Met.ofW (cc := cX1_hostMark) (maxL := 2) (ret := (some .int)) (by decide) rfl ?_
  intro p ev s m args below meth c s₁ B hml hv
  obtain ⟨rfl, hsz, hP, hK, hD0⟩ := hv
  have hx := B.exec
  have hb := B.bytes
  have hret := B.returns
  have hts := atoms_spec (ws := (ws_ yX1_hostMark cX1_hostMark 2 (some .int))) B.pre
  have hts : ∀ w ∈ lw_all, w.before _ s = true := fun w h => hts w (List.mem_cons_of_mem _ h)
  have hown : s.vm.findClass RX1 = some m.cls := findClass_of_methodNamed B.named
  have hlocks := B.notSynchronized
  subst hsz
  have hD := hD0.self (sz := s.heap.size)
  generalize hAe : va_A (wM h0 q d pr la gm gr tc ch hf hr hc ce) s.heap.size = A at hD ⊢
  have hA : ∀ q : Nat, s.heap.size ≤ q → A q := fun q h => by rw [← hAe]; exact Or.inr h
  have hS : va_S A s.heap s.heap [] := va_S.rf
  have hl := lv_entry ([.ref h0, .int x1]) (n := 2) (Nat.le_of_ble_eq_true rfl)
  rw [lg_entry_eq]
  generalize (lg_sl ([.ref h0, .int x1]) ++ List.replicate (2 - (lg_sl ([.ref h0, .int x1])).length) Slot.unset).toArray = ls at hl ⊢
  have hl : lv_has ls 2 [(0, .ref h0), (1, .int x1)] := hl
  refine lv_iload_n hx hb dX1_hostMark_0 rfl (lv_at hl 1 rfl) ?_
  refine lv_bipush (v := 7) hx hb dX1_hostMark_1 (by decide) ?_
  have hFc := va_free (wc := []) hD hS hA [] rfl
  refine va_calli (va_runS (As := [.int x1, .int 7]) (rest := []) ⟨hx, hb, hml, hown, hts⟩ (mM_outside l x1 7 s.heap.size) (va_cwS 2 hts (lw_S q166 q167 q6 q168) rfl rfl rfl (by decide +kernel) ⟨Nat.le_of_ble_eq_true rfl, Nat.le_of_ble_eq_true rfl⟩) ⟨fun a U g mk q => ⟨q.1, q.2⟩, fun U hU hW => ⟨rfl, congrArg Array.size hU⟩⟩ rfl rfl hl.1 rfl (lv_room (Nat.le_of_ble_eq_true rfl)) dX1_hostMark_3 ⟨Nat.le_of_ble_eq_true rfl, Nat.le_of_ble_eq_true rfl⟩) hS (fun q _ h => hFc q h) hFc (fun r1 u t H_1 locs ht hvm hw_r1 hB hz1 hk1 hS => ?_)
  have hP := sp_keep hP hk1
  refine lv_if_eq (tgt := 11) hx hb dX1_hostMark_6 (by decide) (fun c6 => ?_) (fun c6 => ?_)
  · obtain ⟨b, hb8, rfl⟩ := sp_nb7 (sp_pou0 hw_r1 c6)
    refine lv_aload_n hx hb dX1_hostMark_11 rfl (lv_at hl 0 rfl) ?_
    refine va_get (D := (dC, dI)) (ci := 1) (v := .ref (q 5)) (C := RX1) (T := TX1) (N := 10) hx hb hts in_X1 hown hK hP 0 rfl rfl 4 (by decide) (hts _ q135) (fun _ h9 => h9) rfl dX1_hostMark_12 ?_
    refine lv_iload_n hx hb dX1_hostMark_15 rfl (lv_at hl 1 rfl) ?_
    refine sp_ild hx hb hK hP 5 4 rfl rfl b rfl (by omega) (by decide) dX1_hostMark_16 ?_
    refine lv_if_lt (tgt := 33) hx hb dX1_hostMark_17 (by decide) (fun c17 => ?_) (fun c17 => ?_)
    · refine lv_iconst (v := 0) hx hb dX1_hostMark_33 (by decide) ?_
      exact W.iret (v := 0) hx hb hret (fun t ht hW => ⟨⟨0, (pr, la, gm, gr, tc, ch, hf, hr, hc, ce), rfl, Prod.ext (sp_hostMark_0 hb8 (Or.inl c17)) rfl, by rw [ht]; exact hP, va_K.moved hW.alike hK, hD⟩, hS.F ht⟩) hS.2.2 dX1_hostMark_34
    · refine lv_aload_n hx hb dX1_hostMark_20 rfl (lv_at hl 0 rfl) ?_
      refine va_get (D := (dC, dI)) (ci := 1) (v := .ref (q 7)) (C := RX1) (T := TX1) (N := 10) hx hb hts in_X1 hown hK hP 0 rfl rfl 6 (by decide) (hts _ q137) (fun _ h9 => h9) rfl dX1_hostMark_21 ?_
      refine lv_iload_n hx hb dX1_hostMark_24 rfl (lv_at hl 1 rfl) ?_
      refine sp_zld hx hb hK hP 7 6 rfl rfl b rfl (by omega) (by decide) dX1_hostMark_25 ?_
      refine lv_if_eq (tgt := 33) hx hb dX1_hostMark_26 (by decide) (fun c26 => ?_) (fun c26 => ?_)
      · refine lv_iconst (v := 0) hx hb dX1_hostMark_33 (by decide) ?_
        exact W.iret (v := 0) hx hb hret (fun t ht hW => ⟨⟨0, (pr, la, gm, gr, tc, ch, hf, hr, hc, ce), rfl, Prod.ext (sp_hostMark_0 hb8 (Or.inr c26)) rfl, by rw [ht]; exact hP, va_K.moved hW.alike hK, hD⟩, hS.F ht⟩) hS.2.2 dX1_hostMark_34
      · refine lv_iconst (v := 1) hx hb dX1_hostMark_29 (by decide) ?_
        refine lv_goto (tgt := 34) hx hb dX1_hostMark_30 (by decide) ?_
        exact W.iret (v := 1) hx hb hret (fun t ht hW => ⟨⟨1, (pr, la, gm, gr, tc, ch, hf, hr, hc, ce), rfl, Prod.ext (sp_hostMark_1 hb8 c17 c26) rfl, by rw [ht]; exact hP, va_K.moved hW.alike hK, hD⟩, hS.F ht⟩) hS.2.2 dX1_hostMark_34
  · refine lv_iconst (v := -1) hx hb dX1_hostMark_9 (by decide) ?_
    exact W.iret (v := (-1)) hx hb hret (fun t ht hW => ⟨⟨-1, (pr, la, gm, gr, tc, ch, hf, hr, hc, ce), rfl, Prod.ext (sp_hostMark_b (sp_pou1 hw_r1 c6)) rfl, by rw [ht]; exact hP, va_K.moved hW.alike hK, hD⟩, hS.F ht⟩) hS.2.2 dX1_hostMark_10
set_option maxHeartbeats 4000000 in
set_option maxRecDepth 100000 in
theorem mM_frameCell (l : Launch) (dC : Nat → ClassId) (dI : Nat → Nat → Nat) (h0 : Nat) (q : Nat → Nat) (d : Nat → ClassId) (sz : Nat) (pr la : Int32) (gm gr tc ch hf hr hc ce : FN) (x1 x2 : Int32) (hT : sp_IT pr gm ch hf hc) : Met l yX1_frameCell (ws_ yX1_frameCell cX1_frameCell 3 (some .int)) ({ frames := 1, cells := 0, slots := 0, locals := 21 }) (va_Pc [.ref h0, .int x1, .int x2] (fun U => U.heap.size = sz ∧ va_P (dC, dI) spCl (wM h0 q d pr la gm gr tc ch hf hr hc ce) U.heap ∧ va_K (dC, dI) spCl (tyM d) U ∧ va_D (fun _ => True) (wM h0 q d pr la gm gr tc ch hf hr hc ce))) (va_Qi (fun (r : Int32) (u : PT) => (r, u) = (sp_frameCell ce x1 x2, pr, la, gm, gr, tc, ch, hf, hr, hc, ce)) (fun u t => BMu dC dI (va_A (wM h0 q d pr la gm gr tc ch hf hr hc ce) sz) h0 q d u t) (va_A (wM h0 q d pr la gm gr tc ch hf hr hc ce) sz)) 0 0 (va_A (wM h0 q d pr la gm gr tc ch hf hr hc ce) sz) := by
  refine Met.ofW (cc := cX1_frameCell) (maxL := 3) (ret := (some .int)) (by decide) rfl ?_
  intro p ev s m args below meth c s₁ B hml hv
  obtain ⟨rfl, hsz, hP, hK, hD0⟩ := hv
  have hx := B.exec
  have hb := B.bytes
  have hret := B.returns
  have hts := atoms_spec (ws := (ws_ yX1_frameCell cX1_frameCell 3 (some .int))) B.pre
  have hts : ∀ w ∈ lw_all, w.before _ s = true := fun w h => hts w (List.mem_cons_of_mem _ h)
  have hown : s.vm.findClass RX1 = some m.cls := findClass_of_methodNamed B.named
  have hlocks := B.notSynchronized
  subst hsz
  have hD := hD0.self (sz := s.heap.size)
  generalize hAe : va_A (wM h0 q d pr la gm gr tc ch hf hr hc ce) s.heap.size = A at hD ⊢
  have hA : ∀ q : Nat, s.heap.size ≤ q → A q := fun q h => by rw [← hAe]; exact Or.inr h
  have hS : va_S A s.heap s.heap [] := va_S.rf
  have hl := lv_entry ([.ref h0, .int x1, .int x2]) (n := 3) (Nat.le_of_ble_eq_true rfl)
  rw [lg_entry_eq]
  generalize (lg_sl ([.ref h0, .int x1, .int x2]) ++ List.replicate (3 - (lg_sl ([.ref h0, .int x1, .int x2])).length) Slot.unset).toArray = ls at hl ⊢
  have hl : lv_has ls 3 [(0, .ref h0), (1, .int x1), (2, .int x2)] := hl
  refine lv_iload_n hx hb dX1_frameCell_0 rfl (lv_at hl 1 rfl) ?_
  refine lv_bipush (v := 7) hx hb dX1_frameCell_1 (by decide) ?_
  have hFc := va_free (wc := []) hD hS hA [] rfl
  refine va_calli (va_runS (As := [.int x1, .int 7]) (rest := []) ⟨hx, hb, hml, hown, hts⟩ (mM_outside l x1 7 s.heap.size) (va_cwS 2 hts (lw_S q166 q167 q6 q168) rfl rfl rfl (by decide +kernel) ⟨Nat.le_of_ble_eq_true rfl, Nat.le_of_ble_eq_true rfl⟩) ⟨fun a U g mk q => ⟨q.1, q.2⟩, fun U hU hW => ⟨rfl, congrArg Array.size hU⟩⟩ rfl rfl hl.1 rfl (lv_room (Nat.le_of_ble_eq_true rfl)) dX1_frameCell_3 ⟨Nat.le_of_ble_eq_true rfl, Nat.le_of_ble_eq_true rfl⟩) hS (fun q _ h => hFc q h) hFc (fun r1 u t H_1 locs ht hvm hw_r1 hB hz1 hk1 hS => ?_)
  have hP := sp_keep hP hk1
  refine lv_if_ne (tgt := 17) hx hb dX1_frameCell_6 (by decide) (fun c6 => ?_) (fun c6 => ?_)
  · refine lv_iconst (v := 0) hx hb dX1_frameCell_17 (by decide) ?_
    refine lv_goto (tgt := 31) hx hb dX1_frameCell_18 (by decide) ?_
    exact W.iret (v := 0) hx hb hret (fun t ht hW => ⟨⟨0, (pr, la, gm, gr, tc, ch, hf, hr, hc, ce), rfl, Prod.ext (sp_frameCell_b (Or.inl (sp_pou1 hw_r1 c6))) rfl, by rw [ht]; exact hP, va_K.moved hW.alike hK, hD⟩, hS.F ht⟩) hS.2.2 dX1_frameCell_31
  · obtain ⟨b, hb8, rfl⟩ := sp_nb7 (sp_pou0 hw_r1 c6)
    refine lv_iload_n hx hb dX1_frameCell_9 rfl (lv_at hl 2 rfl) ?_
    refine lv_iconst (v := 3) hx hb dX1_frameCell_10 (by decide) ?_
    have hFc := va_free (wc := []) hD hS hA [] rfl
    refine va_calli (va_runS (As := [.int x2, .int 3]) (rest := []) ⟨hx, hb, hml, hown, hts⟩ (mM_outside l x2 3 H_1.size) (va_cwS 2 hts (lw_S q166 q167 q6 q168) rfl rfl rfl (by decide +kernel) ⟨Nat.le_of_ble_eq_true rfl, Nat.le_of_ble_eq_true rfl⟩) ⟨fun a U g mk q => ⟨q.1, q.2⟩, fun U hU hW => ⟨rfl, congrArg Array.size hU⟩⟩ rfl rfl hl.1 rfl (lv_room (Nat.le_of_ble_eq_true rfl)) dX1_frameCell_11 ⟨Nat.le_of_ble_eq_true rfl, Nat.le_of_ble_eq_true rfl⟩) hS (fun q _ h => hFc q h) hFc (fun r2 u t H_2 locs ht hvm hw_r2 hB hz1 hk1 hS => ?_)
    have hP := sp_keep hP hk1
    refine lv_if_eq (tgt := 21) hx hb dX1_frameCell_14 (by decide) (fun c14 => ?_) (fun c14 => ?_)
    · obtain ⟨j, hj4, rfl⟩ := sp_nb3 (sp_pou0 hw_r2 c14)
      refine lv_aload_n hx hb dX1_frameCell_21 rfl (lv_at hl 0 rfl) ?_
      refine va_get (D := (dC, dI)) (ci := 1) (v := .ref (q 8)) (C := RX1) (T := TX1) (N := 10) hx hb hts in_X1 hown hK hP 0 rfl rfl 7 (by decide) (hts _ q138) (fun _ h9 => h9) rfl dX1_frameCell_22 ?_
      refine lv_iconst (v := 4) hx hb dX1_frameCell_25 (by decide) ?_
      refine lv_iload_n hx hb dX1_frameCell_26 rfl (lv_at hl 1 rfl) ?_
      refine lv_imul hx hb dX1_frameCell_27 ?_
      refine lv_iload_n hx hb dX1_frameCell_28 rfl (lv_at hl 2 rfl) ?_
      refine lv_iadd hx hb dX1_frameCell_29 ?_
      refine lv_topi (fun v_3 ev_3 => ?_)
      obtain rfl : v_3 = nI (4 * b + j) := ev_3.trans (sp_cxI b j)
      refine sp_ild hx hb hK hP 8 7 rfl rfl (4 * b + j) rfl (by omega) (by decide) dX1_frameCell_30 ?_
      exact W.iret (v := (ce (4 * b + j))) hx hb hret (fun t ht hW => ⟨⟨ce (4 * b + j), (pr, la, gm, gr, tc, ch, hf, hr, hc, ce), rfl, Prod.ext (sp_frameCell_g hb8 hj4) rfl, by rw [ht]; exact hP, va_K.moved hW.alike hK, hD⟩, hS.F ht⟩) hS.2.2 dX1_frameCell_31
    · refine lv_iconst (v := 0) hx hb dX1_frameCell_17 (by decide) ?_
      refine lv_goto (tgt := 31) hx hb dX1_frameCell_18 (by decide) ?_
      exact W.iret (v := 0) hx hb hret (fun t ht hW => ⟨⟨0, (pr, la, gm, gr, tc, ch, hf, hr, hc, ce), rfl, Prod.ext (sp_frameCell_b (Or.inr (sp_pou1 hw_r2 c14))) rfl, by rw [ht]; exact hP, va_K.moved hW.alike hK, hD⟩, hS.F ht⟩) hS.2.2 dX1_frameCell_31
set_option maxHeartbeats 4000000 in
set_option maxRecDepth 100000 in
theorem lpM_age {p : Program} {l : Launch} {ev : Env} {R : Room} {s : State} {m : MethodId} {args : Array Value} {below : List Frame} {meth : Method} {c : Code} {cells slots : Nat} {Q : State → Prop} {dC : Nat → ClassId} {dI : Nat → Nat → Nat} {h0 : Nat} {q : Nat → Nat} {d : Nat → ClassId} {A : Nat → Prop} {pr la : Int32} {gm gr tc ch hf hr hc ce : FN} {a : Nat} (hx : p.tables.exec = Jvm.exec) (hb : c.code = cX1_age) (hts : ∀ w ∈ lw_all, w.before args s = true) (hown : s.vm.findClass RX1 = some m.cls) (hK : va_K (dC, dI) spCl (tyM d) s) (ha : a < 2)
    (kk : ∀ (H : Heap) (locs : List Loc) (ls : Array Slot), va_P (dC, dI) spCl (wM h0 q d pr la gm gr (sp_aget tc (8 * a) 8) ch hf hr hc ce) H → va_D A (wM h0 q d pr la gm gr (sp_aget tc (8 * a) 8) ch hf hr hc ce) → va_S A s.heap H locs → lv_has ls 4 [(3, .int (nI 8)), (2, .int (sp_agec tc (8 * a) 8)), (1, .int (nI a)), (0, .ref h0)] → W p l ev R s m args below meth c H locs cells slots Q (F0 m 55 ls [])) :
    ∀ (n k : Nat) (H : Heap) (locs : List Loc) (ls : Array Slot), 8 < k + n → k ≤ 8 → va_P (dC, dI) spCl (wM h0 q d pr la gm gr (sp_aget tc (8 * a) k) ch hf hr hc ce) H → va_D A (wM h0 q d pr la gm gr (sp_aget tc (8 * a) k) ch hf hr hc ce) → va_S A s.heap H locs → lv_has ls 4 [(3, .int (nI k)), (2, .int (sp_agec tc (8 * a) k)), (1, .int (nI a)), (0, .ref h0)] → W p l ev R s m args below meth c H locs cells slots Q (F0 m 14 ls []) := by
  intro n
  induction n with
  | zero =>
    intro k H locs ls h1 h2
    exact absurd h1 (by omega)
  | succ n ih =>
    intro k H locs ls hn hk hP hD hS hl
    refine lv_iload_n hx hb dX1_age_14 rfl (lv_at hl 0 rfl) ?_
    refine lv_bipush (v := 8) hx hb dX1_age_15 (by decide) ?_
    refine lv_icmp_ge (tgt := 55) hx hb dX1_age_17 (by decide) (fun c17 => ?_) (fun c17 => ?_)
    · have hk8 : k = 8 := by
        have := (nI_leI (a := 8) (b := k) (by omega) (by omega)).mp c17
        omega
      subst hk8
      exact kk _ _ ls hP hD hS (lv_sub hl [0, 1, 2, 3] rfl)
    · have hk8 : k < 8 := by
        rcases Nat.lt_or_ge k 8 with z | z
        · exact z
        · exact absurd (nI_le (a := 8) (b := k) z (by omega)) c17
      have he : 8 * a + k < 16 := by omega
      refine lv_aload_n hx hb dX1_age_20 rfl (lv_at hl 3 rfl) ?_
      refine va_get (D := (dC, dI)) (ci := 1) (v := .ref (q 3)) (C := RX1) (T := TX1) (N := 10) hx hb hts in_X1 hown hK hP 0 rfl rfl 2 (by decide) (hts _ q133) (fun _ h9 => h9) rfl dX1_age_21 ?_
      refine lv_bipush (v := 8) hx hb dX1_age_24 (by decide) ?_
      refine lv_iload_n hx hb dX1_age_26 rfl (lv_at hl 2 rfl) ?_
      refine lv_imul hx hb dX1_age_27 ?_
      refine lv_iload_n hx hb dX1_age_28 rfl (lv_at hl 0 rfl) ?_
      refine lv_iadd hx hb dX1_age_29 ?_
      refine lv_topi (fun v_1 ev_1 => ?_)
      obtain rfl : v_1 = nI (8 * a + k) := ev_1.trans (sp_ixI a k)
      refine sp_zld hx hb hK hP 3 2 rfl rfl (8 * a + k) rfl (by omega) (by decide) dX1_age_30 ?_
      refine lv_topi (fun v_2 ev_2 => ?_)
      obtain rfl : v_2 = tc (8 * a + k) := ev_2.trans (sp_aget_ge k k (Nat.le_refl k))
      refine lv_if_eq (tgt := 37) hx hb dX1_age_31 (by decide) (fun c31 => ?_) (fun c31 => ?_)
      · rw [← sp_agec_0 c31] at hl
        refine lv_aload_n hx hb dX1_age_37 rfl (lv_at hl 3 rfl) ?_
        refine va_get (D := (dC, dI)) (ci := 1) (v := .ref (q 3)) (C := RX1) (T := TX1) (N := 10) hx hb hts in_X1 hown hK hP 0 rfl rfl 2 (by decide) (hts _ q133) (fun _ h9 => h9) rfl dX1_age_38 ?_
        refine lv_bipush (v := 8) hx hb dX1_age_41 (by decide) ?_
        refine lv_iload_n hx hb dX1_age_43 rfl (lv_at hl 2 rfl) ?_
        refine lv_imul hx hb dX1_age_44 ?_
        refine lv_iload_n hx hb dX1_age_45 rfl (lv_at hl 0 rfl) ?_
        refine lv_iadd hx hb dX1_age_46 ?_
        refine lv_topi (fun v_3 ev_3 => ?_)
        obtain rfl : v_3 = nI (8 * a + k) := ev_3.trans (sp_ixI a k)
        refine lv_iconst (v := 0) hx hb dX1_age_47 (by decide) ?_
        refine sp_zst hx hb hK hP hD hS 3 2 rfl rfl (8 * a + k) rfl (by omega) (by decide) rfl dX1_age_48 (fun H_4 locs hP hD hS => ?_)
        have hP : va_P (dC, dI) spCl (wM h0 q d pr la gm gr (upd (sp_aget tc (8 * a) k) (8 * a + k) 0) ch hf hr hc ce) H_4 := hP
        have hD : va_D A (wM h0 q d pr la gm gr (upd (sp_aget tc (8 * a) k) (8 * a + k) 0) ch hf hr hc ce) := hD
        have hP : va_P (dC, dI) spCl (wM h0 q d pr la gm gr (sp_aget tc (8 * a) (k + 1)) ch hf hr hc ce) H_4 := hP
        have hD : va_D A (wM h0 q d pr la gm gr (sp_aget tc (8 * a) (k + 1)) ch hf hr hc ce) := hD
        refine lv_iinc (v := (nI (k + 1))) (lv' := [(3, .int (nI (k + 1))), (2, .int (sp_agec tc (8 * a) (k + 1))), (1, .int (nI a)), (0, .ref h0)]) hx hb dX1_age_49 hl (k := 0) rfl (sp_inc k) (by decide) rfl (fun ls hl => ?_)
        refine lv_goto (tgt := 14) hx hb dX1_age_52 (by decide) ?_
        exact ih (k + 1) _ _ ls (by omega) (by omega) hP hD hS (lv_sub hl [0, 1, 2, 3] rfl)
      · refine lv_iinc (v := (sp_agec tc (8 * a) (k + 1))) (lv' := [(2, .int (sp_agec tc (8 * a) (k + 1))), (3, .int (nI k)), (1, .int (nI a)), (0, .ref h0)]) hx hb dX1_age_34 hl (k := 1) rfl ((sp_agec_1 c31).symm) (by decide) rfl (fun ls hl => ?_)
        refine lv_aload_n hx hb dX1_age_37 rfl (lv_at hl 3 rfl) ?_
        refine va_get (D := (dC, dI)) (ci := 1) (v := .ref (q 3)) (C := RX1) (T := TX1) (N := 10) hx hb hts in_X1 hown hK hP 0 rfl rfl 2 (by decide) (hts _ q133) (fun _ h9 => h9) rfl dX1_age_38 ?_
        refine lv_bipush (v := 8) hx hb dX1_age_41 (by decide) ?_
        refine lv_iload_n hx hb dX1_age_43 rfl (lv_at hl 2 rfl) ?_
        refine lv_imul hx hb dX1_age_44 ?_
        refine lv_iload_n hx hb dX1_age_45 rfl (lv_at hl 1 rfl) ?_
        refine lv_iadd hx hb dX1_age_46 ?_
        refine lv_topi (fun v_5 ev_5 => ?_)
        obtain rfl : v_5 = nI (8 * a + k) := ev_5.trans (sp_ixI a k)
        refine lv_iconst (v := 0) hx hb dX1_age_47 (by decide) ?_
        refine sp_zst hx hb hK hP hD hS 3 2 rfl rfl (8 * a + k) rfl (by omega) (by decide) rfl dX1_age_48 (fun H_6 locs hP hD hS => ?_)
        have hP : va_P (dC, dI) spCl (wM h0 q d pr la gm gr (upd (sp_aget tc (8 * a) k) (8 * a + k) 0) ch hf hr hc ce) H_6 := hP
        have hD : va_D A (wM h0 q d pr la gm gr (upd (sp_aget tc (8 * a) k) (8 * a + k) 0) ch hf hr hc ce) := hD
        have hP : va_P (dC, dI) spCl (wM h0 q d pr la gm gr (sp_aget tc (8 * a) (k + 1)) ch hf hr hc ce) H_6 := hP
        have hD : va_D A (wM h0 q d pr la gm gr (sp_aget tc (8 * a) (k + 1)) ch hf hr hc ce) := hD
        refine lv_iinc (v := (nI (k + 1))) (lv' := [(3, .int (nI (k + 1))), (2, .int (sp_agec tc (8 * a) (k + 1))), (1, .int (nI a)), (0, .ref h0)]) hx hb dX1_age_49 hl (k := 1) rfl (sp_inc k) (by decide) rfl (fun ls hl => ?_)
        refine lv_goto (tgt := 14) hx hb dX1_age_52 (by decide) ?_
        exact ih (k + 1) _ _ ls (by omega) (by omega) hP hD hS (lv_sub hl [0, 1, 2, 3] rfl)
set_option maxHeartbeats 4000000 in
set_option maxRecDepth 100000 in
theorem mM_age (l : Launch) (dC : Nat → ClassId) (dI : Nat → Nat → Nat) (h0 : Nat) (q : Nat → Nat) (d : Nat → ClassId) (sz : Nat) (pr la : Int32) (gm gr tc ch hf hr hc ce : FN) (x1 : Int32) (hT : sp_IT pr gm ch hf hc) : Met l yX1_age (ws_ yX1_age cX1_age 4 (some .int)) ({ frames := 1, cells := 0, slots := 0, locals := 21 }) (va_Pc [.ref h0, .int x1] (fun U => U.heap.size = sz ∧ va_P (dC, dI) spCl (wM h0 q d pr la gm gr tc ch hf hr hc ce) U.heap ∧ va_K (dC, dI) spCl (tyM d) U ∧ va_D (fun _ => True) (wM h0 q d pr la gm gr tc ch hf hr hc ce))) (va_Qi (fun (r : Int32) (u : PT) => (r, u) = sp_age pr la gm gr tc ch hf hr hc ce x1) (fun u t => BMu dC dI (va_A (wM h0 q d pr la gm gr tc ch hf hr hc ce) sz) h0 q d u t) (va_A (wM h0 q d pr la gm gr tc ch hf hr hc ce) sz)) 0 0 (va_A (wM h0 q d pr la gm gr tc ch hf hr hc ce) sz) := by
  refine Met.ofW (cc := cX1_age) (maxL := 4) (ret := (some .int)) (by decide) rfl ?_
  intro p ev s m args below meth c s₁ B hml hv
  obtain ⟨rfl, hsz, hP, hK, hD0⟩ := hv
  have hx := B.exec
  have hb := B.bytes
  have hret := B.returns
  have hts := atoms_spec (ws := (ws_ yX1_age cX1_age 4 (some .int))) B.pre
  have hts : ∀ w ∈ lw_all, w.before _ s = true := fun w h => hts w (List.mem_cons_of_mem _ h)
  have hown : s.vm.findClass RX1 = some m.cls := findClass_of_methodNamed B.named
  have hlocks := B.notSynchronized
  subst hsz
  have hD := hD0.self (sz := s.heap.size)
  generalize hAe : va_A (wM h0 q d pr la gm gr tc ch hf hr hc ce) s.heap.size = A at hD ⊢
  have hA : ∀ q : Nat, s.heap.size ≤ q → A q := fun q h => by rw [← hAe]; exact Or.inr h
  have hS : va_S A s.heap s.heap [] := va_S.rf
  have hl := lv_entry ([.ref h0, .int x1]) (n := 4) (Nat.le_of_ble_eq_true rfl)
  rw [lg_entry_eq]
  generalize (lg_sl ([.ref h0, .int x1]) ++ List.replicate (4 - (lg_sl ([.ref h0, .int x1])).length) Slot.unset).toArray = ls at hl ⊢
  have hl : lv_has ls 4 [(0, .ref h0), (1, .int x1)] := hl
  refine lv_iload_n hx hb dX1_age_0 rfl (lv_at hl 1 rfl) ?_
  refine lv_iconst (v := 1) hx hb dX1_age_1 (by decide) ?_
  have hFc := va_free (wc := []) hD hS hA [] rfl
  refine va_calli (va_runS (As := [.int x1, .int 1]) (rest := []) ⟨hx, hb, hml, hown, hts⟩ (mM_outside l x1 1 s.heap.size) (va_cwS 2 hts (lw_S q166 q167 q6 q168) rfl rfl rfl (by decide +kernel) ⟨Nat.le_of_ble_eq_true rfl, Nat.le_of_ble_eq_true rfl⟩) ⟨fun a U g mk q => ⟨q.1, q.2⟩, fun U hU hW => ⟨rfl, congrArg Array.size hU⟩⟩ rfl rfl hl.1 rfl (lv_room (Nat.le_of_ble_eq_true rfl)) dX1_age_2 ⟨Nat.le_of_ble_eq_true rfl, Nat.le_of_ble_eq_true rfl⟩) hS (fun q _ h => hFc q h) hFc (fun r1 u t H_1 locs ht hvm hw_r1 hB hz1 hk1 hS => ?_)
  have hP := sp_keep hP hk1
  refine lv_if_eq (tgt := 10) hx hb dX1_age_5 (by decide) (fun c5 => ?_) (fun c5 => ?_)
  · obtain ⟨a, ha, rfl⟩ := sp_nb1 (sp_pou0 hw_r1 c5)
    refine lv_iconst (v := 0) hx hb dX1_age_10 (by decide) ?_
    refine lv_istore_n (lv' := [(2, .int 0), (0, .ref h0), (1, .int (nI a))]) hx hb dX1_age_11 rfl hl (by decide) rfl (fun ls hl => ?_)
    refine lv_iconst (v := 0) hx hb dX1_age_12 (by decide) ?_
    refine lv_istore_n (lv' := [(3, .int 0), (2, .int 0), (0, .ref h0), (1, .int (nI a))]) hx hb dX1_age_13 rfl hl (by decide) rfl (fun ls hl => ?_)
    refine lpM_age (tc := tc) hx hb hts hown hK ha (fun H1 locs ls hP hD hS hl => ?_) 9 0 _ _ ls (by omega) (by omega) hP hD hS (lv_sub hl [0, 1, 3, 2] rfl)
    refine lv_iload_n hx hb dX1_age_55 rfl (lv_at hl 1 rfl) ?_
    exact W.iret (v := (sp_agec tc (8 * a) 8)) hx hb hret (fun t ht hW => ⟨⟨sp_agec tc (8 * a) 8, (pr, la, gm, gr, sp_aget tc (8 * a) 8, ch, hf, hr, hc, ce), rfl, sp_age_g ha, by rw [ht]; exact hP, va_K.moved hW.alike hK, hD⟩, hS.F ht⟩) hS.2.2 dX1_age_56
  · refine lv_iconst (v := -1) hx hb dX1_age_8 (by decide) ?_
    exact W.iret (v := (-1)) hx hb hret (fun t ht hW => ⟨⟨-1, (pr, la, gm, gr, tc, ch, hf, hr, hc, ce), rfl, sp_age_b (sp_pou1 hw_r1 c5), by rw [ht]; exact hP, va_K.moved hW.alike hK, hD⟩, hS.F ht⟩) hS.2.2 dX1_age_9
end
section
set_option maxHeartbeats 4000000 in
set_option maxRecDepth 100000 in
theorem lpX_init1 {p : Program} {l : Launch} {ev : Env} {R : Room} {s : State} {m : MethodId} {args : Array Value} {below : List Frame} {meth : Method} {c : Code} {cells slots : Nat} {Q : State → Prop} {dC : Nat → ClassId} {dI : Nat → Nat → Nat} {h0 : Nat} {q : Nat → Nat} {d : Nat → ClassId} {A : Nat → Prop} (hx : p.tables.exec = Jvm.exec) (hb : c.code = cX0_init) (hts : ∀ w ∈ lw_all, w.before args s = true) (hown : s.vm.findClass RX0 = some m.cls) (hK : va_K (dC, dI) spCl (tyX d) s)
    (kk : ∀ (H : Heap) (locs : List Loc) (ls : Array Slot), va_P (dC, dI) spCl (wX h0 q d 0 0 (sp_pre 16) sp_z sp_z sp_z sp_z sp_z sp_z sp_z (sp_pre 16) sp_z sp_z sp_z sp_z) H → va_D A (wX h0 q d 0 0 (sp_pre 16) sp_z sp_z sp_z sp_z sp_z sp_z sp_z (sp_pre 16) sp_z sp_z sp_z sp_z) → va_S A s.heap H locs → lv_has ls 2 [(1, .int (nI 16)), (0, .ref h0)] → W p l ev R s m args below meth c H locs cells slots Q (F0 m 136 ls [])) :
    ∀ (n i : Nat) (H : Heap) (locs : List Loc) (ls : Array Slot), 16 < i + n → i ≤ 16 → va_P (dC, dI) spCl (wX h0 q d 0 0 (sp_pre i) sp_z sp_z sp_z sp_z sp_z sp_z sp_z (sp_pre i) sp_z sp_z sp_z sp_z) H → va_D A (wX h0 q d 0 0 (sp_pre i) sp_z sp_z sp_z sp_z sp_z sp_z sp_z (sp_pre i) sp_z sp_z sp_z sp_z) → va_S A s.heap H locs → lv_has ls 2 [(1, .int (nI i)), (0, .ref h0)] → W p l ev R s m args below meth c H locs cells slots Q (F0 m 110 ls []) := by
  intro n
  induction n with
  | zero =>
    intro i H locs ls h1 h2
    exact absurd h1 (by omega)
  | succ n ih =>
    intro i H locs ls hn hi hP hD hS hl
    refine lv_iload_n hx hb dX0_init_110 rfl (lv_at hl 0 rfl) ?_
    refine lv_bipush (v := 16) hx hb dX0_init_111 (by decide) ?_
    refine lv_icmp_ge (tgt := 136) hx hb dX0_init_113 (by decide) (fun c113 => ?_) (fun c113 => ?_)
    · have hi8 : i = 16 := by
        have := (nI_leI (a := 16) (b := i) (by omega) (by omega)).mp c113
        omega
      subst hi8
      exact kk _ _ ls hP hD hS (lv_sub hl [0, 1] rfl)
    · have hi8 : i < 16 := by
        rcases Nat.lt_or_ge i 16 with z | z
        · exact z
        · exact absurd (nI_le (a := 16) (b := i) z (by omega)) c113
      refine lv_aload_n hx hb dX0_init_116 rfl (lv_at hl 1 rfl) ?_
      refine va_get (D := (dC, dI)) (ci := 0) (v := .ref (q 1)) (C := RX0) (T := TX0) (N := 15) hx hb hts in_X0 hown hK hP 0 rfl rfl 1 (by decide) (hts _ q16) (fun _ h9 => h9) rfl dX0_init_117 ?_
      refine lv_iload_n hx hb dX0_init_120 rfl (lv_at hl 0 rfl) ?_
      refine lv_iconst (v := -1) hx hb dX0_init_121 (by decide) ?_
      refine sp_ist hx hb hK hP hD hS 1 0 rfl rfl i rfl (by omega) (by decide) dX0_init_122 (fun H_1 locs hP hD hS => ?_)
      have hP : va_P (dC, dI) spCl (wX h0 q d 0 0 (upd (sp_pre i) i (-1)) sp_z sp_z sp_z sp_z sp_z sp_z sp_z (sp_pre i) sp_z sp_z sp_z sp_z) H_1 := hP
      have hD : va_D A (wX h0 q d 0 0 (upd (sp_pre i) i (-1)) sp_z sp_z sp_z sp_z sp_z sp_z sp_z (sp_pre i) sp_z sp_z sp_z sp_z) := hD
      rw [sp_pre_s] at hP hD
      have hP : va_P (dC, dI) spCl (wX h0 q d 0 0 (sp_pre (i + 1)) sp_z sp_z sp_z sp_z sp_z sp_z sp_z (sp_pre i) sp_z sp_z sp_z sp_z) H_1 := hP
      have hD : va_D A (wX h0 q d 0 0 (sp_pre (i + 1)) sp_z sp_z sp_z sp_z sp_z sp_z sp_z (sp_pre i) sp_z sp_z sp_z sp_z) := hD
      refine lv_aload_n hx hb dX0_init_123 rfl (lv_at hl 1 rfl) ?_
      refine va_get (D := (dC, dI)) (ci := 0) (v := .ref (q 9)) (C := RX0) (T := TX0) (N := 15) hx hb hts in_X0 hown hK hP 0 rfl rfl 10 (by decide) (hts _ q25) (fun _ h9 => h9) rfl dX0_init_124 ?_
      refine lv_iload_n hx hb dX0_init_127 rfl (lv_at hl 0 rfl) ?_
      refine lv_iconst (v := -1) hx hb dX0_init_128 (by decide) ?_
      refine sp_ist hx hb hK hP hD hS 9 8 rfl rfl i rfl (by omega) (by decide) dX0_init_129 (fun H_2 locs hP hD hS => ?_)
      have hP : va_P (dC, dI) spCl (wX h0 q d 0 0 (sp_pre (i + 1)) sp_z sp_z sp_z sp_z sp_z sp_z sp_z (upd (sp_pre i) i (-1)) sp_z sp_z sp_z sp_z) H_2 := hP
      have hD : va_D A (wX h0 q d 0 0 (sp_pre (i + 1)) sp_z sp_z sp_z sp_z sp_z sp_z sp_z (upd (sp_pre i) i (-1)) sp_z sp_z sp_z sp_z) := hD
      rw [sp_pre_s] at hP hD
      have hP : va_P (dC, dI) spCl (wX h0 q d 0 0 (sp_pre (i + 1)) sp_z sp_z sp_z sp_z sp_z sp_z sp_z (sp_pre (i + 1)) sp_z sp_z sp_z sp_z) H_2 := hP
      have hD : va_D A (wX h0 q d 0 0 (sp_pre (i + 1)) sp_z sp_z sp_z sp_z sp_z sp_z sp_z (sp_pre (i + 1)) sp_z sp_z sp_z sp_z) := hD
      refine lv_iinc (v := (nI (i + 1))) (lv' := [(1, .int (nI (i + 1))), (0, .ref h0)]) hx hb dX0_init_130 hl (k := 0) rfl (sp_inc i) (by decide) rfl (fun ls hl => ?_)
      refine lv_goto (tgt := 110) hx hb dX0_init_133 (by decide) ?_
      exact ih (i + 1) _ _ ls (by omega) (by omega) hP hD hS (lv_sub hl [0, 1] rfl)
set_option maxHeartbeats 4000000 in
set_option maxRecDepth 100000 in
theorem lpX_init2 {p : Program} {l : Launch} {ev : Env} {R : Room} {s : State} {m : MethodId} {args : Array Value} {below : List Frame} {meth : Method} {c : Code} {cells slots : Nat} {Q : State → Prop} {dC : Nat → ClassId} {dI : Nat → Nat → Nat} {h0 : Nat} {q : Nat → Nat} {d : Nat → ClassId} {A : Nat → Prop} (hx : p.tables.exec = Jvm.exec) (hb : c.code = cX0_init) (hts : ∀ w ∈ lw_all, w.before args s = true) (hown : s.vm.findClass RX0 = some m.cls) (hK : va_K (dC, dI) spCl (tyX d) s)
    (kk : ∀ (H : Heap) (locs : List Loc) (ls : Array Slot), va_P (dC, dI) spCl (wX h0 q d 0 0 (sp_pre 16) sp_z sp_z sp_z (sp_pre 8) sp_z sp_z sp_z (sp_pre 16) sp_z sp_z (sp_pre 8) sp_z) H → va_D A (wX h0 q d 0 0 (sp_pre 16) sp_z sp_z sp_z (sp_pre 8) sp_z sp_z sp_z (sp_pre 16) sp_z sp_z (sp_pre 8) sp_z) → va_S A s.heap H locs → lv_has ls 2 [(1, .int (nI 8)), (0, .ref h0)] → W p l ev R s m args below meth c H locs cells slots Q (F0 m 164 ls [])) :
    ∀ (n i : Nat) (H : Heap) (locs : List Loc) (ls : Array Slot), 8 < i + n → i ≤ 8 → va_P (dC, dI) spCl (wX h0 q d 0 0 (sp_pre 16) sp_z sp_z sp_z (sp_pre i) sp_z sp_z sp_z (sp_pre 16) sp_z sp_z (sp_pre i) sp_z) H → va_D A (wX h0 q d 0 0 (sp_pre 16) sp_z sp_z sp_z (sp_pre i) sp_z sp_z sp_z (sp_pre 16) sp_z sp_z (sp_pre i) sp_z) → va_S A s.heap H locs → lv_has ls 2 [(1, .int (nI i)), (0, .ref h0)] → W p l ev R s m args below meth c H locs cells slots Q (F0 m 138 ls []) := by
  intro n
  induction n with
  | zero =>
    intro i H locs ls h1 h2
    exact absurd h1 (by omega)
  | succ n ih =>
    intro i H locs ls hn hi hP hD hS hl
    refine lv_iload_n hx hb dX0_init_138 rfl (lv_at hl 0 rfl) ?_
    refine lv_bipush (v := 8) hx hb dX0_init_139 (by decide) ?_
    refine lv_icmp_ge (tgt := 164) hx hb dX0_init_141 (by decide) (fun c141 => ?_) (fun c141 => ?_)
    · have hi8 : i = 8 := by
        have := (nI_leI (a := 8) (b := i) (by omega) (by omega)).mp c141
        omega
      subst hi8
      exact kk _ _ ls hP hD hS (lv_sub hl [0, 1] rfl)
    · have hi8 : i < 8 := by
        rcases Nat.lt_or_ge i 8 with z | z
        · exact z
        · exact absurd (nI_le (a := 8) (b := i) z (by omega)) c141
      refine lv_aload_n hx hb dX0_init_144 rfl (lv_at hl 1 rfl) ?_
      refine va_get (D := (dC, dI)) (ci := 0) (v := .ref (q 5)) (C := RX0) (T := TX0) (N := 15) hx hb hts in_X0 hown hK hP 0 rfl rfl 5 (by decide) (hts _ q20) (fun _ h9 => h9) rfl dX0_init_145 ?_
      refine lv_iload_n hx hb dX0_init_148 rfl (lv_at hl 0 rfl) ?_
      refine lv_iconst (v := -1) hx hb dX0_init_149 (by decide) ?_
      refine sp_ist hx hb hK hP hD hS 5 4 rfl rfl i rfl (by omega) (by decide) dX0_init_150 (fun H_1 locs hP hD hS => ?_)
      have hP : va_P (dC, dI) spCl (wX h0 q d 0 0 (sp_pre 16) sp_z sp_z sp_z (upd (sp_pre i) i (-1)) sp_z sp_z sp_z (sp_pre 16) sp_z sp_z (sp_pre i) sp_z) H_1 := hP
      have hD : va_D A (wX h0 q d 0 0 (sp_pre 16) sp_z sp_z sp_z (upd (sp_pre i) i (-1)) sp_z sp_z sp_z (sp_pre 16) sp_z sp_z (sp_pre i) sp_z) := hD
      rw [sp_pre_s] at hP hD
      have hP : va_P (dC, dI) spCl (wX h0 q d 0 0 (sp_pre 16) sp_z sp_z sp_z (sp_pre (i + 1)) sp_z sp_z sp_z (sp_pre 16) sp_z sp_z (sp_pre i) sp_z) H_1 := hP
      have hD : va_D A (wX h0 q d 0 0 (sp_pre 16) sp_z sp_z sp_z (sp_pre (i + 1)) sp_z sp_z sp_z (sp_pre 16) sp_z sp_z (sp_pre i) sp_z) := hD
      refine lv_aload_n hx hb dX0_init_151 rfl (lv_at hl 1 rfl) ?_
      refine va_get (D := (dC, dI)) (ci := 0) (v := .ref (q 12)) (C := RX0) (T := TX0) (N := 15) hx hb hts in_X0 hown hK hP 0 rfl rfl 13 (by decide) (hts _ q28) (fun _ h9 => h9) rfl dX0_init_152 ?_
      refine lv_iload_n hx hb dX0_init_155 rfl (lv_at hl 0 rfl) ?_
      refine lv_iconst (v := -1) hx hb dX0_init_156 (by decide) ?_
      refine sp_ist hx hb hK hP hD hS 12 11 rfl rfl i rfl (by omega) (by decide) dX0_init_157 (fun H_2 locs hP hD hS => ?_)
      have hP : va_P (dC, dI) spCl (wX h0 q d 0 0 (sp_pre 16) sp_z sp_z sp_z (sp_pre (i + 1)) sp_z sp_z sp_z (sp_pre 16) sp_z sp_z (upd (sp_pre i) i (-1)) sp_z) H_2 := hP
      have hD : va_D A (wX h0 q d 0 0 (sp_pre 16) sp_z sp_z sp_z (sp_pre (i + 1)) sp_z sp_z sp_z (sp_pre 16) sp_z sp_z (upd (sp_pre i) i (-1)) sp_z) := hD
      rw [sp_pre_s] at hP hD
      have hP : va_P (dC, dI) spCl (wX h0 q d 0 0 (sp_pre 16) sp_z sp_z sp_z (sp_pre (i + 1)) sp_z sp_z sp_z (sp_pre 16) sp_z sp_z (sp_pre (i + 1)) sp_z) H_2 := hP
      have hD : va_D A (wX h0 q d 0 0 (sp_pre 16) sp_z sp_z sp_z (sp_pre (i + 1)) sp_z sp_z sp_z (sp_pre 16) sp_z sp_z (sp_pre (i + 1)) sp_z) := hD
      refine lv_iinc (v := (nI (i + 1))) (lv' := [(1, .int (nI (i + 1))), (0, .ref h0)]) hx hb dX0_init_158 hl (k := 0) rfl (sp_inc i) (by decide) rfl (fun ls hl => ?_)
      refine lv_goto (tgt := 138) hx hb dX0_init_161 (by decide) ?_
      exact ih (i + 1) _ _ ls (by omega) (by omega) hP hD hS (lv_sub hl [0, 1] rfl)
set_option maxHeartbeats 4000000 in
set_option maxRecDepth 100000 in
theorem mX_init (l : Launch) (dC : Nat → ClassId) (dI : Nat → Nat → Nat) (h0 : Nat) (sz : Nat) : Met l yX0_init (ws_ yX0_init cX0_init 2 none) ({ frames := 1, cells := 13, slots := 192, locals := 12 }) (va_Pc [.ref h0] (fun U => U.heap.size = sz ∧ va_P (dC, dI) spCl ([(h0, .inr (0, [.int 0, .null, .null, .null, .null, .null, .null, .null, .null, .int 0, .null, .null, .null, .null, .null]))]) U.heap ∧ va_K (dC, dI) spCl ([]) U ∧ va_D (fun _ => True) ([(h0, .inr (0, [.int 0, .null, .null, .null, .null, .null, .null, .null, .null, .int 0, .null, .null, .null, .null, .null]))]))) (va_Qv (fun (u : Unit) => True) (fun u t => ∃ (q : Nat → Nat) (d : Nat → ClassId), BX dC dI (va_A ([(h0, .inr (0, [.int 0, .null, .null, .null, .null, .null, .null, .null, .null, .int 0, .null, .null, .null, .null, .null]))]) sz) h0 q d 0 0 (sp_pre 16) sp_z sp_z sp_z (sp_pre 8) sp_z sp_z sp_z (sp_pre 16) sp_z sp_z (sp_pre 8) sp_z t) (va_A ([(h0, .inr (0, [.int 0, .null, .null, .null, .null, .null, .null, .null, .null, .int 0, .null, .null, .null, .null, .null]))]) sz)) 13 192 (va_A ([(h0, .inr (0, [.int 0, .null, .null, .null, .null, .null, .null, .null, .null, .int 0, .null, .null, .null, .null, .null]))]) sz) := by
  refine Met.ofW (cc := cX0_init) (maxL := 2) (ret := none) (by decide) rfl ?_
  intro p ev s m args below meth c s₁ B hml hv
  obtain ⟨rfl, hsz, hP, hK, hD0⟩ := hv
  have hx := B.exec
  have hb := B.bytes
  have hret := B.returns
  have hts := atoms_spec (ws := (ws_ yX0_init cX0_init 2 none)) B.pre
  have hts : ∀ w ∈ lw_all, w.before _ s = true := fun w h => hts w (List.mem_cons_of_mem _ h)
  have hown : s.vm.findClass RX0 = some m.cls := findClass_of_methodNamed B.named
  have hlocks := B.notSynchronized
  have hin : meth.name = "<init>" := (name_of_methodNamed B.named B.method).1
  subst hsz
  have hD := hD0.self (sz := s.heap.size)
  generalize hAe : va_A ([(h0, .inr (0, [.int 0, .null, .null, .null, .null, .null, .null, .null, .null, .int 0, .null, .null, .null, .null, .null]))]) s.heap.size = A at hD ⊢
  have hA : ∀ q : Nat, s.heap.size ≤ q → A q := fun q h => by rw [← hAe]; exact Or.inr h
  have hS : va_S A s.heap s.heap [] := va_S.rf
  have hl := lv_entry ([.ref h0]) (n := 2) (Nat.le_of_ble_eq_true rfl)
  rw [lg_entry_eq]
  generalize (lg_sl ([.ref h0]) ++ List.replicate (2 - (lg_sl ([.ref h0])).length) Slot.unset).toArray = ls at hl ⊢
  have hl : lv_has ls 2 [(0, .ref h0)] := hl
  refine lv_aload_n hx hb dX0_init_0 rfl (lv_at hl 0 rfl) ?_
  refine W.objInit hx hb hown (hts _ q12) (hts _ q13) (hts _ q14) rfl (by rw [hml]; exact hl.1) rfl dX0_init_1 (Nat.le_of_ble_eq_true rfl) (Nat.le_of_ble_eq_true rfl) ?_
  refine W.eq (g2 := F0 m 4 ls []) rfl ?_
  refine lv_aload_n hx hb dX0_init_4 rfl (lv_at hl 0 rfl) ?_
  refine lv_bipush (v := 16) hx hb dX0_init_5 (by decide) ?_
  refine va_newa (atype := .int) (ty := .int) hx hb (hts _ q61) rfl hK hP hD hS hA (N' := 16) (a0 := (16, .inl sp_z)) (fun _ => rfl) (by decide) (by decide) (by decide) (Nat.le_of_ble_eq_true rfl) (Nat.le_of_ble_eq_true rfl) dX0_init_7 (fun q1 d1 H_1 hK hP hD hS => ?_)
  refine W.widen (k := 1) (n := 16) (Nat.le_of_ble_eq_true rfl) (Nat.le_of_ble_eq_true rfl) ?_
  refine va_putF (D := (dC, dI)) (ci := 0) (v := .ref q1) (ty := .array .int) (C := RX0) (T := TX0) (N := 15) hx hb hts in_X0 tyX0 tyX0_ok nmX0 hown hK hP hD hS 0 rfl rfl 1 (by decide) (hts _ q16) (fun _ h9 => h9) rfl hin rfl (by decide +kernel) rfl rfl (Nat.le_of_ble_eq_true rfl) dX0_init_9 (fun H_2 locs hP hD hS => ?_)
  have hP : va_P (dC, dI) spCl ([(h0, .inr (0, [.int 0, .ref q1, .null, .null, .null, .null, .null, .null, .null, .int 0, .null, .null, .null, .null, .null])), (q1, .inl (d1, 16, .inl sp_z))]) H_2 := hP
  have hD : va_D A ([(h0, .inr (0, [.int 0, .ref q1, .null, .null, .null, .null, .null, .null, .null, .int 0, .null, .null, .null, .null, .null])), (q1, .inl (d1, 16, .inl sp_z))]) := hD
  have hK : va_K (dC, dI) spCl [(d1, .int)] s := hK
  refine lv_aload_n hx hb dX0_init_12 rfl (lv_at hl 0 rfl) ?_
  refine lv_bipush (v := 16) hx hb dX0_init_13 (by decide) ?_
  refine va_newa (atype := .int) (ty := .int) hx hb (hts _ q61) rfl hK hP hD hS hA (N' := 16) (a0 := (16, .inl sp_z)) (fun _ => rfl) (by decide) (by decide) (by decide) (Nat.le_of_ble_eq_true rfl) (Nat.le_of_ble_eq_true rfl) dX0_init_15 (fun q2 d2 H_3 hK hP hD hS => ?_)
  refine W.widen (k := 2) (n := 32) (Nat.le_of_ble_eq_true rfl) (Nat.le_of_ble_eq_true rfl) ?_
  refine va_putF (D := (dC, dI)) (ci := 0) (v := .ref q2) (ty := .array .int) (C := RX0) (T := TX0) (N := 15) hx hb hts in_X0 tyX0 tyX0_ok nmX0 hown hK hP hD hS 0 rfl rfl 2 (by decide) (hts _ q17) (fun _ h9 => h9) rfl hin rfl (by decide +kernel) rfl rfl (Nat.le_of_ble_eq_true rfl) dX0_init_17 (fun H_4 locs hP hD hS => ?_)
  have hP : va_P (dC, dI) spCl ([(h0, .inr (0, [.int 0, .ref q1, .ref q2, .null, .null, .null, .null, .null, .null, .int 0, .null, .null, .null, .null, .null])), (q1, .inl (d1, 16, .inl sp_z)), (q2, .inl (d2, 16, .inl sp_z))]) H_4 := hP
  have hD : va_D A ([(h0, .inr (0, [.int 0, .ref q1, .ref q2, .null, .null, .null, .null, .null, .null, .int 0, .null, .null, .null, .null, .null])), (q1, .inl (d1, 16, .inl sp_z)), (q2, .inl (d2, 16, .inl sp_z))]) := hD
  have hK : va_K (dC, dI) spCl [(d1, .int), (d2, .int)] s := hK
  refine lv_aload_n hx hb dX0_init_20 rfl (lv_at hl 0 rfl) ?_
  refine lv_bipush (v := 16) hx hb dX0_init_21 (by decide) ?_
  refine va_newa (atype := .boolean) (ty := .boolean) hx hb (hts _ q62) rfl hK hP hD hS hA (N' := 16) (a0 := (16, .inl sp_z)) (fun _ => rfl) (by decide) (by decide) (by decide) (Nat.le_of_ble_eq_true rfl) (Nat.le_of_ble_eq_true rfl) dX0_init_23 (fun q3 d3 H_5 hK hP hD hS => ?_)
  refine W.widen (k := 3) (n := 48) (Nat.le_of_ble_eq_true rfl) (Nat.le_of_ble_eq_true rfl) ?_
  refine va_putF (D := (dC, dI)) (ci := 0) (v := .ref q3) (ty := .array .boolean) (C := RX0) (T := TX0) (N := 15) hx hb hts in_X0 tyX0 tyX0_ok nmX0 hown hK hP hD hS 0 rfl rfl 3 (by decide) (hts _ q18) (fun _ h9 => h9) rfl hin rfl (by decide +kernel) rfl rfl (Nat.le_of_ble_eq_true rfl) dX0_init_25 (fun H_6 locs hP hD hS => ?_)
  have hP : va_P (dC, dI) spCl ([(h0, .inr (0, [.int 0, .ref q1, .ref q2, .ref q3, .null, .null, .null, .null, .null, .int 0, .null, .null, .null, .null, .null])), (q1, .inl (d1, 16, .inl sp_z)), (q2, .inl (d2, 16, .inl sp_z)), (q3, .inl (d3, 16, .inl sp_z))]) H_6 := hP
  have hD : va_D A ([(h0, .inr (0, [.int 0, .ref q1, .ref q2, .ref q3, .null, .null, .null, .null, .null, .int 0, .null, .null, .null, .null, .null])), (q1, .inl (d1, 16, .inl sp_z)), (q2, .inl (d2, 16, .inl sp_z)), (q3, .inl (d3, 16, .inl sp_z))]) := hD
  have hK : va_K (dC, dI) spCl [(d1, .int), (d2, .int), (d3, .boolean)] s := hK
  refine lv_aload_n hx hb dX0_init_28 rfl (lv_at hl 0 rfl) ?_
  refine lv_bipush (v := 16) hx hb dX0_init_29 (by decide) ?_
  refine va_newa (atype := .boolean) (ty := .boolean) hx hb (hts _ q62) rfl hK hP hD hS hA (N' := 16) (a0 := (16, .inl sp_z)) (fun _ => rfl) (by decide) (by decide) (by decide) (Nat.le_of_ble_eq_true rfl) (Nat.le_of_ble_eq_true rfl) dX0_init_31 (fun q4 d4 H_7 hK hP hD hS => ?_)
  refine W.widen (k := 4) (n := 64) (Nat.le_of_ble_eq_true rfl) (Nat.le_of_ble_eq_true rfl) ?_
  refine va_putF (D := (dC, dI)) (ci := 0) (v := .ref q4) (ty := .array .boolean) (C := RX0) (T := TX0) (N := 15) hx hb hts in_X0 tyX0 tyX0_ok nmX0 hown hK hP hD hS 0 rfl rfl 4 (by decide) (hts _ q19) (fun _ h9 => h9) rfl hin rfl (by decide +kernel) rfl rfl (Nat.le_of_ble_eq_true rfl) dX0_init_33 (fun H_8 locs hP hD hS => ?_)
  have hP : va_P (dC, dI) spCl ([(h0, .inr (0, [.int 0, .ref q1, .ref q2, .ref q3, .ref q4, .null, .null, .null, .null, .int 0, .null, .null, .null, .null, .null])), (q1, .inl (d1, 16, .inl sp_z)), (q2, .inl (d2, 16, .inl sp_z)), (q3, .inl (d3, 16, .inl sp_z)), (q4, .inl (d4, 16, .inl sp_z))]) H_8 := hP
  have hD : va_D A ([(h0, .inr (0, [.int 0, .ref q1, .ref q2, .ref q3, .ref q4, .null, .null, .null, .null, .int 0, .null, .null, .null, .null, .null])), (q1, .inl (d1, 16, .inl sp_z)), (q2, .inl (d2, 16, .inl sp_z)), (q3, .inl (d3, 16, .inl sp_z)), (q4, .inl (d4, 16, .inl sp_z))]) := hD
  have hK : va_K (dC, dI) spCl [(d1, .int), (d2, .int), (d3, .boolean), (d4, .boolean)] s := hK
  refine lv_aload_n hx hb dX0_init_36 rfl (lv_at hl 0 rfl) ?_
  refine lv_bipush (v := 8) hx hb dX0_init_37 (by decide) ?_
  refine va_newa (atype := .int) (ty := .int) hx hb (hts _ q61) rfl hK hP hD hS hA (N' := 8) (a0 := (8, .inl sp_z)) (fun _ => rfl) (by decide) (by decide) (by decide) (Nat.le_of_ble_eq_true rfl) (Nat.le_of_ble_eq_true rfl) dX0_init_39 (fun q5 d5 H_9 hK hP hD hS => ?_)
  refine W.widen (k := 5) (n := 72) (Nat.le_of_ble_eq_true rfl) (Nat.le_of_ble_eq_true rfl) ?_
  refine va_putF (D := (dC, dI)) (ci := 0) (v := .ref q5) (ty := .array .int) (C := RX0) (T := TX0) (N := 15) hx hb hts in_X0 tyX0 tyX0_ok nmX0 hown hK hP hD hS 0 rfl rfl 5 (by decide) (hts _ q20) (fun _ h9 => h9) rfl hin rfl (by decide +kernel) rfl rfl (Nat.le_of_ble_eq_true rfl) dX0_init_41 (fun H_10 locs hP hD hS => ?_)
  have hP : va_P (dC, dI) spCl ([(h0, .inr (0, [.int 0, .ref q1, .ref q2, .ref q3, .ref q4, .ref q5, .null, .null, .null, .int 0, .null, .null, .null, .null, .null])), (q1, .inl (d1, 16, .inl sp_z)), (q2, .inl (d2, 16, .inl sp_z)), (q3, .inl (d3, 16, .inl sp_z)), (q4, .inl (d4, 16, .inl sp_z)), (q5, .inl (d5, 8, .inl sp_z))]) H_10 := hP
  have hD : va_D A ([(h0, .inr (0, [.int 0, .ref q1, .ref q2, .ref q3, .ref q4, .ref q5, .null, .null, .null, .int 0, .null, .null, .null, .null, .null])), (q1, .inl (d1, 16, .inl sp_z)), (q2, .inl (d2, 16, .inl sp_z)), (q3, .inl (d3, 16, .inl sp_z)), (q4, .inl (d4, 16, .inl sp_z)), (q5, .inl (d5, 8, .inl sp_z))]) := hD
  have hK : va_K (dC, dI) spCl [(d1, .int), (d2, .int), (d3, .boolean), (d4, .boolean), (d5, .int)] s := hK
  refine lv_aload_n hx hb dX0_init_44 rfl (lv_at hl 0 rfl) ?_
  refine lv_bipush (v := 8) hx hb dX0_init_45 (by decide) ?_
  refine va_newa (atype := .int) (ty := .int) hx hb (hts _ q61) rfl hK hP hD hS hA (N' := 8) (a0 := (8, .inl sp_z)) (fun _ => rfl) (by decide) (by decide) (by decide) (Nat.le_of_ble_eq_true rfl) (Nat.le_of_ble_eq_true rfl) dX0_init_47 (fun q6 d6 H_11 hK hP hD hS => ?_)
  refine W.widen (k := 6) (n := 80) (Nat.le_of_ble_eq_true rfl) (Nat.le_of_ble_eq_true rfl) ?_
  refine va_putF (D := (dC, dI)) (ci := 0) (v := .ref q6) (ty := .array .int) (C := RX0) (T := TX0) (N := 15) hx hb hts in_X0 tyX0 tyX0_ok nmX0 hown hK hP hD hS 0 rfl rfl 6 (by decide) (hts _ q21) (fun _ h9 => h9) rfl hin rfl (by decide +kernel) rfl rfl (Nat.le_of_ble_eq_true rfl) dX0_init_49 (fun H_12 locs hP hD hS => ?_)
  have hP : va_P (dC, dI) spCl ([(h0, .inr (0, [.int 0, .ref q1, .ref q2, .ref q3, .ref q4, .ref q5, .ref q6, .null, .null, .int 0, .null, .null, .null, .null, .null])), (q1, .inl (d1, 16, .inl sp_z)), (q2, .inl (d2, 16, .inl sp_z)), (q3, .inl (d3, 16, .inl sp_z)), (q4, .inl (d4, 16, .inl sp_z)), (q5, .inl (d5, 8, .inl sp_z)), (q6, .inl (d6, 8, .inl sp_z))]) H_12 := hP
  have hD : va_D A ([(h0, .inr (0, [.int 0, .ref q1, .ref q2, .ref q3, .ref q4, .ref q5, .ref q6, .null, .null, .int 0, .null, .null, .null, .null, .null])), (q1, .inl (d1, 16, .inl sp_z)), (q2, .inl (d2, 16, .inl sp_z)), (q3, .inl (d3, 16, .inl sp_z)), (q4, .inl (d4, 16, .inl sp_z)), (q5, .inl (d5, 8, .inl sp_z)), (q6, .inl (d6, 8, .inl sp_z))]) := hD
  have hK : va_K (dC, dI) spCl [(d1, .int), (d2, .int), (d3, .boolean), (d4, .boolean), (d5, .int), (d6, .int)] s := hK
  refine lv_aload_n hx hb dX0_init_52 rfl (lv_at hl 0 rfl) ?_
  refine lv_bipush (v := 8) hx hb dX0_init_53 (by decide) ?_
  refine va_newa (atype := .boolean) (ty := .boolean) hx hb (hts _ q62) rfl hK hP hD hS hA (N' := 8) (a0 := (8, .inl sp_z)) (fun _ => rfl) (by decide) (by decide) (by decide) (Nat.le_of_ble_eq_true rfl) (Nat.le_of_ble_eq_true rfl) dX0_init_55 (fun q7 d7 H_13 hK hP hD hS => ?_)
  refine W.widen (k := 7) (n := 88) (Nat.le_of_ble_eq_true rfl) (Nat.le_of_ble_eq_true rfl) ?_
  refine va_putF (D := (dC, dI)) (ci := 0) (v := .ref q7) (ty := .array .boolean) (C := RX0) (T := TX0) (N := 15) hx hb hts in_X0 tyX0 tyX0_ok nmX0 hown hK hP hD hS 0 rfl rfl 7 (by decide) (hts _ q22) (fun _ h9 => h9) rfl hin rfl (by decide +kernel) rfl rfl (Nat.le_of_ble_eq_true rfl) dX0_init_57 (fun H_14 locs hP hD hS => ?_)
  have hP : va_P (dC, dI) spCl ([(h0, .inr (0, [.int 0, .ref q1, .ref q2, .ref q3, .ref q4, .ref q5, .ref q6, .ref q7, .null, .int 0, .null, .null, .null, .null, .null])), (q1, .inl (d1, 16, .inl sp_z)), (q2, .inl (d2, 16, .inl sp_z)), (q3, .inl (d3, 16, .inl sp_z)), (q4, .inl (d4, 16, .inl sp_z)), (q5, .inl (d5, 8, .inl sp_z)), (q6, .inl (d6, 8, .inl sp_z)), (q7, .inl (d7, 8, .inl sp_z))]) H_14 := hP
  have hD : va_D A ([(h0, .inr (0, [.int 0, .ref q1, .ref q2, .ref q3, .ref q4, .ref q5, .ref q6, .ref q7, .null, .int 0, .null, .null, .null, .null, .null])), (q1, .inl (d1, 16, .inl sp_z)), (q2, .inl (d2, 16, .inl sp_z)), (q3, .inl (d3, 16, .inl sp_z)), (q4, .inl (d4, 16, .inl sp_z)), (q5, .inl (d5, 8, .inl sp_z)), (q6, .inl (d6, 8, .inl sp_z)), (q7, .inl (d7, 8, .inl sp_z))]) := hD
  have hK : va_K (dC, dI) spCl [(d1, .int), (d2, .int), (d3, .boolean), (d4, .boolean), (d5, .int), (d6, .int), (d7, .boolean)] s := hK
  refine lv_aload_n hx hb dX0_init_60 rfl (lv_at hl 0 rfl) ?_
  refine lv_bipush (v := 32) hx hb dX0_init_61 (by decide) ?_
  refine va_newa (atype := .int) (ty := .int) hx hb (hts _ q61) rfl hK hP hD hS hA (N' := 32) (a0 := (32, .inl sp_z)) (fun _ => rfl) (by decide) (by decide) (by decide) (Nat.le_of_ble_eq_true rfl) (Nat.le_of_ble_eq_true rfl) dX0_init_63 (fun q8 d8 H_15 hK hP hD hS => ?_)
  refine W.widen (k := 8) (n := 120) (Nat.le_of_ble_eq_true rfl) (Nat.le_of_ble_eq_true rfl) ?_
  refine va_putF (D := (dC, dI)) (ci := 0) (v := .ref q8) (ty := .array .int) (C := RX0) (T := TX0) (N := 15) hx hb hts in_X0 tyX0 tyX0_ok nmX0 hown hK hP hD hS 0 rfl rfl 8 (by decide) (hts _ q23) (fun _ h9 => h9) rfl hin rfl (by decide +kernel) rfl rfl (Nat.le_of_ble_eq_true rfl) dX0_init_65 (fun H_16 locs hP hD hS => ?_)
  have hP : va_P (dC, dI) spCl ([(h0, .inr (0, [.int 0, .ref q1, .ref q2, .ref q3, .ref q4, .ref q5, .ref q6, .ref q7, .ref q8, .int 0, .null, .null, .null, .null, .null])), (q1, .inl (d1, 16, .inl sp_z)), (q2, .inl (d2, 16, .inl sp_z)), (q3, .inl (d3, 16, .inl sp_z)), (q4, .inl (d4, 16, .inl sp_z)), (q5, .inl (d5, 8, .inl sp_z)), (q6, .inl (d6, 8, .inl sp_z)), (q7, .inl (d7, 8, .inl sp_z)), (q8, .inl (d8, 32, .inl sp_z))]) H_16 := hP
  have hD : va_D A ([(h0, .inr (0, [.int 0, .ref q1, .ref q2, .ref q3, .ref q4, .ref q5, .ref q6, .ref q7, .ref q8, .int 0, .null, .null, .null, .null, .null])), (q1, .inl (d1, 16, .inl sp_z)), (q2, .inl (d2, 16, .inl sp_z)), (q3, .inl (d3, 16, .inl sp_z)), (q4, .inl (d4, 16, .inl sp_z)), (q5, .inl (d5, 8, .inl sp_z)), (q6, .inl (d6, 8, .inl sp_z)), (q7, .inl (d7, 8, .inl sp_z)), (q8, .inl (d8, 32, .inl sp_z))]) := hD
  have hK : va_K (dC, dI) spCl [(d1, .int), (d2, .int), (d3, .boolean), (d4, .boolean), (d5, .int), (d6, .int), (d7, .boolean), (d8, .int)] s := hK
  refine lv_aload_n hx hb dX0_init_68 rfl (lv_at hl 0 rfl) ?_
  refine lv_bipush (v := 16) hx hb dX0_init_69 (by decide) ?_
  refine va_newa (atype := .int) (ty := .int) hx hb (hts _ q61) rfl hK hP hD hS hA (N' := 16) (a0 := (16, .inl sp_z)) (fun _ => rfl) (by decide) (by decide) (by decide) (Nat.le_of_ble_eq_true rfl) (Nat.le_of_ble_eq_true rfl) dX0_init_71 (fun q9 d9 H_17 hK hP hD hS => ?_)
  refine W.widen (k := 9) (n := 136) (Nat.le_of_ble_eq_true rfl) (Nat.le_of_ble_eq_true rfl) ?_
  refine va_putF (D := (dC, dI)) (ci := 0) (v := .ref q9) (ty := .array .int) (C := RX0) (T := TX0) (N := 15) hx hb hts in_X0 tyX0 tyX0_ok nmX0 hown hK hP hD hS 0 rfl rfl 10 (by decide) (hts _ q25) (fun _ h9 => h9) rfl hin rfl (by decide +kernel) rfl rfl (Nat.le_of_ble_eq_true rfl) dX0_init_73 (fun H_18 locs hP hD hS => ?_)
  have hP : va_P (dC, dI) spCl ([(h0, .inr (0, [.int 0, .ref q1, .ref q2, .ref q3, .ref q4, .ref q5, .ref q6, .ref q7, .ref q8, .int 0, .ref q9, .null, .null, .null, .null])), (q1, .inl (d1, 16, .inl sp_z)), (q2, .inl (d2, 16, .inl sp_z)), (q3, .inl (d3, 16, .inl sp_z)), (q4, .inl (d4, 16, .inl sp_z)), (q5, .inl (d5, 8, .inl sp_z)), (q6, .inl (d6, 8, .inl sp_z)), (q7, .inl (d7, 8, .inl sp_z)), (q8, .inl (d8, 32, .inl sp_z)), (q9, .inl (d9, 16, .inl sp_z))]) H_18 := hP
  have hD : va_D A ([(h0, .inr (0, [.int 0, .ref q1, .ref q2, .ref q3, .ref q4, .ref q5, .ref q6, .ref q7, .ref q8, .int 0, .ref q9, .null, .null, .null, .null])), (q1, .inl (d1, 16, .inl sp_z)), (q2, .inl (d2, 16, .inl sp_z)), (q3, .inl (d3, 16, .inl sp_z)), (q4, .inl (d4, 16, .inl sp_z)), (q5, .inl (d5, 8, .inl sp_z)), (q6, .inl (d6, 8, .inl sp_z)), (q7, .inl (d7, 8, .inl sp_z)), (q8, .inl (d8, 32, .inl sp_z)), (q9, .inl (d9, 16, .inl sp_z))]) := hD
  have hK : va_K (dC, dI) spCl [(d1, .int), (d2, .int), (d3, .boolean), (d4, .boolean), (d5, .int), (d6, .int), (d7, .boolean), (d8, .int), (d9, .int)] s := hK
  refine lv_aload_n hx hb dX0_init_76 rfl (lv_at hl 0 rfl) ?_
  refine lv_bipush (v := 16) hx hb dX0_init_77 (by decide) ?_
  refine va_newa (atype := .int) (ty := .int) hx hb (hts _ q61) rfl hK hP hD hS hA (N' := 16) (a0 := (16, .inl sp_z)) (fun _ => rfl) (by decide) (by decide) (by decide) (Nat.le_of_ble_eq_true rfl) (Nat.le_of_ble_eq_true rfl) dX0_init_79 (fun q10 d10 H_19 hK hP hD hS => ?_)
  refine W.widen (k := 10) (n := 152) (Nat.le_of_ble_eq_true rfl) (Nat.le_of_ble_eq_true rfl) ?_
  refine va_putF (D := (dC, dI)) (ci := 0) (v := .ref q10) (ty := .array .int) (C := RX0) (T := TX0) (N := 15) hx hb hts in_X0 tyX0 tyX0_ok nmX0 hown hK hP hD hS 0 rfl rfl 11 (by decide) (hts _ q26) (fun _ h9 => h9) rfl hin rfl (by decide +kernel) rfl rfl (Nat.le_of_ble_eq_true rfl) dX0_init_81 (fun H_20 locs hP hD hS => ?_)
  have hP : va_P (dC, dI) spCl ([(h0, .inr (0, [.int 0, .ref q1, .ref q2, .ref q3, .ref q4, .ref q5, .ref q6, .ref q7, .ref q8, .int 0, .ref q9, .ref q10, .null, .null, .null])), (q1, .inl (d1, 16, .inl sp_z)), (q2, .inl (d2, 16, .inl sp_z)), (q3, .inl (d3, 16, .inl sp_z)), (q4, .inl (d4, 16, .inl sp_z)), (q5, .inl (d5, 8, .inl sp_z)), (q6, .inl (d6, 8, .inl sp_z)), (q7, .inl (d7, 8, .inl sp_z)), (q8, .inl (d8, 32, .inl sp_z)), (q9, .inl (d9, 16, .inl sp_z)), (q10, .inl (d10, 16, .inl sp_z))]) H_20 := hP
  have hD : va_D A ([(h0, .inr (0, [.int 0, .ref q1, .ref q2, .ref q3, .ref q4, .ref q5, .ref q6, .ref q7, .ref q8, .int 0, .ref q9, .ref q10, .null, .null, .null])), (q1, .inl (d1, 16, .inl sp_z)), (q2, .inl (d2, 16, .inl sp_z)), (q3, .inl (d3, 16, .inl sp_z)), (q4, .inl (d4, 16, .inl sp_z)), (q5, .inl (d5, 8, .inl sp_z)), (q6, .inl (d6, 8, .inl sp_z)), (q7, .inl (d7, 8, .inl sp_z)), (q8, .inl (d8, 32, .inl sp_z)), (q9, .inl (d9, 16, .inl sp_z)), (q10, .inl (d10, 16, .inl sp_z))]) := hD
  have hK : va_K (dC, dI) spCl [(d1, .int), (d2, .int), (d3, .boolean), (d4, .boolean), (d5, .int), (d6, .int), (d7, .boolean), (d8, .int), (d9, .int), (d10, .int)] s := hK
  refine lv_aload_n hx hb dX0_init_84 rfl (lv_at hl 0 rfl) ?_
  refine lv_bipush (v := 16) hx hb dX0_init_85 (by decide) ?_
  refine va_newa (atype := .int) (ty := .int) hx hb (hts _ q61) rfl hK hP hD hS hA (N' := 16) (a0 := (16, .inl sp_z)) (fun _ => rfl) (by decide) (by decide) (by decide) (Nat.le_of_ble_eq_true rfl) (Nat.le_of_ble_eq_true rfl) dX0_init_87 (fun q11 d11 H_21 hK hP hD hS => ?_)
  refine W.widen (k := 11) (n := 168) (Nat.le_of_ble_eq_true rfl) (Nat.le_of_ble_eq_true rfl) ?_
  refine va_putF (D := (dC, dI)) (ci := 0) (v := .ref q11) (ty := .array .int) (C := RX0) (T := TX0) (N := 15) hx hb hts in_X0 tyX0 tyX0_ok nmX0 hown hK hP hD hS 0 rfl rfl 12 (by decide) (hts _ q27) (fun _ h9 => h9) rfl hin rfl (by decide +kernel) rfl rfl (Nat.le_of_ble_eq_true rfl) dX0_init_89 (fun H_22 locs hP hD hS => ?_)
  have hP : va_P (dC, dI) spCl ([(h0, .inr (0, [.int 0, .ref q1, .ref q2, .ref q3, .ref q4, .ref q5, .ref q6, .ref q7, .ref q8, .int 0, .ref q9, .ref q10, .ref q11, .null, .null])), (q1, .inl (d1, 16, .inl sp_z)), (q2, .inl (d2, 16, .inl sp_z)), (q3, .inl (d3, 16, .inl sp_z)), (q4, .inl (d4, 16, .inl sp_z)), (q5, .inl (d5, 8, .inl sp_z)), (q6, .inl (d6, 8, .inl sp_z)), (q7, .inl (d7, 8, .inl sp_z)), (q8, .inl (d8, 32, .inl sp_z)), (q9, .inl (d9, 16, .inl sp_z)), (q10, .inl (d10, 16, .inl sp_z)), (q11, .inl (d11, 16, .inl sp_z))]) H_22 := hP
  have hD : va_D A ([(h0, .inr (0, [.int 0, .ref q1, .ref q2, .ref q3, .ref q4, .ref q5, .ref q6, .ref q7, .ref q8, .int 0, .ref q9, .ref q10, .ref q11, .null, .null])), (q1, .inl (d1, 16, .inl sp_z)), (q2, .inl (d2, 16, .inl sp_z)), (q3, .inl (d3, 16, .inl sp_z)), (q4, .inl (d4, 16, .inl sp_z)), (q5, .inl (d5, 8, .inl sp_z)), (q6, .inl (d6, 8, .inl sp_z)), (q7, .inl (d7, 8, .inl sp_z)), (q8, .inl (d8, 32, .inl sp_z)), (q9, .inl (d9, 16, .inl sp_z)), (q10, .inl (d10, 16, .inl sp_z)), (q11, .inl (d11, 16, .inl sp_z))]) := hD
  have hK : va_K (dC, dI) spCl [(d1, .int), (d2, .int), (d3, .boolean), (d4, .boolean), (d5, .int), (d6, .int), (d7, .boolean), (d8, .int), (d9, .int), (d10, .int), (d11, .int)] s := hK
  refine lv_aload_n hx hb dX0_init_92 rfl (lv_at hl 0 rfl) ?_
  refine lv_bipush (v := 8) hx hb dX0_init_93 (by decide) ?_
  refine va_newa (atype := .int) (ty := .int) hx hb (hts _ q61) rfl hK hP hD hS hA (N' := 8) (a0 := (8, .inl sp_z)) (fun _ => rfl) (by decide) (by decide) (by decide) (Nat.le_of_ble_eq_true rfl) (Nat.le_of_ble_eq_true rfl) dX0_init_95 (fun q12 d12 H_23 hK hP hD hS => ?_)
  refine W.widen (k := 12) (n := 176) (Nat.le_of_ble_eq_true rfl) (Nat.le_of_ble_eq_true rfl) ?_
  refine va_putF (D := (dC, dI)) (ci := 0) (v := .ref q12) (ty := .array .int) (C := RX0) (T := TX0) (N := 15) hx hb hts in_X0 tyX0 tyX0_ok nmX0 hown hK hP hD hS 0 rfl rfl 13 (by decide) (hts _ q28) (fun _ h9 => h9) rfl hin rfl (by decide +kernel) rfl rfl (Nat.le_of_ble_eq_true rfl) dX0_init_97 (fun H_24 locs hP hD hS => ?_)
  have hP : va_P (dC, dI) spCl ([(h0, .inr (0, [.int 0, .ref q1, .ref q2, .ref q3, .ref q4, .ref q5, .ref q6, .ref q7, .ref q8, .int 0, .ref q9, .ref q10, .ref q11, .ref q12, .null])), (q1, .inl (d1, 16, .inl sp_z)), (q2, .inl (d2, 16, .inl sp_z)), (q3, .inl (d3, 16, .inl sp_z)), (q4, .inl (d4, 16, .inl sp_z)), (q5, .inl (d5, 8, .inl sp_z)), (q6, .inl (d6, 8, .inl sp_z)), (q7, .inl (d7, 8, .inl sp_z)), (q8, .inl (d8, 32, .inl sp_z)), (q9, .inl (d9, 16, .inl sp_z)), (q10, .inl (d10, 16, .inl sp_z)), (q11, .inl (d11, 16, .inl sp_z)), (q12, .inl (d12, 8, .inl sp_z))]) H_24 := hP
  have hD : va_D A ([(h0, .inr (0, [.int 0, .ref q1, .ref q2, .ref q3, .ref q4, .ref q5, .ref q6, .ref q7, .ref q8, .int 0, .ref q9, .ref q10, .ref q11, .ref q12, .null])), (q1, .inl (d1, 16, .inl sp_z)), (q2, .inl (d2, 16, .inl sp_z)), (q3, .inl (d3, 16, .inl sp_z)), (q4, .inl (d4, 16, .inl sp_z)), (q5, .inl (d5, 8, .inl sp_z)), (q6, .inl (d6, 8, .inl sp_z)), (q7, .inl (d7, 8, .inl sp_z)), (q8, .inl (d8, 32, .inl sp_z)), (q9, .inl (d9, 16, .inl sp_z)), (q10, .inl (d10, 16, .inl sp_z)), (q11, .inl (d11, 16, .inl sp_z)), (q12, .inl (d12, 8, .inl sp_z))]) := hD
  have hK : va_K (dC, dI) spCl [(d1, .int), (d2, .int), (d3, .boolean), (d4, .boolean), (d5, .int), (d6, .int), (d7, .boolean), (d8, .int), (d9, .int), (d10, .int), (d11, .int), (d12, .int)] s := hK
  refine lv_aload_n hx hb dX0_init_100 rfl (lv_at hl 0 rfl) ?_
  refine lv_bipush (v := 16) hx hb dX0_init_101 (by decide) ?_
  refine va_newa (atype := .int) (ty := .int) hx hb (hts _ q61) rfl hK hP hD hS hA (N' := 16) (a0 := (16, .inl sp_z)) (fun _ => rfl) (by decide) (by decide) (by decide) (Nat.le_of_ble_eq_true rfl) (Nat.le_of_ble_eq_true rfl) dX0_init_103 (fun q13 d13 H_25 hK hP hD hS => ?_)
  refine W.widen (k := 13) (n := 192) (Nat.le_of_ble_eq_true rfl) (Nat.le_of_ble_eq_true rfl) ?_
  refine va_putF (D := (dC, dI)) (ci := 0) (v := .ref q13) (ty := .array .int) (C := RX0) (T := TX0) (N := 15) hx hb hts in_X0 tyX0 tyX0_ok nmX0 hown hK hP hD hS 0 rfl rfl 14 (by decide) (hts _ q29) (fun _ h9 => h9) rfl hin rfl (by decide +kernel) rfl rfl (Nat.le_of_ble_eq_true rfl) dX0_init_105 (fun H_26 locs hP hD hS => ?_)
  have hP : va_P (dC, dI) spCl ([(h0, .inr (0, [.int 0, .ref q1, .ref q2, .ref q3, .ref q4, .ref q5, .ref q6, .ref q7, .ref q8, .int 0, .ref q9, .ref q10, .ref q11, .ref q12, .ref q13])), (q1, .inl (d1, 16, .inl sp_z)), (q2, .inl (d2, 16, .inl sp_z)), (q3, .inl (d3, 16, .inl sp_z)), (q4, .inl (d4, 16, .inl sp_z)), (q5, .inl (d5, 8, .inl sp_z)), (q6, .inl (d6, 8, .inl sp_z)), (q7, .inl (d7, 8, .inl sp_z)), (q8, .inl (d8, 32, .inl sp_z)), (q9, .inl (d9, 16, .inl sp_z)), (q10, .inl (d10, 16, .inl sp_z)), (q11, .inl (d11, 16, .inl sp_z)), (q12, .inl (d12, 8, .inl sp_z)), (q13, .inl (d13, 16, .inl sp_z))]) H_26 := hP
  have hD : va_D A ([(h0, .inr (0, [.int 0, .ref q1, .ref q2, .ref q3, .ref q4, .ref q5, .ref q6, .ref q7, .ref q8, .int 0, .ref q9, .ref q10, .ref q11, .ref q12, .ref q13])), (q1, .inl (d1, 16, .inl sp_z)), (q2, .inl (d2, 16, .inl sp_z)), (q3, .inl (d3, 16, .inl sp_z)), (q4, .inl (d4, 16, .inl sp_z)), (q5, .inl (d5, 8, .inl sp_z)), (q6, .inl (d6, 8, .inl sp_z)), (q7, .inl (d7, 8, .inl sp_z)), (q8, .inl (d8, 32, .inl sp_z)), (q9, .inl (d9, 16, .inl sp_z)), (q10, .inl (d10, 16, .inl sp_z)), (q11, .inl (d11, 16, .inl sp_z)), (q12, .inl (d12, 8, .inl sp_z)), (q13, .inl (d13, 16, .inl sp_z))]) := hD
  have hK : va_K (dC, dI) spCl [(d1, .int), (d2, .int), (d3, .boolean), (d4, .boolean), (d5, .int), (d6, .int), (d7, .boolean), (d8, .int), (d9, .int), (d10, .int), (d11, .int), (d12, .int), (d13, .int)] s := hK
  refine lv_iconst (v := 0) hx hb dX0_init_108 (by decide) ?_
  refine lv_istore_n (lv' := [(1, .int 0), (0, .ref h0)]) hx hb dX0_init_109 rfl hl (by decide) rfl (fun ls hl => ?_)
  obtain ⟨q, rfl, rfl, rfl, rfl, rfl, rfl, rfl, rfl, rfl, rfl, rfl, rfl, rfl⟩ := sp_fun13 q1 q2 q3 q4 q5 q6 q7 q8 q9 q10 q11 q12 q13
  obtain ⟨d, rfl, rfl, rfl, rfl, rfl, rfl, rfl, rfl, rfl, rfl, rfl, rfl, rfl⟩ := sp_fun13 d1 d2 d3 d4 d5 d6 d7 d8 d9 d10 d11 d12 d13
  have hP : va_P (dC, dI) spCl (wX h0 q d 0 0 sp_z sp_z sp_z sp_z sp_z sp_z sp_z sp_z sp_z sp_z sp_z sp_z sp_z) H_26 := hP
  have hD : va_D A (wX h0 q d 0 0 sp_z sp_z sp_z sp_z sp_z sp_z sp_z sp_z sp_z sp_z sp_z sp_z sp_z) := hD
  have hK : va_K (dC, dI) spCl (tyX d) s := hK
  refine lpX_init1 hx hb hts hown hK (fun H1 locs ls hP hD hS hl => ?_) 17 0 _ _ ls (by omega) (by omega) (by rw [sp_pre_0]; exact hP) (by rw [sp_pre_0]; exact hD) hS (lv_sub hl [0, 1] rfl)
  refine lv_iconst (v := 0) hx hb dX0_init_136 (by decide) ?_
  refine lv_istore_n (lv' := [(1, .int 0), (0, .ref h0)]) hx hb dX0_init_137 rfl hl (by decide) rfl (fun ls hl => ?_)
  refine lpX_init2 hx hb hts hown hK (fun H2 locs ls hP hD hS hl => ?_) 9 0 _ _ ls (by omega) (by omega) (by rw [sp_pre_0]; exact hP) (by rw [sp_pre_0]; exact hD) hS (lv_sub hl [0, 1] rfl)
  exact W.vret hx hb hret (fun t ht hW => ⟨⟨(), rfl, trivial, q, d, by rw [ht]; exact hP, va_K.moved hW.alike hK, hD⟩, hS.F ht⟩) hS.2.2 dX0_init_164
set_option maxHeartbeats 4000000 in
set_option maxRecDepth 100000 in
theorem lpM_init1 {p : Program} {l : Launch} {ev : Env} {R : Room} {s : State} {m : MethodId} {args : Array Value} {below : List Frame} {meth : Method} {c : Code} {cells slots : Nat} {Q : State → Prop} {dC : Nat → ClassId} {dI : Nat → Nat → Nat} {h0 : Nat} {q : Nat → Nat} {d : Nat → ClassId} {A : Nat → Prop} (hx : p.tables.exec = Jvm.exec) (hb : c.code = cX1_init) (hts : ∀ w ∈ lw_all, w.before args s = true) (hown : s.vm.findClass RX1 = some m.cls) (hK : va_K (dC, dI) spCl (tyM d) s)
    (kk : ∀ (H : Heap) (locs : List Loc) (ls : Array Slot), va_P (dC, dI) spCl (wM h0 q d 0 0 (sp_pre 16) sp_z sp_z sp_z sp_z sp_z sp_z sp_z) H → va_D A (wM h0 q d 0 0 (sp_pre 16) sp_z sp_z sp_z sp_z sp_z sp_z sp_z) → va_S A s.heap H locs → lv_has ls 2 [(1, .int (nI 16)), (0, .ref h0)] → W p l ev R s m args below meth c H locs cells slots Q (F0 m 89 ls [])) :
    ∀ (n i : Nat) (H : Heap) (locs : List Loc) (ls : Array Slot), 16 < i + n → i ≤ 16 → va_P (dC, dI) spCl (wM h0 q d 0 0 (sp_pre i) sp_z sp_z sp_z sp_z sp_z sp_z sp_z) H → va_D A (wM h0 q d 0 0 (sp_pre i) sp_z sp_z sp_z sp_z sp_z sp_z sp_z) → va_S A s.heap H locs → lv_has ls 2 [(1, .int (nI i)), (0, .ref h0)] → W p l ev R s m args below meth c H locs cells slots Q (F0 m 70 ls []) := by
  intro n
  induction n with
  | zero =>
    intro i H locs ls h1 h2
    exact absurd h1 (by omega)
  | succ n ih =>
    intro i H locs ls hn hi hP hD hS hl
    refine lv_iload_n hx hb dX1_init_70 rfl (lv_at hl 0 rfl) ?_
    refine lv_bipush (v := 16) hx hb dX1_init_71 (by decide) ?_
    refine lv_icmp_ge (tgt := 89) hx hb dX1_init_73 (by decide) (fun c73 => ?_) (fun c73 => ?_)
    · have hi8 : i = 16 := by
        have := (nI_leI (a := 16) (b := i) (by omega) (by omega)).mp c73
        omega
      subst hi8
      exact kk _ _ ls hP hD hS (lv_sub hl [0, 1] rfl)
    · have hi8 : i < 16 := by
        rcases Nat.lt_or_ge i 16 with z | z
        · exact z
        · exact absurd (nI_le (a := 16) (b := i) z (by omega)) c73
      refine lv_aload_n hx hb dX1_init_76 rfl (lv_at hl 1 rfl) ?_
      refine va_get (D := (dC, dI)) (ci := 1) (v := .ref (q 1)) (C := RX1) (T := TX1) (N := 10) hx hb hts in_X1 hown hK hP 0 rfl rfl 0 (by decide) (hts _ q131) (fun _ h9 => h9) rfl dX1_init_77 ?_
      refine lv_iload_n hx hb dX1_init_80 rfl (lv_at hl 0 rfl) ?_
      refine lv_iconst (v := -1) hx hb dX1_init_81 (by decide) ?_
      refine sp_ist hx hb hK hP hD hS 1 0 rfl rfl i rfl (by omega) (by decide) dX1_init_82 (fun H_1 locs hP hD hS => ?_)
      have hP : va_P (dC, dI) spCl (wM h0 q d 0 0 (upd (sp_pre i) i (-1)) sp_z sp_z sp_z sp_z sp_z sp_z sp_z) H_1 := hP
      have hD : va_D A (wM h0 q d 0 0 (upd (sp_pre i) i (-1)) sp_z sp_z sp_z sp_z sp_z sp_z sp_z) := hD
      rw [sp_pre_s] at hP hD
      have hP : va_P (dC, dI) spCl (wM h0 q d 0 0 (sp_pre (i + 1)) sp_z sp_z sp_z sp_z sp_z sp_z sp_z) H_1 := hP
      have hD : va_D A (wM h0 q d 0 0 (sp_pre (i + 1)) sp_z sp_z sp_z sp_z sp_z sp_z sp_z) := hD
      refine lv_iinc (v := (nI (i + 1))) (lv' := [(1, .int (nI (i + 1))), (0, .ref h0)]) hx hb dX1_init_83 hl (k := 0) rfl (sp_inc i) (by decide) rfl (fun ls hl => ?_)
      refine lv_goto (tgt := 70) hx hb dX1_init_86 (by decide) ?_
      exact ih (i + 1) _ _ ls (by omega) (by omega) hP hD hS (lv_sub hl [0, 1] rfl)
set_option maxHeartbeats 4000000 in
set_option maxRecDepth 100000 in
theorem lpM_init2 {p : Program} {l : Launch} {ev : Env} {R : Room} {s : State} {m : MethodId} {args : Array Value} {below : List Frame} {meth : Method} {c : Code} {cells slots : Nat} {Q : State → Prop} {dC : Nat → ClassId} {dI : Nat → Nat → Nat} {h0 : Nat} {q : Nat → Nat} {d : Nat → ClassId} {A : Nat → Prop} (hx : p.tables.exec = Jvm.exec) (hb : c.code = cX1_init) (hts : ∀ w ∈ lw_all, w.before args s = true) (hown : s.vm.findClass RX1 = some m.cls) (hK : va_K (dC, dI) spCl (tyM d) s)
    (kk : ∀ (H : Heap) (locs : List Loc) (ls : Array Slot), va_P (dC, dI) spCl (wM h0 q d 0 0 (sp_pre 16) sp_z sp_z sp_z (sp_pre 8) sp_z sp_z sp_z) H → va_D A (wM h0 q d 0 0 (sp_pre 16) sp_z sp_z sp_z (sp_pre 8) sp_z sp_z sp_z) → va_S A s.heap H locs → lv_has ls 2 [(1, .int (nI 8)), (0, .ref h0)] → W p l ev R s m args below meth c H locs cells slots Q (F0 m 110 ls [])) :
    ∀ (n i : Nat) (H : Heap) (locs : List Loc) (ls : Array Slot), 8 < i + n → i ≤ 8 → va_P (dC, dI) spCl (wM h0 q d 0 0 (sp_pre 16) sp_z sp_z sp_z (sp_pre i) sp_z sp_z sp_z) H → va_D A (wM h0 q d 0 0 (sp_pre 16) sp_z sp_z sp_z (sp_pre i) sp_z sp_z sp_z) → va_S A s.heap H locs → lv_has ls 2 [(1, .int (nI i)), (0, .ref h0)] → W p l ev R s m args below meth c H locs cells slots Q (F0 m 91 ls []) := by
  intro n
  induction n with
  | zero =>
    intro i H locs ls h1 h2
    exact absurd h1 (by omega)
  | succ n ih =>
    intro i H locs ls hn hi hP hD hS hl
    refine lv_iload_n hx hb dX1_init_91 rfl (lv_at hl 0 rfl) ?_
    refine lv_bipush (v := 8) hx hb dX1_init_92 (by decide) ?_
    refine lv_icmp_ge (tgt := 110) hx hb dX1_init_94 (by decide) (fun c94 => ?_) (fun c94 => ?_)
    · have hi8 : i = 8 := by
        have := (nI_leI (a := 8) (b := i) (by omega) (by omega)).mp c94
        omega
      subst hi8
      exact kk _ _ ls hP hD hS (lv_sub hl [0, 1] rfl)
    · have hi8 : i < 8 := by
        rcases Nat.lt_or_ge i 8 with z | z
        · exact z
        · exact absurd (nI_le (a := 8) (b := i) z (by omega)) c94
      refine lv_aload_n hx hb dX1_init_97 rfl (lv_at hl 1 rfl) ?_
      refine va_get (D := (dC, dI)) (ci := 1) (v := .ref (q 5)) (C := RX1) (T := TX1) (N := 10) hx hb hts in_X1 hown hK hP 0 rfl rfl 4 (by decide) (hts _ q135) (fun _ h9 => h9) rfl dX1_init_98 ?_
      refine lv_iload_n hx hb dX1_init_101 rfl (lv_at hl 0 rfl) ?_
      refine lv_iconst (v := -1) hx hb dX1_init_102 (by decide) ?_
      refine sp_ist hx hb hK hP hD hS 5 4 rfl rfl i rfl (by omega) (by decide) dX1_init_103 (fun H_1 locs hP hD hS => ?_)
      have hP : va_P (dC, dI) spCl (wM h0 q d 0 0 (sp_pre 16) sp_z sp_z sp_z (upd (sp_pre i) i (-1)) sp_z sp_z sp_z) H_1 := hP
      have hD : va_D A (wM h0 q d 0 0 (sp_pre 16) sp_z sp_z sp_z (upd (sp_pre i) i (-1)) sp_z sp_z sp_z) := hD
      rw [sp_pre_s] at hP hD
      have hP : va_P (dC, dI) spCl (wM h0 q d 0 0 (sp_pre 16) sp_z sp_z sp_z (sp_pre (i + 1)) sp_z sp_z sp_z) H_1 := hP
      have hD : va_D A (wM h0 q d 0 0 (sp_pre 16) sp_z sp_z sp_z (sp_pre (i + 1)) sp_z sp_z sp_z) := hD
      refine lv_iinc (v := (nI (i + 1))) (lv' := [(1, .int (nI (i + 1))), (0, .ref h0)]) hx hb dX1_init_104 hl (k := 0) rfl (sp_inc i) (by decide) rfl (fun ls hl => ?_)
      refine lv_goto (tgt := 91) hx hb dX1_init_107 (by decide) ?_
      exact ih (i + 1) _ _ ls (by omega) (by omega) hP hD hS (lv_sub hl [0, 1] rfl)
set_option maxHeartbeats 4000000 in
set_option maxRecDepth 100000 in
theorem mM_init (l : Launch) (dC : Nat → ClassId) (dI : Nat → Nat → Nat) (h0 : Nat) (sz : Nat) : Met l yX1_init (ws_ yX1_init cX1_init 2 none) ({ frames := 1, cells := 8, slots := 120, locals := 12 }) (va_Pc [.ref h0] (fun U => U.heap.size = sz ∧ va_P (dC, dI) spCl ([(h0, .inr (1, [.null, .null, .null, .null, .null, .null, .null, .null, .int 0, .int 0]))]) U.heap ∧ va_K (dC, dI) spCl ([]) U ∧ va_D (fun _ => True) ([(h0, .inr (1, [.null, .null, .null, .null, .null, .null, .null, .null, .int 0, .int 0]))]))) (va_Qv (fun (u : Unit) => True) (fun u t => ∃ (q : Nat → Nat) (d : Nat → ClassId), BM dC dI (va_A ([(h0, .inr (1, [.null, .null, .null, .null, .null, .null, .null, .null, .int 0, .int 0]))]) sz) h0 q d 0 0 (sp_pre 16) sp_z sp_z sp_z (sp_pre 8) sp_z sp_z sp_z t) (va_A ([(h0, .inr (1, [.null, .null, .null, .null, .null, .null, .null, .null, .int 0, .int 0]))]) sz)) 8 120 (va_A ([(h0, .inr (1, [.null, .null, .null, .null, .null, .null, .null, .null, .int 0, .int 0]))]) sz) := by
  refine Met.ofW (cc := cX1_init) (maxL := 2) (ret := none) (by decide) rfl ?_
  intro p ev s m args below meth c s₁ B hml hv
  obtain ⟨rfl, hsz, hP, hK, hD0⟩ := hv
  have hx := B.exec
  have hb := B.bytes
  have hret := B.returns
  have hts := atoms_spec (ws := (ws_ yX1_init cX1_init 2 none)) B.pre
  have hts : ∀ w ∈ lw_all, w.before _ s = true := fun w h => hts w (List.mem_cons_of_mem _ h)
  have hown : s.vm.findClass RX1 = some m.cls := findClass_of_methodNamed B.named
  have hlocks := B.notSynchronized
  have hin : meth.name = "<init>" := (name_of_methodNamed B.named B.method).1
  subst hsz
  have hD := hD0.self (sz := s.heap.size)
  generalize hAe : va_A ([(h0, .inr (1, [.null, .null, .null, .null, .null, .null, .null, .null, .int 0, .int 0]))]) s.heap.size = A at hD ⊢
  have hA : ∀ q : Nat, s.heap.size ≤ q → A q := fun q h => by rw [← hAe]; exact Or.inr h
  have hS : va_S A s.heap s.heap [] := va_S.rf
  have hl := lv_entry ([.ref h0]) (n := 2) (Nat.le_of_ble_eq_true rfl)
  rw [lg_entry_eq]
  generalize (lg_sl ([.ref h0]) ++ List.replicate (2 - (lg_sl ([.ref h0])).length) Slot.unset).toArray = ls at hl ⊢
  have hl : lv_has ls 2 [(0, .ref h0)] := hl
  refine lv_aload_n hx hb dX1_init_0 rfl (lv_at hl 0 rfl) ?_
  refine W.objInit hx hb hown (hts _ q130) (hts _ q13) (hts _ q14) rfl (by rw [hml]; exact hl.1) rfl dX1_init_1 (Nat.le_of_ble_eq_true rfl) (Nat.le_of_ble_eq_true rfl) ?_
  refine W.eq (g2 := F0 m 4 ls []) rfl ?_
  refine lv_aload_n hx hb dX1_init_4 rfl (lv_at hl 0 rfl) ?_
  refine lv_bipush (v := 16) hx hb dX1_init_5 (by decide) ?_
  refine va_newa (atype := .int) (ty := .int) hx hb (hts _ q61) rfl hK hP hD hS hA (N' := 16) (a0 := (16, .inl sp_z)) (fun _ => rfl) (by decide) (by decide) (by decide) (Nat.le_of_ble_eq_true rfl) (Nat.le_of_ble_eq_true rfl) dX1_init_7 (fun q1 d1 H_1 hK hP hD hS => ?_)
  refine W.widen (k := 1) (n := 16) (Nat.le_of_ble_eq_true rfl) (Nat.le_of_ble_eq_true rfl) ?_
  refine va_putF (D := (dC, dI)) (ci := 1) (v := .ref q1) (ty := .array .int) (C := RX1) (T := TX1) (N := 10) hx hb hts in_X1 tyX1 tyX1_ok nmX1 hown hK hP hD hS 0 rfl rfl 0 (by decide) (hts _ q131) (fun _ h9 => h9) rfl hin rfl (by decide +kernel) rfl rfl (Nat.le_of_ble_eq_true rfl) dX1_init_9 (fun H_2 locs hP hD hS => ?_)
  have hP : va_P (dC, dI) spCl ([(h0, .inr (1, [.ref q1, .null, .null, .null, .null, .null, .null, .null, .int 0, .int 0])), (q1, .inl (d1, 16, .inl sp_z))]) H_2 := hP
  have hD : va_D A ([(h0, .inr (1, [.ref q1, .null, .null, .null, .null, .null, .null, .null, .int 0, .int 0])), (q1, .inl (d1, 16, .inl sp_z))]) := hD
  have hK : va_K (dC, dI) spCl [(d1, .int)] s := hK
  refine lv_aload_n hx hb dX1_init_12 rfl (lv_at hl 0 rfl) ?_
  refine lv_bipush (v := 16) hx hb dX1_init_13 (by decide) ?_
  refine va_newa (atype := .int) (ty := .int) hx hb (hts _ q61) rfl hK hP hD hS hA (N' := 16) (a0 := (16, .inl sp_z)) (fun _ => rfl) (by decide) (by decide) (by decide) (Nat.le_of_ble_eq_true rfl) (Nat.le_of_ble_eq_true rfl) dX1_init_15 (fun q2 d2 H_3 hK hP hD hS => ?_)
  refine W.widen (k := 2) (n := 32) (Nat.le_of_ble_eq_true rfl) (Nat.le_of_ble_eq_true rfl) ?_
  refine va_putF (D := (dC, dI)) (ci := 1) (v := .ref q2) (ty := .array .int) (C := RX1) (T := TX1) (N := 10) hx hb hts in_X1 tyX1 tyX1_ok nmX1 hown hK hP hD hS 0 rfl rfl 1 (by decide) (hts _ q132) (fun _ h9 => h9) rfl hin rfl (by decide +kernel) rfl rfl (Nat.le_of_ble_eq_true rfl) dX1_init_17 (fun H_4 locs hP hD hS => ?_)
  have hP : va_P (dC, dI) spCl ([(h0, .inr (1, [.ref q1, .ref q2, .null, .null, .null, .null, .null, .null, .int 0, .int 0])), (q1, .inl (d1, 16, .inl sp_z)), (q2, .inl (d2, 16, .inl sp_z))]) H_4 := hP
  have hD : va_D A ([(h0, .inr (1, [.ref q1, .ref q2, .null, .null, .null, .null, .null, .null, .int 0, .int 0])), (q1, .inl (d1, 16, .inl sp_z)), (q2, .inl (d2, 16, .inl sp_z))]) := hD
  have hK : va_K (dC, dI) spCl [(d1, .int), (d2, .int)] s := hK
  refine lv_aload_n hx hb dX1_init_20 rfl (lv_at hl 0 rfl) ?_
  refine lv_bipush (v := 16) hx hb dX1_init_21 (by decide) ?_
  refine va_newa (atype := .boolean) (ty := .boolean) hx hb (hts _ q62) rfl hK hP hD hS hA (N' := 16) (a0 := (16, .inl sp_z)) (fun _ => rfl) (by decide) (by decide) (by decide) (Nat.le_of_ble_eq_true rfl) (Nat.le_of_ble_eq_true rfl) dX1_init_23 (fun q3 d3 H_5 hK hP hD hS => ?_)
  refine W.widen (k := 3) (n := 48) (Nat.le_of_ble_eq_true rfl) (Nat.le_of_ble_eq_true rfl) ?_
  refine va_putF (D := (dC, dI)) (ci := 1) (v := .ref q3) (ty := .array .boolean) (C := RX1) (T := TX1) (N := 10) hx hb hts in_X1 tyX1 tyX1_ok nmX1 hown hK hP hD hS 0 rfl rfl 2 (by decide) (hts _ q133) (fun _ h9 => h9) rfl hin rfl (by decide +kernel) rfl rfl (Nat.le_of_ble_eq_true rfl) dX1_init_25 (fun H_6 locs hP hD hS => ?_)
  have hP : va_P (dC, dI) spCl ([(h0, .inr (1, [.ref q1, .ref q2, .ref q3, .null, .null, .null, .null, .null, .int 0, .int 0])), (q1, .inl (d1, 16, .inl sp_z)), (q2, .inl (d2, 16, .inl sp_z)), (q3, .inl (d3, 16, .inl sp_z))]) H_6 := hP
  have hD : va_D A ([(h0, .inr (1, [.ref q1, .ref q2, .ref q3, .null, .null, .null, .null, .null, .int 0, .int 0])), (q1, .inl (d1, 16, .inl sp_z)), (q2, .inl (d2, 16, .inl sp_z)), (q3, .inl (d3, 16, .inl sp_z))]) := hD
  have hK : va_K (dC, dI) spCl [(d1, .int), (d2, .int), (d3, .boolean)] s := hK
  refine lv_aload_n hx hb dX1_init_28 rfl (lv_at hl 0 rfl) ?_
  refine lv_bipush (v := 16) hx hb dX1_init_29 (by decide) ?_
  refine va_newa (atype := .boolean) (ty := .boolean) hx hb (hts _ q62) rfl hK hP hD hS hA (N' := 16) (a0 := (16, .inl sp_z)) (fun _ => rfl) (by decide) (by decide) (by decide) (Nat.le_of_ble_eq_true rfl) (Nat.le_of_ble_eq_true rfl) dX1_init_31 (fun q4 d4 H_7 hK hP hD hS => ?_)
  refine W.widen (k := 4) (n := 64) (Nat.le_of_ble_eq_true rfl) (Nat.le_of_ble_eq_true rfl) ?_
  refine va_putF (D := (dC, dI)) (ci := 1) (v := .ref q4) (ty := .array .boolean) (C := RX1) (T := TX1) (N := 10) hx hb hts in_X1 tyX1 tyX1_ok nmX1 hown hK hP hD hS 0 rfl rfl 3 (by decide) (hts _ q134) (fun _ h9 => h9) rfl hin rfl (by decide +kernel) rfl rfl (Nat.le_of_ble_eq_true rfl) dX1_init_33 (fun H_8 locs hP hD hS => ?_)
  have hP : va_P (dC, dI) spCl ([(h0, .inr (1, [.ref q1, .ref q2, .ref q3, .ref q4, .null, .null, .null, .null, .int 0, .int 0])), (q1, .inl (d1, 16, .inl sp_z)), (q2, .inl (d2, 16, .inl sp_z)), (q3, .inl (d3, 16, .inl sp_z)), (q4, .inl (d4, 16, .inl sp_z))]) H_8 := hP
  have hD : va_D A ([(h0, .inr (1, [.ref q1, .ref q2, .ref q3, .ref q4, .null, .null, .null, .null, .int 0, .int 0])), (q1, .inl (d1, 16, .inl sp_z)), (q2, .inl (d2, 16, .inl sp_z)), (q3, .inl (d3, 16, .inl sp_z)), (q4, .inl (d4, 16, .inl sp_z))]) := hD
  have hK : va_K (dC, dI) spCl [(d1, .int), (d2, .int), (d3, .boolean), (d4, .boolean)] s := hK
  refine lv_aload_n hx hb dX1_init_36 rfl (lv_at hl 0 rfl) ?_
  refine lv_bipush (v := 8) hx hb dX1_init_37 (by decide) ?_
  refine va_newa (atype := .int) (ty := .int) hx hb (hts _ q61) rfl hK hP hD hS hA (N' := 8) (a0 := (8, .inl sp_z)) (fun _ => rfl) (by decide) (by decide) (by decide) (Nat.le_of_ble_eq_true rfl) (Nat.le_of_ble_eq_true rfl) dX1_init_39 (fun q5 d5 H_9 hK hP hD hS => ?_)
  refine W.widen (k := 5) (n := 72) (Nat.le_of_ble_eq_true rfl) (Nat.le_of_ble_eq_true rfl) ?_
  refine va_putF (D := (dC, dI)) (ci := 1) (v := .ref q5) (ty := .array .int) (C := RX1) (T := TX1) (N := 10) hx hb hts in_X1 tyX1 tyX1_ok nmX1 hown hK hP hD hS 0 rfl rfl 4 (by decide) (hts _ q135) (fun _ h9 => h9) rfl hin rfl (by decide +kernel) rfl rfl (Nat.le_of_ble_eq_true rfl) dX1_init_41 (fun H_10 locs hP hD hS => ?_)
  have hP : va_P (dC, dI) spCl ([(h0, .inr (1, [.ref q1, .ref q2, .ref q3, .ref q4, .ref q5, .null, .null, .null, .int 0, .int 0])), (q1, .inl (d1, 16, .inl sp_z)), (q2, .inl (d2, 16, .inl sp_z)), (q3, .inl (d3, 16, .inl sp_z)), (q4, .inl (d4, 16, .inl sp_z)), (q5, .inl (d5, 8, .inl sp_z))]) H_10 := hP
  have hD : va_D A ([(h0, .inr (1, [.ref q1, .ref q2, .ref q3, .ref q4, .ref q5, .null, .null, .null, .int 0, .int 0])), (q1, .inl (d1, 16, .inl sp_z)), (q2, .inl (d2, 16, .inl sp_z)), (q3, .inl (d3, 16, .inl sp_z)), (q4, .inl (d4, 16, .inl sp_z)), (q5, .inl (d5, 8, .inl sp_z))]) := hD
  have hK : va_K (dC, dI) spCl [(d1, .int), (d2, .int), (d3, .boolean), (d4, .boolean), (d5, .int)] s := hK
  refine lv_aload_n hx hb dX1_init_44 rfl (lv_at hl 0 rfl) ?_
  refine lv_bipush (v := 8) hx hb dX1_init_45 (by decide) ?_
  refine va_newa (atype := .int) (ty := .int) hx hb (hts _ q61) rfl hK hP hD hS hA (N' := 8) (a0 := (8, .inl sp_z)) (fun _ => rfl) (by decide) (by decide) (by decide) (Nat.le_of_ble_eq_true rfl) (Nat.le_of_ble_eq_true rfl) dX1_init_47 (fun q6 d6 H_11 hK hP hD hS => ?_)
  refine W.widen (k := 6) (n := 80) (Nat.le_of_ble_eq_true rfl) (Nat.le_of_ble_eq_true rfl) ?_
  refine va_putF (D := (dC, dI)) (ci := 1) (v := .ref q6) (ty := .array .int) (C := RX1) (T := TX1) (N := 10) hx hb hts in_X1 tyX1 tyX1_ok nmX1 hown hK hP hD hS 0 rfl rfl 5 (by decide) (hts _ q136) (fun _ h9 => h9) rfl hin rfl (by decide +kernel) rfl rfl (Nat.le_of_ble_eq_true rfl) dX1_init_49 (fun H_12 locs hP hD hS => ?_)
  have hP : va_P (dC, dI) spCl ([(h0, .inr (1, [.ref q1, .ref q2, .ref q3, .ref q4, .ref q5, .ref q6, .null, .null, .int 0, .int 0])), (q1, .inl (d1, 16, .inl sp_z)), (q2, .inl (d2, 16, .inl sp_z)), (q3, .inl (d3, 16, .inl sp_z)), (q4, .inl (d4, 16, .inl sp_z)), (q5, .inl (d5, 8, .inl sp_z)), (q6, .inl (d6, 8, .inl sp_z))]) H_12 := hP
  have hD : va_D A ([(h0, .inr (1, [.ref q1, .ref q2, .ref q3, .ref q4, .ref q5, .ref q6, .null, .null, .int 0, .int 0])), (q1, .inl (d1, 16, .inl sp_z)), (q2, .inl (d2, 16, .inl sp_z)), (q3, .inl (d3, 16, .inl sp_z)), (q4, .inl (d4, 16, .inl sp_z)), (q5, .inl (d5, 8, .inl sp_z)), (q6, .inl (d6, 8, .inl sp_z))]) := hD
  have hK : va_K (dC, dI) spCl [(d1, .int), (d2, .int), (d3, .boolean), (d4, .boolean), (d5, .int), (d6, .int)] s := hK
  refine lv_aload_n hx hb dX1_init_52 rfl (lv_at hl 0 rfl) ?_
  refine lv_bipush (v := 8) hx hb dX1_init_53 (by decide) ?_
  refine va_newa (atype := .boolean) (ty := .boolean) hx hb (hts _ q62) rfl hK hP hD hS hA (N' := 8) (a0 := (8, .inl sp_z)) (fun _ => rfl) (by decide) (by decide) (by decide) (Nat.le_of_ble_eq_true rfl) (Nat.le_of_ble_eq_true rfl) dX1_init_55 (fun q7 d7 H_13 hK hP hD hS => ?_)
  refine W.widen (k := 7) (n := 88) (Nat.le_of_ble_eq_true rfl) (Nat.le_of_ble_eq_true rfl) ?_
  refine va_putF (D := (dC, dI)) (ci := 1) (v := .ref q7) (ty := .array .boolean) (C := RX1) (T := TX1) (N := 10) hx hb hts in_X1 tyX1 tyX1_ok nmX1 hown hK hP hD hS 0 rfl rfl 6 (by decide) (hts _ q137) (fun _ h9 => h9) rfl hin rfl (by decide +kernel) rfl rfl (Nat.le_of_ble_eq_true rfl) dX1_init_57 (fun H_14 locs hP hD hS => ?_)
  have hP : va_P (dC, dI) spCl ([(h0, .inr (1, [.ref q1, .ref q2, .ref q3, .ref q4, .ref q5, .ref q6, .ref q7, .null, .int 0, .int 0])), (q1, .inl (d1, 16, .inl sp_z)), (q2, .inl (d2, 16, .inl sp_z)), (q3, .inl (d3, 16, .inl sp_z)), (q4, .inl (d4, 16, .inl sp_z)), (q5, .inl (d5, 8, .inl sp_z)), (q6, .inl (d6, 8, .inl sp_z)), (q7, .inl (d7, 8, .inl sp_z))]) H_14 := hP
  have hD : va_D A ([(h0, .inr (1, [.ref q1, .ref q2, .ref q3, .ref q4, .ref q5, .ref q6, .ref q7, .null, .int 0, .int 0])), (q1, .inl (d1, 16, .inl sp_z)), (q2, .inl (d2, 16, .inl sp_z)), (q3, .inl (d3, 16, .inl sp_z)), (q4, .inl (d4, 16, .inl sp_z)), (q5, .inl (d5, 8, .inl sp_z)), (q6, .inl (d6, 8, .inl sp_z)), (q7, .inl (d7, 8, .inl sp_z))]) := hD
  have hK : va_K (dC, dI) spCl [(d1, .int), (d2, .int), (d3, .boolean), (d4, .boolean), (d5, .int), (d6, .int), (d7, .boolean)] s := hK
  refine lv_aload_n hx hb dX1_init_60 rfl (lv_at hl 0 rfl) ?_
  refine lv_bipush (v := 32) hx hb dX1_init_61 (by decide) ?_
  refine va_newa (atype := .int) (ty := .int) hx hb (hts _ q61) rfl hK hP hD hS hA (N' := 32) (a0 := (32, .inl sp_z)) (fun _ => rfl) (by decide) (by decide) (by decide) (Nat.le_of_ble_eq_true rfl) (Nat.le_of_ble_eq_true rfl) dX1_init_63 (fun q8 d8 H_15 hK hP hD hS => ?_)
  refine W.widen (k := 8) (n := 120) (Nat.le_of_ble_eq_true rfl) (Nat.le_of_ble_eq_true rfl) ?_
  refine va_putF (D := (dC, dI)) (ci := 1) (v := .ref q8) (ty := .array .int) (C := RX1) (T := TX1) (N := 10) hx hb hts in_X1 tyX1 tyX1_ok nmX1 hown hK hP hD hS 0 rfl rfl 7 (by decide) (hts _ q138) (fun _ h9 => h9) rfl hin rfl (by decide +kernel) rfl rfl (Nat.le_of_ble_eq_true rfl) dX1_init_65 (fun H_16 locs hP hD hS => ?_)
  have hP : va_P (dC, dI) spCl ([(h0, .inr (1, [.ref q1, .ref q2, .ref q3, .ref q4, .ref q5, .ref q6, .ref q7, .ref q8, .int 0, .int 0])), (q1, .inl (d1, 16, .inl sp_z)), (q2, .inl (d2, 16, .inl sp_z)), (q3, .inl (d3, 16, .inl sp_z)), (q4, .inl (d4, 16, .inl sp_z)), (q5, .inl (d5, 8, .inl sp_z)), (q6, .inl (d6, 8, .inl sp_z)), (q7, .inl (d7, 8, .inl sp_z)), (q8, .inl (d8, 32, .inl sp_z))]) H_16 := hP
  have hD : va_D A ([(h0, .inr (1, [.ref q1, .ref q2, .ref q3, .ref q4, .ref q5, .ref q6, .ref q7, .ref q8, .int 0, .int 0])), (q1, .inl (d1, 16, .inl sp_z)), (q2, .inl (d2, 16, .inl sp_z)), (q3, .inl (d3, 16, .inl sp_z)), (q4, .inl (d4, 16, .inl sp_z)), (q5, .inl (d5, 8, .inl sp_z)), (q6, .inl (d6, 8, .inl sp_z)), (q7, .inl (d7, 8, .inl sp_z)), (q8, .inl (d8, 32, .inl sp_z))]) := hD
  have hK : va_K (dC, dI) spCl [(d1, .int), (d2, .int), (d3, .boolean), (d4, .boolean), (d5, .int), (d6, .int), (d7, .boolean), (d8, .int)] s := hK
  refine lv_iconst (v := 0) hx hb dX1_init_68 (by decide) ?_
  refine lv_istore_n (lv' := [(1, .int 0), (0, .ref h0)]) hx hb dX1_init_69 rfl hl (by decide) rfl (fun ls hl => ?_)
  obtain ⟨q, rfl, rfl, rfl, rfl, rfl, rfl, rfl, rfl⟩ := sp_fun8 q1 q2 q3 q4 q5 q6 q7 q8
  obtain ⟨d, rfl, rfl, rfl, rfl, rfl, rfl, rfl, rfl⟩ := sp_fun8 d1 d2 d3 d4 d5 d6 d7 d8
  have hP : va_P (dC, dI) spCl (wM h0 q d 0 0 sp_z sp_z sp_z sp_z sp_z sp_z sp_z sp_z) H_16 := hP
  have hD : va_D A (wM h0 q d 0 0 sp_z sp_z sp_z sp_z sp_z sp_z sp_z sp_z) := hD
  have hK : va_K (dC, dI) spCl (tyM d) s := hK
  refine lpM_init1 hx hb hts hown hK (fun H1 locs ls hP hD hS hl => ?_) 17 0 _ _ ls (by omega) (by omega) (by rw [sp_pre_0]; exact hP) (by rw [sp_pre_0]; exact hD) hS (lv_sub hl [0, 1] rfl)
  refine lv_iconst (v := 0) hx hb dX1_init_89 (by decide) ?_
  refine lv_istore_n (lv' := [(1, .int 0), (0, .ref h0)]) hx hb dX1_init_90 rfl hl (by decide) rfl (fun ls hl => ?_)
  refine lpM_init2 hx hb hts hown hK (fun H2 locs ls hP hD hS hl => ?_) 9 0 _ _ ls (by omega) (by omega) (by rw [sp_pre_0]; exact hP) (by rw [sp_pre_0]; exact hD) hS (lv_sub hl [0, 1] rfl)
  exact W.vret hx hb hret (fun t ht hW => ⟨⟨(), rfl, trivial, q, d, by rw [ht]; exact hP, va_K.moved hW.alike hK, hD⟩, hS.F ht⟩) hS.2.2 dX1_init_110
end
section
/-! THE CLAIM OUT OF ONE WALK OF THE LAW'S BODY. Your part is whole_start (and what it stands on); all else here is the same for every law, but numbers. -/
def R_law : String := "ShadowPagerLaw"
def lw_P (b : Addr) (xs : List Int32) (args : Array Value) (s : State) : Prop := args = #[.ref b] ∧ s.IntsAt b xs ∧ xs.length ≤ 320 ∧ (Jvm.Cond.and given_1 narrow_1).before args s = true
def lw_Q (_ : Array Value) (s : State) (o : Outcome) (t : State) : Prop := o = .returned (some (.int 1)) ∧ Framed s o t [] 600000 7290000
def lw_Z (below : List Frame) (a : Array Value) (s : State) : State → Prop := fun t => ∃ o, t.status = .running ∧ Ended t below o ∧ lw_Q a s o t
/-- the law's own end, with 1 on the stack, nothing written that was there before, its room as the claim has it -/
theorem lw_ret {p : Program} {l : Launch} {e : Env} {s : State} {m : MethodId} {below : List Frame} {meth : Method} {c : Code} {b : Nat} (hx : p.tables.exec = Jvm.exec) (hb : c.code = code) (hr : meth.sig.returnType = ret) (hlocks : meth.locks = false) {pc : Nat} {H : Heap} {ls : Array Slot} (hdg : decode code pc = .ok (.ireturn, 1)) : W p l e room_1 s m #[Value.ref b] below meth c H [] 600000 7290000 (lw_Z below #[Value.ref b] s) (F0 m pc ls [.int 1]) := by
  intro T hT X
  obtain ⟨fs, hret, hrun, hended, hW, hframe⟩ := X.leave (v := some (.int 1)) (hlocks := hlocks) (fun h => by rw [hr] at h; cases h)
  have hmeth' : T.vm.method? m = some meth := X.method'
  refine ⟨T.setFrames fs, ?_, .returned (some (.int 1)), hrun, hended, rfl, ⟨_, rfl⟩, hW, hframe⟩
  jvm_step X.here [X.here.top, hx, hb, hdg, hmeth', hr, ret, narrow_b1]
  (try refine ⟨rfl, ?_⟩); (try refine ⟨rfl, ?_⟩)
  first | (intro acts; rw [hret _ acts rfl rfl rfl]) | rw [hret _ _ rfl rfl rfl]
  exact Steps.refl _
/-- what holds at the law's entry: the machine, the code, the tables' words (any of lw_tbl by 'hts w (by decide +kernel)'), the script of L ints xs at the cell b, what the Statement gives of the start (any of its parts by flat_of_before) -/
def lw_At (p : Program) (s : State) (m : MethodId) (meth : Method) (c : Code) (b L : Nat) (xs : Nat → Int32) : Prop :=
  p.tables.exec = Jvm.exec ∧ c.code = code ∧ meth.sig.returnType = ret ∧ c.maxLocals = 4 ∧ s.vm.findClass R_law = some m.cls ∧ (∀ w ∈ lw_tbl, w.before #[Value.ref b] s = true) ∧ va_X b L xs s s.heap ∧ b < s.heap.size ∧ meth.locks = false ∧ (Jvm.Cond.and given_1 narrow_1).before #[Value.ref b] s = true
set_option maxHeartbeats 4000000 in
set_option maxRecDepth 100000 in
theorem law_case0 {p : Program} {l : Launch} {ev : Env} {s : State} {m : MethodId} {below : List Frame} {meth : Method} {c : Code} {dC : Nat → ClassId} {dI : Nat → Nat → Nat} {h0 h1 : Nat} {q q1 : Nat → Nat} {d d1 : Nat → ClassId} {b L : Nat} {xs : Nat → Int32} {Q : State → Prop} (hL : L ≤ 320) (C0 : lw_At p s m meth c b L xs) (hK : va_K (dC, dI) spCl (tyX d ++ tyM d1) s) {i : Nat} (hi : i + 5 ≤ L)
    (kk : ∀ (u : PT × PS) (H : Heap) (locs : List Loc) (ls : Array Slot), sp_Inv u → va_P (dC, dI) spCl (wXu h0 q d u ++ wMu h1 q1 d1 u.1) H → va_D (fun q : Nat => s.heap.size ≤ q) (wXu h0 q d u ++ wMu h1 q1 d1 u.1) → va_S (fun q : Nat => s.heap.size ≤ q) s.heap H locs → lv_has ls 4 [(3, .int (nI i)), (2, .ref h1), (1, .ref h0), (0, .ref b)] → W p l ev room_1 s m #[Value.ref b] below meth c H locs 23 337 Q (F0 m 433 ls []))
    (u : PT × PS) (H : Heap) (locs : List Loc) (ls : Array Slot) (hI : sp_Inv u) (hP : va_P (dC, dI) spCl (wXu h0 q d u ++ wMu h1 q1 d1 u.1) H) (hD : va_D (fun q : Nat => s.heap.size ≤ q) (wXu h0 q d u ++ wMu h1 q1 d1 u.1)) (hS : va_S (fun q : Nat => s.heap.size ≤ q) s.heap H locs) (hl : lv_has ls 4 [(3, .int (nI i)), (2, .ref h1), (1, .ref h0), (0, .ref b)]) : W p l ev room_1 s m #[Value.ref b] below meth c H locs 23 337 Q (F0 m 92 ls []) := by
  obtain ⟨hx, hb, hret, hml, hown, hts0, hX, hbl, hlocks, hgv⟩ := C0
  have hts : ∀ w ∈ lw_all, w.before #[Value.ref b] s = true := fun w h => hts0 w (lw_all_tbl h)
  have hA : ∀ q : Nat, s.heap.size ≤ q → (fun q : Nat => s.heap.size ≤ q) q := fun _ h => h
  have hbA : ¬ (fun q : Nat => s.heap.size ≤ q) b := Nat.not_le.mpr hbl
  refine lv_aload_n hx hb dL_law_92 rfl (lv_at hl 2 rfl) ?_
  refine lv_aload_n hx hb dL_law_93 rfl (lv_at hl 3 rfl) ?_
  refine lv_iload_n hx hb dL_law_94 rfl (lv_at hl 0 rfl) ?_
  refine lv_iconst (v := 1) hx hb dL_law_95 (by decide) ?_
  refine lv_iadd hx hb dL_law_96 ?_
  refine sp_sld hx hb hX hbl hbA hS (i + 1) (nI_add i 1) (by omega) (by omega) dL_law_97 ?_
  refine lv_aload_n hx hb dL_law_98 rfl (lv_at hl 3 rfl) ?_
  refine lv_iload_n hx hb dL_law_99 rfl (lv_at hl 0 rfl) ?_
  refine lv_iconst (v := 2) hx hb dL_law_100 (by decide) ?_
  refine lv_iadd hx hb dL_law_101 ?_
  refine sp_sld hx hb hX hbl hbA hS (i + 2) (nI_add i 2) (by omega) (by omega) dL_law_102 ?_
  refine lv_aload_n hx hb dL_law_103 rfl (lv_at hl 3 rfl) ?_
  refine lv_iload_n hx hb dL_law_104 rfl (lv_at hl 0 rfl) ?_
  refine lv_iconst (v := 3) hx hb dL_law_105 (by decide) ?_
  refine lv_iadd hx hb dL_law_106 ?_
  refine sp_sld hx hb hX hbl hbA hS (i + 3) (nI_add i 3) (by omega) (by omega) dL_law_107 ?_
  refine lv_aload_n hx hb dL_law_108 rfl (lv_at hl 3 rfl) ?_
  refine lv_iload_n hx hb dL_law_109 rfl (lv_at hl 0 rfl) ?_
  refine lv_iconst (v := 4) hx hb dL_law_110 (by decide) ?_
  refine lv_iadd hx hb dL_law_111 ?_
  refine sp_sld hx hb hX hbl hbA hS (i + 4) (nI_add i 4) (by omega) (by omega) dL_law_112 ?_
  have hPc := hP.sub (ws' := wXu h0 q d u) [0, 1, 2, 3, 4, 5, 6, 7, 8, 9, 10, 11, 12, 13] rfl
  have hDc := hD.sub (ws' := wXu h0 q d u) [0, 1, 2, 3, 4, 5, 6, 7, 8, 9, 10, 11, 12, 13] (by decide) rfl
  have hKc := hK.sub (tys' := tyX d) [0, 1, 2, 3, 4, 5, 6, 7, 8, 9, 10, 11, 12] rfl
  have hFc := va_free (wc := wXu h0 q d u) hD hS hA [0, 1, 2, 3, 4, 5, 6, 7, 8, 9, 10, 11, 12, 13] rfl
  refine va_calli (va_runV (As := [.int (xs (i + 1)), .int (xs (i + 2)), .int (xs (i + 3)), .int (xs (i + 4))]) (rest := []) ⟨hx, hb, hml, hown, hts⟩ (mX_setGuest l dC dI h0 q d H.size u.1.1 u.1.2.1 u.1.2.2.1 u.1.2.2.2.1 u.1.2.2.2.2.1 u.1.2.2.2.2.2.1 u.1.2.2.2.2.2.2.1 u.1.2.2.2.2.2.2.2.1 u.1.2.2.2.2.2.2.2.2.1 u.1.2.2.2.2.2.2.2.2.2 u.2.1 u.2.2.1 u.2.2.2.1 u.2.2.2.2.1 u.2.2.2.2.2 (xs (i + 1)) (xs (i + 2)) (xs (i + 3)) (xs (i + 4)) hI) (cwV 4 hts (lw_V q63 q64 q65 q5 q66) rfl rfl rfl (by decide +kernel) ⟨Nat.le_of_ble_eq_true rfl, Nat.le_of_ble_eq_true rfl⟩) ⟨fun a U g mk q => by obtain ⟨q0, q1, qP, qK, qD⟩ := q; exact ⟨q0, q1, qP, va_K.moved (u := U) (U := U.calling g mk a) (Vm.Alike.refl U.vm) qK, qD⟩, va_recv hKc hPc (ci := 0) (q0 := 0) rfl rfl, fun U hU hW => ⟨rfl, by rw [hU], by rw [hU]; exact hPc, va_K.moved hW.alike hKc, hDc.weaken (fun _ _ _ _ => trivial)⟩⟩ rfl rfl hl.1 rfl (lv_room (Nat.le_of_ble_eq_true rfl)) dL_law_113 ⟨Nat.le_of_ble_eq_true rfl, Nat.le_of_ble_eq_true rfl⟩) hS (fun q _ h => hFc q h) hFc (fun r1 v t H_1 locs ht hvm hw1 hB hz1 hk1 hS => ?_)
  obtain ⟨hP1, hK1, hD1⟩ := hB
  rw [ht] at hP1
  obtain ⟨hP, hD⟩ := va_join (wr := wMu h1 q1 d1 u.1) (w1 := wXu h0 q d v) hP hD [0, 1, 2, 3, 4, 5, 6, 7, 8, 9, 10, 11, 12, 13] [14, 15, 16, 17, 18, 19, 20, 21, 22] rfl rfl (by decide) (by decide) hk1 hFc hP1 hD1
  have hP : va_P (dC, dI) spCl (wMu h1 q1 d1 u.1 ++ wXu h0 q d v) H_1 := hP
  have hD : va_D (fun q : Nat => s.heap.size ≤ q) (wMu h1 q1 d1 u.1 ++ wXu h0 q d v) := hD
  refine lv_aload_n hx hb dL_law_116 rfl (lv_at hl 1 rfl) ?_
  refine lv_aload_n hx hb dL_law_117 rfl (lv_at hl 3 rfl) ?_
  refine lv_iload_n hx hb dL_law_118 rfl (lv_at hl 0 rfl) ?_
  refine lv_iconst (v := 1) hx hb dL_law_119 (by decide) ?_
  refine lv_iadd hx hb dL_law_120 ?_
  refine sp_sld hx hb hX hbl hbA hS (i + 1) (nI_add i 1) (by omega) (by omega) dL_law_121 ?_
  refine lv_aload_n hx hb dL_law_122 rfl (lv_at hl 3 rfl) ?_
  refine lv_iload_n hx hb dL_law_123 rfl (lv_at hl 0 rfl) ?_
  refine lv_iconst (v := 2) hx hb dL_law_124 (by decide) ?_
  refine lv_iadd hx hb dL_law_125 ?_
  refine sp_sld hx hb hX hbl hbA hS (i + 2) (nI_add i 2) (by omega) (by omega) dL_law_126 ?_
  refine lv_aload_n hx hb dL_law_127 rfl (lv_at hl 3 rfl) ?_
  refine lv_iload_n hx hb dL_law_128 rfl (lv_at hl 0 rfl) ?_
  refine lv_iconst (v := 3) hx hb dL_law_129 (by decide) ?_
  refine lv_iadd hx hb dL_law_130 ?_
  refine sp_sld hx hb hX hbl hbA hS (i + 3) (nI_add i 3) (by omega) (by omega) dL_law_131 ?_
  refine lv_aload_n hx hb dL_law_132 rfl (lv_at hl 3 rfl) ?_
  refine lv_iload_n hx hb dL_law_133 rfl (lv_at hl 0 rfl) ?_
  refine lv_iconst (v := 4) hx hb dL_law_134 (by decide) ?_
  refine lv_iadd hx hb dL_law_135 ?_
  refine sp_sld hx hb hX hbl hbA hS (i + 4) (nI_add i 4) (by omega) (by omega) dL_law_136 ?_
  have hPc := hP.sub (ws' := wMu h1 q1 d1 u.1) [0, 1, 2, 3, 4, 5, 6, 7, 8] rfl
  have hDc := hD.sub (ws' := wMu h1 q1 d1 u.1) [0, 1, 2, 3, 4, 5, 6, 7, 8] (by decide) rfl
  have hKc := hK.sub (tys' := tyM d1) [13, 14, 15, 16, 17, 18, 19, 20] rfl
  have hFc := va_free (wc := wMu h1 q1 d1 u.1) hD hS hA [0, 1, 2, 3, 4, 5, 6, 7, 8] rfl
  refine va_calli (va_runV (As := [.int (xs (i + 1)), .int (xs (i + 2)), .int (xs (i + 3)), .int (xs (i + 4))]) (rest := [.int r1]) ⟨hx, hb, hml, hown, hts⟩ (mM_setGuest l dC dI h1 q1 d1 H_1.size u.1.1 u.1.2.1 u.1.2.2.1 u.1.2.2.2.1 u.1.2.2.2.2.1 u.1.2.2.2.2.2.1 u.1.2.2.2.2.2.2.1 u.1.2.2.2.2.2.2.2.1 u.1.2.2.2.2.2.2.2.2.1 u.1.2.2.2.2.2.2.2.2.2 (xs (i + 1)) (xs (i + 2)) (xs (i + 3)) (xs (i + 4)) hI.1) (cwV 4 hts (lw_V q162 q163 q164 q6 q165) rfl rfl rfl (by decide +kernel) ⟨Nat.le_of_ble_eq_true rfl, Nat.le_of_ble_eq_true rfl⟩) ⟨fun a U g mk q => by obtain ⟨q0, q1, qP, qK, qD⟩ := q; exact ⟨q0, q1, qP, va_K.moved (u := U) (U := U.calling g mk a) (Vm.Alike.refl U.vm) qK, qD⟩, va_recv hKc hPc (ci := 1) (q0 := 0) rfl rfl, fun U hU hW => ⟨rfl, by rw [hU], by rw [hU]; exact hPc, va_K.moved hW.alike hKc, hDc.weaken (fun _ _ _ _ => trivial)⟩⟩ rfl rfl hl.1 rfl (lv_room (Nat.le_of_ble_eq_true rfl)) dL_law_137 ⟨Nat.le_of_ble_eq_true rfl, Nat.le_of_ble_eq_true rfl⟩) hS (fun q _ h => hFc q h) hFc (fun r2 t2 t H_2 locs ht hvm hw2 hB hz1 hk1 hS => ?_)
  obtain ⟨hP1, hK1, hD1⟩ := hB
  rw [ht] at hP1
  obtain ⟨hP, hD⟩ := va_join (wr := wXu h0 q d v) (w1 := wMu h1 q1 d1 t2) hP hD [0, 1, 2, 3, 4, 5, 6, 7, 8] [9, 10, 11, 12, 13, 14, 15, 16, 17, 18, 19, 20, 21, 22] rfl rfl (by decide) (by decide) hk1 hFc hP1 hD1
  have hP : va_P (dC, dI) spCl (wXu h0 q d v ++ wMu h1 q1 d1 t2) H_2 := hP
  have hD : va_D (fun q : Nat => s.heap.size ≤ q) (wXu h0 q d v ++ wMu h1 q1 d1 t2) := hD
  have eE := hw1.1.trans hw2.symm
  have er : r1 = r2 := congrArg Prod.fst eE
  have eu : v.1 = t2 := congrArg Prod.snd eE
  subst eu
  refine lv_icmp_eq (tgt := 433) hx hb dL_law_140 (by decide) (fun c140 => ?_) (fun c140 => ?_)
  · exact kk v _ _ ls hw1.2 hP hD hS hl
  · exact absurd er c140
set_option maxHeartbeats 4000000 in
set_option maxRecDepth 100000 in
theorem law_case1 {p : Program} {l : Launch} {ev : Env} {s : State} {m : MethodId} {below : List Frame} {meth : Method} {c : Code} {dC : Nat → ClassId} {dI : Nat → Nat → Nat} {h0 h1 : Nat} {q q1 : Nat → Nat} {d d1 : Nat → ClassId} {b L : Nat} {xs : Nat → Int32} {Q : State → Prop} (hL : L ≤ 320) (C0 : lw_At p s m meth c b L xs) (hK : va_K (dC, dI) spCl (tyX d ++ tyM d1) s) {i : Nat} (hi : i + 5 ≤ L)
    (kk : ∀ (u : PT × PS) (H : Heap) (locs : List Loc) (ls : Array Slot), sp_Inv u → va_P (dC, dI) spCl (wXu h0 q d u ++ wMu h1 q1 d1 u.1) H → va_D (fun q : Nat => s.heap.size ≤ q) (wXu h0 q d u ++ wMu h1 q1 d1 u.1) → va_S (fun q : Nat => s.heap.size ≤ q) s.heap H locs → lv_has ls 4 [(3, .int (nI i)), (2, .ref h1), (1, .ref h0), (0, .ref b)] → W p l ev room_1 s m #[Value.ref b] below meth c H locs 23 337 Q (F0 m 433 ls []))
    (u : PT × PS) (H : Heap) (locs : List Loc) (ls : Array Slot) (hI : sp_Inv u) (hP : va_P (dC, dI) spCl (wXu h0 q d u ++ wMu h1 q1 d1 u.1) H) (hD : va_D (fun q : Nat => s.heap.size ≤ q) (wXu h0 q d u ++ wMu h1 q1 d1 u.1)) (hS : va_S (fun q : Nat => s.heap.size ≤ q) s.heap H locs) (hl : lv_has ls 4 [(3, .int (nI i)), (2, .ref h1), (1, .ref h0), (0, .ref b)]) : W p l ev room_1 s m #[Value.ref b] below meth c H locs 23 337 Q (F0 m 145 ls []) := by
  obtain ⟨hx, hb, hret, hml, hown, hts0, hX, hbl, hlocks, hgv⟩ := C0
  have hts : ∀ w ∈ lw_all, w.before #[Value.ref b] s = true := fun w h => hts0 w (lw_all_tbl h)
  have hA : ∀ q : Nat, s.heap.size ≤ q → (fun q : Nat => s.heap.size ≤ q) q := fun _ h => h
  have hbA : ¬ (fun q : Nat => s.heap.size ≤ q) b := Nat.not_le.mpr hbl
  refine lv_aload_n hx hb dL_law_145 rfl (lv_at hl 2 rfl) ?_
  refine lv_aload_n hx hb dL_law_146 rfl (lv_at hl 3 rfl) ?_
  refine lv_iload_n hx hb dL_law_147 rfl (lv_at hl 0 rfl) ?_
  refine lv_iconst (v := 1) hx hb dL_law_148 (by decide) ?_
  refine lv_iadd hx hb dL_law_149 ?_
  refine sp_sld hx hb hX hbl hbA hS (i + 1) (nI_add i 1) (by omega) (by omega) dL_law_150 ?_
  refine lv_aload_n hx hb dL_law_151 rfl (lv_at hl 3 rfl) ?_
  refine lv_iload_n hx hb dL_law_152 rfl (lv_at hl 0 rfl) ?_
  refine lv_iconst (v := 2) hx hb dL_law_153 (by decide) ?_
  refine lv_iadd hx hb dL_law_154 ?_
  refine sp_sld hx hb hX hbl hbA hS (i + 2) (nI_add i 2) (by omega) (by omega) dL_law_155 ?_
  refine lv_aload_n hx hb dL_law_156 rfl (lv_at hl 3 rfl) ?_
  refine lv_iload_n hx hb dL_law_157 rfl (lv_at hl 0 rfl) ?_
  refine lv_iconst (v := 3) hx hb dL_law_158 (by decide) ?_
  refine lv_iadd hx hb dL_law_159 ?_
  refine sp_sld hx hb hX hbl hbA hS (i + 3) (nI_add i 3) (by omega) (by omega) dL_law_160 ?_
  have hPc := hP.sub (ws' := wXu h0 q d u) [0, 1, 2, 3, 4, 5, 6, 7, 8, 9, 10, 11, 12, 13] rfl
  have hDc := hD.sub (ws' := wXu h0 q d u) [0, 1, 2, 3, 4, 5, 6, 7, 8, 9, 10, 11, 12, 13] (by decide) rfl
  have hKc := hK.sub (tys' := tyX d) [0, 1, 2, 3, 4, 5, 6, 7, 8, 9, 10, 11, 12] rfl
  have hFc := va_free (wc := wXu h0 q d u) hD hS hA [0, 1, 2, 3, 4, 5, 6, 7, 8, 9, 10, 11, 12, 13] rfl
  refine va_calli (va_runV (As := [.int (xs (i + 1)), .int (xs (i + 2)), .int (xs (i + 3))]) (rest := []) ⟨hx, hb, hml, hown, hts⟩ (mX_setHost l dC dI h0 q d H.size u.1.1 u.1.2.1 u.1.2.2.1 u.1.2.2.2.1 u.1.2.2.2.2.1 u.1.2.2.2.2.2.1 u.1.2.2.2.2.2.2.1 u.1.2.2.2.2.2.2.2.1 u.1.2.2.2.2.2.2.2.2.1 u.1.2.2.2.2.2.2.2.2.2 u.2.1 u.2.2.1 u.2.2.2.1 u.2.2.2.2.1 u.2.2.2.2.2 (xs (i + 1)) (xs (i + 2)) (xs (i + 3)) hI) (cwV 3 hts (lw_V q77 q78 q79 q5 q80) rfl rfl rfl (by decide +kernel) ⟨Nat.le_of_ble_eq_true rfl, Nat.le_of_ble_eq_true rfl⟩) ⟨fun a U g mk q => by obtain ⟨q0, q1, qP, qK, qD⟩ := q; exact ⟨q0, q1, qP, va_K.moved (u := U) (U := U.calling g mk a) (Vm.Alike.refl U.vm) qK, qD⟩, va_recv hKc hPc (ci := 0) (q0 := 0) rfl rfl, fun U hU hW => ⟨rfl, by rw [hU], by rw [hU]; exact hPc, va_K.moved hW.alike hKc, hDc.weaken (fun _ _ _ _ => trivial)⟩⟩ rfl rfl hl.1 rfl (lv_room (Nat.le_of_ble_eq_true rfl)) dL_law_161 ⟨Nat.le_of_ble_eq_true rfl, Nat.le_of_ble_eq_true rfl⟩) hS (fun q _ h => hFc q h) hFc (fun r1 v t H_1 locs ht hvm hw1 hB hz1 hk1 hS => ?_)
  obtain ⟨hP1, hK1, hD1⟩ := hB
  rw [ht] at hP1
  obtain ⟨hP, hD⟩ := va_join (wr := wMu h1 q1 d1 u.1) (w1 := wXu h0 q d v) hP hD [0, 1, 2, 3, 4, 5, 6, 7, 8, 9, 10, 11, 12, 13] [14, 15, 16, 17, 18, 19, 20, 21, 22] rfl rfl (by decide) (by decide) hk1 hFc hP1 hD1
  have hP : va_P (dC, dI) spCl (wMu h1 q1 d1 u.1 ++ wXu h0 q d v) H_1 := hP
  have hD : va_D (fun q : Nat => s.heap.size ≤ q) (wMu h1 q1 d1 u.1 ++ wXu h0 q d v) := hD
  refine lv_aload_n hx hb dL_law_164 rfl (lv_at hl 1 rfl) ?_
  refine lv_aload_n hx hb dL_law_165 rfl (lv_at hl 3 rfl) ?_
  refine lv_iload_n hx hb dL_law_166 rfl (lv_at hl 0 rfl) ?_
  refine lv_iconst (v := 1) hx hb dL_law_167 (by decide) ?_
  refine lv_iadd hx hb dL_law_168 ?_
  refine sp_sld hx hb hX hbl hbA hS (i + 1) (nI_add i 1) (by omega) (by omega) dL_law_169 ?_
  refine lv_aload_n hx hb dL_law_170 rfl (lv_at hl 3 rfl) ?_
  refine lv_iload_n hx hb dL_law_171 rfl (lv_at hl 0 rfl) ?_
  refine lv_iconst (v := 2) hx hb dL_law_172 (by decide) ?_
  refine lv_iadd hx hb dL_law_173 ?_
  refine sp_sld hx hb hX hbl hbA hS (i + 2) (nI_add i 2) (by omega) (by omega) dL_law_174 ?_
  refine lv_aload_n hx hb dL_law_175 rfl (lv_at hl 3 rfl) ?_
  refine lv_iload_n hx hb dL_law_176 rfl (lv_at hl 0 rfl) ?_
  refine lv_iconst (v := 3) hx hb dL_law_177 (by decide) ?_
  refine lv_iadd hx hb dL_law_178 ?_
  refine sp_sld hx hb hX hbl hbA hS (i + 3) (nI_add i 3) (by omega) (by omega) dL_law_179 ?_
  have hPc := hP.sub (ws' := wMu h1 q1 d1 u.1) [0, 1, 2, 3, 4, 5, 6, 7, 8] rfl
  have hDc := hD.sub (ws' := wMu h1 q1 d1 u.1) [0, 1, 2, 3, 4, 5, 6, 7, 8] (by decide) rfl
  have hKc := hK.sub (tys' := tyM d1) [13, 14, 15, 16, 17, 18, 19, 20] rfl
  have hFc := va_free (wc := wMu h1 q1 d1 u.1) hD hS hA [0, 1, 2, 3, 4, 5, 6, 7, 8] rfl
  refine va_calli (va_runV (As := [.int (xs (i + 1)), .int (xs (i + 2)), .int (xs (i + 3))]) (rest := [.int r1]) ⟨hx, hb, hml, hown, hts⟩ (mM_setHost l dC dI h1 q1 d1 H_1.size u.1.1 u.1.2.1 u.1.2.2.1 u.1.2.2.2.1 u.1.2.2.2.2.1 u.1.2.2.2.2.2.1 u.1.2.2.2.2.2.2.1 u.1.2.2.2.2.2.2.2.1 u.1.2.2.2.2.2.2.2.2.1 u.1.2.2.2.2.2.2.2.2.2 (xs (i + 1)) (xs (i + 2)) (xs (i + 3)) hI.1) (cwV 3 hts (lw_V q169 q170 q171 q6 q172) rfl rfl rfl (by decide +kernel) ⟨Nat.le_of_ble_eq_true rfl, Nat.le_of_ble_eq_true rfl⟩) ⟨fun a U g mk q => by obtain ⟨q0, q1, qP, qK, qD⟩ := q; exact ⟨q0, q1, qP, va_K.moved (u := U) (U := U.calling g mk a) (Vm.Alike.refl U.vm) qK, qD⟩, va_recv hKc hPc (ci := 1) (q0 := 0) rfl rfl, fun U hU hW => ⟨rfl, by rw [hU], by rw [hU]; exact hPc, va_K.moved hW.alike hKc, hDc.weaken (fun _ _ _ _ => trivial)⟩⟩ rfl rfl hl.1 rfl (lv_room (Nat.le_of_ble_eq_true rfl)) dL_law_180 ⟨Nat.le_of_ble_eq_true rfl, Nat.le_of_ble_eq_true rfl⟩) hS (fun q _ h => hFc q h) hFc (fun r2 t2 t H_2 locs ht hvm hw2 hB hz1 hk1 hS => ?_)
  obtain ⟨hP1, hK1, hD1⟩ := hB
  rw [ht] at hP1
  obtain ⟨hP, hD⟩ := va_join (wr := wXu h0 q d v) (w1 := wMu h1 q1 d1 t2) hP hD [0, 1, 2, 3, 4, 5, 6, 7, 8] [9, 10, 11, 12, 13, 14, 15, 16, 17, 18, 19, 20, 21, 22] rfl rfl (by decide) (by decide) hk1 hFc hP1 hD1
  have hP : va_P (dC, dI) spCl (wXu h0 q d v ++ wMu h1 q1 d1 t2) H_2 := hP
  have hD : va_D (fun q : Nat => s.heap.size ≤ q) (wXu h0 q d v ++ wMu h1 q1 d1 t2) := hD
  have eE := hw1.1.trans hw2.symm
  have er : r1 = r2 := congrArg Prod.fst eE
  have eu : v.1 = t2 := congrArg Prod.snd eE
  subst eu
  refine lv_icmp_eq (tgt := 433) hx hb dL_law_183 (by decide) (fun c183 => ?_) (fun c183 => ?_)
  · exact kk v _ _ ls hw1.2 hP hD hS hl
  · exact absurd er c183
set_option maxHeartbeats 4000000 in
set_option maxRecDepth 100000 in
theorem law_case2 {p : Program} {l : Launch} {ev : Env} {s : State} {m : MethodId} {below : List Frame} {meth : Method} {c : Code} {dC : Nat → ClassId} {dI : Nat → Nat → Nat} {h0 h1 : Nat} {q q1 : Nat → Nat} {d d1 : Nat → ClassId} {b L : Nat} {xs : Nat → Int32} {Q : State → Prop} (hL : L ≤ 320) (C0 : lw_At p s m meth c b L xs) (hK : va_K (dC, dI) spCl (tyX d ++ tyM d1) s) {i : Nat} (hi : i + 5 ≤ L)
    (kk : ∀ (u : PT × PS) (H : Heap) (locs : List Loc) (ls : Array Slot), sp_Inv u → va_P (dC, dI) spCl (wXu h0 q d u ++ wMu h1 q1 d1 u.1) H → va_D (fun q : Nat => s.heap.size ≤ q) (wXu h0 q d u ++ wMu h1 q1 d1 u.1) → va_S (fun q : Nat => s.heap.size ≤ q) s.heap H locs → lv_has ls 4 [(3, .int (nI i)), (2, .ref h1), (1, .ref h0), (0, .ref b)] → W p l ev room_1 s m #[Value.ref b] below meth c H locs 23 337 Q (F0 m 433 ls []))
    (u : PT × PS) (H : Heap) (locs : List Loc) (ls : Array Slot) (hI : sp_Inv u) (hP : va_P (dC, dI) spCl (wXu h0 q d u ++ wMu h1 q1 d1 u.1) H) (hD : va_D (fun q : Nat => s.heap.size ≤ q) (wXu h0 q d u ++ wMu h1 q1 d1 u.1)) (hS : va_S (fun q : Nat => s.heap.size ≤ q) s.heap H locs) (hl : lv_has ls 4 [(3, .int (nI i)), (2, .ref h1), (1, .ref h0), (0, .ref b)]) : W p l ev room_1 s m #[Value.ref b] below meth c H locs 23 337 Q (F0 m 188 ls []) := by
  obtain ⟨hx, hb, hret, hml, hown, hts0, hX, hbl, hlocks, hgv⟩ := C0
  have hts : ∀ w ∈ lw_all, w.before #[Value.ref b] s = true := fun w h => hts0 w (lw_all_tbl h)
  have hA : ∀ q : Nat, s.heap.size ≤ q → (fun q : Nat => s.heap.size ≤ q) q := fun _ h => h
  have hbA : ¬ (fun q : Nat => s.heap.size ≤ q) b := Nat.not_le.mpr hbl
  refine lv_aload_n hx hb dL_law_188 rfl (lv_at hl 2 rfl) ?_
  refine lv_aload_n hx hb dL_law_189 rfl (lv_at hl 3 rfl) ?_
  refine lv_iload_n hx hb dL_law_190 rfl (lv_at hl 0 rfl) ?_
  refine lv_iconst (v := 1) hx hb dL_law_191 (by decide) ?_
  refine lv_iadd hx hb dL_law_192 ?_
  refine sp_sld hx hb hX hbl hbA hS (i + 1) (nI_add i 1) (by omega) (by omega) dL_law_193 ?_
  have hPc := hP.sub (ws' := wXu h0 q d u) [0, 1, 2, 3, 4, 5, 6, 7, 8, 9, 10, 11, 12, 13] rfl
  have hDc := hD.sub (ws' := wXu h0 q d u) [0, 1, 2, 3, 4, 5, 6, 7, 8, 9, 10, 11, 12, 13] (by decide) rfl
  have hKc := hK.sub (tys' := tyX d) [0, 1, 2, 3, 4, 5, 6, 7, 8, 9, 10, 11, 12] rfl
  have hFc := va_free (wc := wXu h0 q d u) hD hS hA [0, 1, 2, 3, 4, 5, 6, 7, 8, 9, 10, 11, 12, 13] rfl
  refine va_callv (va_runV (As := [.int (xs (i + 1))]) (rest := []) ⟨hx, hb, hml, hown, hts⟩ (mX_change l dC dI h0 q d H.size u.1.1 u.1.2.1 u.1.2.2.1 u.1.2.2.2.1 u.1.2.2.2.2.1 u.1.2.2.2.2.2.1 u.1.2.2.2.2.2.2.1 u.1.2.2.2.2.2.2.2.1 u.1.2.2.2.2.2.2.2.2.1 u.1.2.2.2.2.2.2.2.2.2 u.2.1 u.2.2.1 u.2.2.2.1 u.2.2.2.2.1 u.2.2.2.2.2 (xs (i + 1)) hI) (cwV 1 hts (lw_V q81 q82 q83 q5 q84) rfl rfl rfl (by decide +kernel) ⟨Nat.le_of_ble_eq_true rfl, Nat.le_of_ble_eq_true rfl⟩) ⟨fun a U g mk q => by obtain ⟨q0, q1, qP, qK, qD⟩ := q; exact ⟨q0, q1, qP, va_K.moved (u := U) (U := U.calling g mk a) (Vm.Alike.refl U.vm) qK, qD⟩, va_recv hKc hPc (ci := 0) (q0 := 0) rfl rfl, fun U hU hW => ⟨rfl, by rw [hU], by rw [hU]; exact hPc, va_K.moved hW.alike hKc, hDc.weaken (fun _ _ _ _ => trivial)⟩⟩ rfl rfl hl.1 rfl (lv_room (Nat.le_of_ble_eq_true rfl)) dL_law_194 ⟨Nat.le_of_ble_eq_true rfl, Nat.le_of_ble_eq_true rfl⟩) hS (fun q _ h => hFc q h) hFc (fun v t H_1 locs ht hvm hw1 hB hz1 hk1 hS => ?_)
  obtain ⟨hP1, hK1, hD1⟩ := hB
  rw [ht] at hP1
  obtain ⟨hP, hD⟩ := va_join (wr := wMu h1 q1 d1 u.1) (w1 := wXu h0 q d v) hP hD [0, 1, 2, 3, 4, 5, 6, 7, 8, 9, 10, 11, 12, 13] [14, 15, 16, 17, 18, 19, 20, 21, 22] rfl rfl (by decide) (by decide) hk1 hFc hP1 hD1
  have hP : va_P (dC, dI) spCl (wMu h1 q1 d1 u.1 ++ wXu h0 q d v) H_1 := hP
  have hD : va_D (fun q : Nat => s.heap.size ≤ q) (wMu h1 q1 d1 u.1 ++ wXu h0 q d v) := hD
  refine lv_aload_n hx hb dL_law_197 rfl (lv_at hl 1 rfl) ?_
  refine lv_aload_n hx hb dL_law_198 rfl (lv_at hl 3 rfl) ?_
  refine lv_iload_n hx hb dL_law_199 rfl (lv_at hl 0 rfl) ?_
  refine lv_iconst (v := 1) hx hb dL_law_200 (by decide) ?_
  refine lv_iadd hx hb dL_law_201 ?_
  refine sp_sld hx hb hX hbl hbA hS (i + 1) (nI_add i 1) (by omega) (by omega) dL_law_202 ?_
  have hPc := hP.sub (ws' := wMu h1 q1 d1 u.1) [0, 1, 2, 3, 4, 5, 6, 7, 8] rfl
  have hDc := hD.sub (ws' := wMu h1 q1 d1 u.1) [0, 1, 2, 3, 4, 5, 6, 7, 8] (by decide) rfl
  have hKc := hK.sub (tys' := tyM d1) [13, 14, 15, 16, 17, 18, 19, 20] rfl
  have hFc := va_free (wc := wMu h1 q1 d1 u.1) hD hS hA [0, 1, 2, 3, 4, 5, 6, 7, 8] rfl
  refine va_callv (va_runV (As := [.int (xs (i + 1))]) (rest := []) ⟨hx, hb, hml, hown, hts⟩ (mM_change l dC dI h1 q1 d1 H_1.size u.1.1 u.1.2.1 u.1.2.2.1 u.1.2.2.2.1 u.1.2.2.2.2.1 u.1.2.2.2.2.2.1 u.1.2.2.2.2.2.2.1 u.1.2.2.2.2.2.2.2.1 u.1.2.2.2.2.2.2.2.2.1 u.1.2.2.2.2.2.2.2.2.2 (xs (i + 1)) hI.1) (cwV 1 hts (lw_V q173 q174 q175 q6 q176) rfl rfl rfl (by decide +kernel) ⟨Nat.le_of_ble_eq_true rfl, Nat.le_of_ble_eq_true rfl⟩) ⟨fun a U g mk q => by obtain ⟨q0, q1, qP, qK, qD⟩ := q; exact ⟨q0, q1, qP, va_K.moved (u := U) (U := U.calling g mk a) (Vm.Alike.refl U.vm) qK, qD⟩, va_recv hKc hPc (ci := 1) (q0 := 0) rfl rfl, fun U hU hW => ⟨rfl, by rw [hU], by rw [hU]; exact hPc, va_K.moved hW.alike hKc, hDc.weaken (fun _ _ _ _ => trivial)⟩⟩ rfl rfl hl.1 rfl (lv_room (Nat.le_of_ble_eq_true rfl)) dL_law_203 ⟨Nat.le_of_ble_eq_true rfl, Nat.le_of_ble_eq_true rfl⟩) hS (fun q _ h => hFc q h) hFc (fun t2 t H_2 locs ht hvm hw2 hB hz1 hk1 hS => ?_)
  obtain ⟨hP1, hK1, hD1⟩ := hB
  rw [ht] at hP1
  obtain ⟨hP, hD⟩ := va_join (wr := wXu h0 q d v) (w1 := wMu h1 q1 d1 t2) hP hD [0, 1, 2, 3, 4, 5, 6, 7, 8] [9, 10, 11, 12, 13, 14, 15, 16, 17, 18, 19, 20, 21, 22] rfl rfl (by decide) (by decide) hk1 hFc hP1 hD1
  have hP : va_P (dC, dI) spCl (wXu h0 q d v ++ wMu h1 q1 d1 t2) H_2 := hP
  have hD : va_D (fun q : Nat => s.heap.size ≤ q) (wXu h0 q d v ++ wMu h1 q1 d1 t2) := hD
  have eu : v.1 = t2 := hw1.1.trans hw2.symm
  subst eu
  refine lv_goto (tgt := 433) hx hb dL_law_206 (by decide) ?_
  exact kk v _ _ ls hw1.2 hP hD hS hl
set_option maxHeartbeats 4000000 in
set_option maxRecDepth 100000 in
theorem law_case3 {p : Program} {l : Launch} {ev : Env} {s : State} {m : MethodId} {below : List Frame} {meth : Method} {c : Code} {dC : Nat → ClassId} {dI : Nat → Nat → Nat} {h0 h1 : Nat} {q q1 : Nat → Nat} {d d1 : Nat → ClassId} {b L : Nat} {xs : Nat → Int32} {Q : State → Prop} (hL : L ≤ 320) (C0 : lw_At p s m meth c b L xs) (hK : va_K (dC, dI) spCl (tyX d ++ tyM d1) s) {i : Nat} (hi : i + 5 ≤ L)
    (kk : ∀ (u : PT × PS) (H : Heap) (locs : List Loc) (ls : Array Slot), sp_Inv u → va_P (dC, dI) spCl (wXu h0 q d u ++ wMu h1 q1 d1 u.1) H → va_D (fun q : Nat => s.heap.size ≤ q) (wXu h0 q d u ++ wMu h1 q1 d1 u.1) → va_S (fun q : Nat => s.heap.size ≤ q) s.heap H locs → lv_has ls 4 [(3, .int (nI i)), (2, .ref h1), (1, .ref h0), (0, .ref b)] → W p l ev room_1 s m #[Value.ref b] below meth c H locs 23 337 Q (F0 m 433 ls []))
    (u : PT × PS) (H : Heap) (locs : List Loc) (ls : Array Slot) (hI : sp_Inv u) (hP : va_P (dC, dI) spCl (wXu h0 q d u ++ wMu h1 q1 d1 u.1) H) (hD : va_D (fun q : Nat => s.heap.size ≤ q) (wXu h0 q d u ++ wMu h1 q1 d1 u.1)) (hS : va_S (fun q : Nat => s.heap.size ≤ q) s.heap H locs) (hl : lv_has ls 4 [(3, .int (nI i)), (2, .ref h1), (1, .ref h0), (0, .ref b)]) : W p l ev room_1 s m #[Value.ref b] below meth c H locs 23 337 Q (F0 m 209 ls []) := by
  obtain ⟨hx, hb, hret, hml, hown, hts0, hX, hbl, hlocks, hgv⟩ := C0
  have hts : ∀ w ∈ lw_all, w.before #[Value.ref b] s = true := fun w h => hts0 w (lw_all_tbl h)
  have hA : ∀ q : Nat, s.heap.size ≤ q → (fun q : Nat => s.heap.size ≤ q) q := fun _ h => h
  have hbA : ¬ (fun q : Nat => s.heap.size ≤ q) b := Nat.not_le.mpr hbl
  refine lv_aload_n hx hb dL_law_209 rfl (lv_at hl 2 rfl) ?_
  refine lv_aload_n hx hb dL_law_210 rfl (lv_at hl 3 rfl) ?_
  refine lv_iload_n hx hb dL_law_211 rfl (lv_at hl 0 rfl) ?_
  refine lv_iconst (v := 1) hx hb dL_law_212 (by decide) ?_
  refine lv_iadd hx hb dL_law_213 ?_
  refine sp_sld hx hb hX hbl hbA hS (i + 1) (nI_add i 1) (by omega) (by omega) dL_law_214 ?_
  refine lv_aload_n hx hb dL_law_215 rfl (lv_at hl 3 rfl) ?_
  refine lv_iload_n hx hb dL_law_216 rfl (lv_at hl 0 rfl) ?_
  refine lv_iconst (v := 2) hx hb dL_law_217 (by decide) ?_
  refine lv_iadd hx hb dL_law_218 ?_
  refine sp_sld hx hb hX hbl hbA hS (i + 2) (nI_add i 2) (by omega) (by omega) dL_law_219 ?_
  have hPc := hP.sub (ws' := wXu h0 q d u) [0, 1, 2, 3, 4, 5, 6, 7, 8, 9, 10, 11, 12, 13] rfl
  have hDc := hD.sub (ws' := wXu h0 q d u) [0, 1, 2, 3, 4, 5, 6, 7, 8, 9, 10, 11, 12, 13] (by decide) rfl
  have hKc := hK.sub (tys' := tyX d) [0, 1, 2, 3, 4, 5, 6, 7, 8, 9, 10, 11, 12] rfl
  have hFc := va_free (wc := wXu h0 q d u) hD hS hA [0, 1, 2, 3, 4, 5, 6, 7, 8, 9, 10, 11, 12, 13] rfl
  refine va_calli (va_runV (As := [.int (xs (i + 1)), .int (xs (i + 2))]) (rest := []) ⟨hx, hb, hml, hown, hts⟩ (mX_load l dC dI h0 q d H.size u.1.1 u.1.2.1 u.1.2.2.1 u.1.2.2.2.1 u.1.2.2.2.2.1 u.1.2.2.2.2.2.1 u.1.2.2.2.2.2.2.1 u.1.2.2.2.2.2.2.2.1 u.1.2.2.2.2.2.2.2.2.1 u.1.2.2.2.2.2.2.2.2.2 u.2.1 u.2.2.1 u.2.2.2.1 u.2.2.2.2.1 u.2.2.2.2.2 (xs (i + 1)) (xs (i + 2)) hI) (cwV 2 hts (lw_V q85 q86 q87 q5 q88) rfl rfl rfl (by decide +kernel) ⟨Nat.le_of_ble_eq_true rfl, Nat.le_of_ble_eq_true rfl⟩) ⟨fun a U g mk q => by obtain ⟨q0, q1, qP, qK, qD⟩ := q; exact ⟨q0, q1, qP, va_K.moved (u := U) (U := U.calling g mk a) (Vm.Alike.refl U.vm) qK, qD⟩, va_recv hKc hPc (ci := 0) (q0 := 0) rfl rfl, fun U hU hW => ⟨rfl, by rw [hU], by rw [hU]; exact hPc, va_K.moved hW.alike hKc, hDc.weaken (fun _ _ _ _ => trivial)⟩⟩ rfl rfl hl.1 rfl (lv_room (Nat.le_of_ble_eq_true rfl)) dL_law_220 ⟨Nat.le_of_ble_eq_true rfl, Nat.le_of_ble_eq_true rfl⟩) hS (fun q _ h => hFc q h) hFc (fun r1 v t H_1 locs ht hvm hw1 hB hz1 hk1 hS => ?_)
  obtain ⟨hP1, hK1, hD1⟩ := hB
  rw [ht] at hP1
  obtain ⟨hP, hD⟩ := va_join (wr := wMu h1 q1 d1 u.1) (w1 := wXu h0 q d v) hP hD [0, 1, 2, 3, 4, 5, 6, 7, 8, 9, 10, 11, 12, 13] [14, 15, 16, 17, 18, 19, 20, 21, 22] rfl rfl (by decide) (by decide) hk1 hFc hP1 hD1
  have hP : va_P (dC, dI) spCl (wMu h1 q1 d1 u.1 ++ wXu h0 q d v) H_1 := hP
  have hD : va_D (fun q : Nat => s.heap.size ≤ q) (wMu h1 q1 d1 u.1 ++ wXu h0 q d v) := hD
  refine lv_aload_n hx hb dL_law_223 rfl (lv_at hl 1 rfl) ?_
  refine lv_aload_n hx hb dL_law_224 rfl (lv_at hl 3 rfl) ?_
  refine lv_iload_n hx hb dL_law_225 rfl (lv_at hl 0 rfl) ?_
  refine lv_iconst (v := 1) hx hb dL_law_226 (by decide) ?_
  refine lv_iadd hx hb dL_law_227 ?_
  refine sp_sld hx hb hX hbl hbA hS (i + 1) (nI_add i 1) (by omega) (by omega) dL_law_228 ?_
  refine lv_aload_n hx hb dL_law_229 rfl (lv_at hl 3 rfl) ?_
  refine lv_iload_n hx hb dL_law_230 rfl (lv_at hl 0 rfl) ?_
  refine lv_iconst (v := 2) hx hb dL_law_231 (by decide) ?_
  refine lv_iadd hx hb dL_law_232 ?_
  refine sp_sld hx hb hX hbl hbA hS (i + 2) (nI_add i 2) (by omega) (by omega) dL_law_233 ?_
  have hPc := hP.sub (ws' := wMu h1 q1 d1 u.1) [0, 1, 2, 3, 4, 5, 6, 7, 8] rfl
  have hDc := hD.sub (ws' := wMu h1 q1 d1 u.1) [0, 1, 2, 3, 4, 5, 6, 7, 8] (by decide) rfl
  have hKc := hK.sub (tys' := tyM d1) [13, 14, 15, 16, 17, 18, 19, 20] rfl
  have hFc := va_free (wc := wMu h1 q1 d1 u.1) hD hS hA [0, 1, 2, 3, 4, 5, 6, 7, 8] rfl
  refine va_calli (va_runV (As := [.int (xs (i + 1)), .int (xs (i + 2))]) (rest := [.int r1]) ⟨hx, hb, hml, hown, hts⟩ (mM_load l dC dI h1 q1 d1 H_1.size u.1.1 u.1.2.1 u.1.2.2.1 u.1.2.2.2.1 u.1.2.2.2.2.1 u.1.2.2.2.2.2.1 u.1.2.2.2.2.2.2.1 u.1.2.2.2.2.2.2.2.1 u.1.2.2.2.2.2.2.2.2.1 u.1.2.2.2.2.2.2.2.2.2 (xs (i + 1)) (xs (i + 2)) hI.1) (cwV 2 hts (lw_V q177 q178 q179 q6 q180) rfl rfl rfl (by decide +kernel) ⟨Nat.le_of_ble_eq_true rfl, Nat.le_of_ble_eq_true rfl⟩) ⟨fun a U g mk q => by obtain ⟨q0, q1, qP, qK, qD⟩ := q; exact ⟨q0, q1, qP, va_K.moved (u := U) (U := U.calling g mk a) (Vm.Alike.refl U.vm) qK, qD⟩, va_recv hKc hPc (ci := 1) (q0 := 0) rfl rfl, fun U hU hW => ⟨rfl, by rw [hU], by rw [hU]; exact hPc, va_K.moved hW.alike hKc, hDc.weaken (fun _ _ _ _ => trivial)⟩⟩ rfl rfl hl.1 rfl (lv_room (Nat.le_of_ble_eq_true rfl)) dL_law_234 ⟨Nat.le_of_ble_eq_true rfl, Nat.le_of_ble_eq_true rfl⟩) hS (fun q _ h => hFc q h) hFc (fun r2 t2 t H_2 locs ht hvm hw2 hB hz1 hk1 hS => ?_)
  obtain ⟨hP1, hK1, hD1⟩ := hB
  rw [ht] at hP1
  obtain ⟨hP, hD⟩ := va_join (wr := wXu h0 q d v) (w1 := wMu h1 q1 d1 t2) hP hD [0, 1, 2, 3, 4, 5, 6, 7, 8] [9, 10, 11, 12, 13, 14, 15, 16, 17, 18, 19, 20, 21, 22] rfl rfl (by decide) (by decide) hk1 hFc hP1 hD1
  have hP : va_P (dC, dI) spCl (wXu h0 q d v ++ wMu h1 q1 d1 t2) H_2 := hP
  have hD : va_D (fun q : Nat => s.heap.size ≤ q) (wXu h0 q d v ++ wMu h1 q1 d1 t2) := hD
  have eE := hw1.1.trans hw2.symm
  have er : r1 = r2 := congrArg Prod.fst eE
  have eu : v.1 = t2 := congrArg Prod.snd eE
  subst eu
  refine lv_icmp_eq (tgt := 433) hx hb dL_law_237 (by decide) (fun c237 => ?_) (fun c237 => ?_)
  · exact kk v _ _ ls hw1.2 hP hD hS hl
  · exact absurd er c237
end
section
set_option maxHeartbeats 4000000 in
set_option maxRecDepth 100000 in
theorem law_case4 {p : Program} {l : Launch} {ev : Env} {s : State} {m : MethodId} {below : List Frame} {meth : Method} {c : Code} {dC : Nat → ClassId} {dI : Nat → Nat → Nat} {h0 h1 : Nat} {q q1 : Nat → Nat} {d d1 : Nat → ClassId} {b L : Nat} {xs : Nat → Int32} {Q : State → Prop} (hL : L ≤ 320) (C0 : lw_At p s m meth c b L xs) (hK : va_K (dC, dI) spCl (tyX d ++ tyM d1) s) {i : Nat} (hi : i + 5 ≤ L)
    (kk : ∀ (u : PT × PS) (H : Heap) (locs : List Loc) (ls : Array Slot), sp_Inv u → va_P (dC, dI) spCl (wXu h0 q d u ++ wMu h1 q1 d1 u.1) H → va_D (fun q : Nat => s.heap.size ≤ q) (wXu h0 q d u ++ wMu h1 q1 d1 u.1) → va_S (fun q : Nat => s.heap.size ≤ q) s.heap H locs → lv_has ls 4 [(3, .int (nI i)), (2, .ref h1), (1, .ref h0), (0, .ref b)] → W p l ev room_1 s m #[Value.ref b] below meth c H locs 23 337 Q (F0 m 433 ls []))
    (u : PT × PS) (H : Heap) (locs : List Loc) (ls : Array Slot) (hI : sp_Inv u) (hP : va_P (dC, dI) spCl (wXu h0 q d u ++ wMu h1 q1 d1 u.1) H) (hD : va_D (fun q : Nat => s.heap.size ≤ q) (wXu h0 q d u ++ wMu h1 q1 d1 u.1)) (hS : va_S (fun q : Nat => s.heap.size ≤ q) s.heap H locs) (hl : lv_has ls 4 [(3, .int (nI i)), (2, .ref h1), (1, .ref h0), (0, .ref b)]) : W p l ev room_1 s m #[Value.ref b] below meth c H locs 23 337 Q (F0 m 242 ls []) := by
  obtain ⟨hx, hb, hret, hml, hown, hts0, hX, hbl, hlocks, hgv⟩ := C0
  have hts : ∀ w ∈ lw_all, w.before #[Value.ref b] s = true := fun w h => hts0 w (lw_all_tbl h)
  have hA : ∀ q : Nat, s.heap.size ≤ q → (fun q : Nat => s.heap.size ≤ q) q := fun _ h => h
  have hbA : ¬ (fun q : Nat => s.heap.size ≤ q) b := Nat.not_le.mpr hbl
  refine lv_aload_n hx hb dL_law_242 rfl (lv_at hl 2 rfl) ?_
  refine lv_aload_n hx hb dL_law_243 rfl (lv_at hl 3 rfl) ?_
  refine lv_iload_n hx hb dL_law_244 rfl (lv_at hl 0 rfl) ?_
  refine lv_iconst (v := 1) hx hb dL_law_245 (by decide) ?_
  refine lv_iadd hx hb dL_law_246 ?_
  refine sp_sld hx hb hX hbl hbA hS (i + 1) (nI_add i 1) (by omega) (by omega) dL_law_247 ?_
  refine lv_aload_n hx hb dL_law_248 rfl (lv_at hl 3 rfl) ?_
  refine lv_iload_n hx hb dL_law_249 rfl (lv_at hl 0 rfl) ?_
  refine lv_iconst (v := 2) hx hb dL_law_250 (by decide) ?_
  refine lv_iadd hx hb dL_law_251 ?_
  refine sp_sld hx hb hX hbl hbA hS (i + 2) (nI_add i 2) (by omega) (by omega) dL_law_252 ?_
  refine lv_aload_n hx hb dL_law_253 rfl (lv_at hl 3 rfl) ?_
  refine lv_iload_n hx hb dL_law_254 rfl (lv_at hl 0 rfl) ?_
  refine lv_iconst (v := 3) hx hb dL_law_255 (by decide) ?_
  refine lv_iadd hx hb dL_law_256 ?_
  refine sp_sld hx hb hX hbl hbA hS (i + 3) (nI_add i 3) (by omega) (by omega) dL_law_257 ?_
  have hPc := hP.sub (ws' := wXu h0 q d u) [0, 1, 2, 3, 4, 5, 6, 7, 8, 9, 10, 11, 12, 13] rfl
  have hDc := hD.sub (ws' := wXu h0 q d u) [0, 1, 2, 3, 4, 5, 6, 7, 8, 9, 10, 11, 12, 13] (by decide) rfl
  have hKc := hK.sub (tys' := tyX d) [0, 1, 2, 3, 4, 5, 6, 7, 8, 9, 10, 11, 12] rfl
  have hFc := va_free (wc := wXu h0 q d u) hD hS hA [0, 1, 2, 3, 4, 5, 6, 7, 8, 9, 10, 11, 12, 13] rfl
  refine va_calli (va_runV (As := [.int (xs (i + 1)), .int (xs (i + 2)), .int (xs (i + 3))]) (rest := []) ⟨hx, hb, hml, hown, hts⟩ (mX_store l dC dI h0 q d H.size u.1.1 u.1.2.1 u.1.2.2.1 u.1.2.2.2.1 u.1.2.2.2.2.1 u.1.2.2.2.2.2.1 u.1.2.2.2.2.2.2.1 u.1.2.2.2.2.2.2.2.1 u.1.2.2.2.2.2.2.2.2.1 u.1.2.2.2.2.2.2.2.2.2 u.2.1 u.2.2.1 u.2.2.2.1 u.2.2.2.2.1 u.2.2.2.2.2 (xs (i + 1)) (xs (i + 2)) (xs (i + 3)) hI) (cwV 3 hts (lw_V q97 q98 q99 q5 q100) rfl rfl rfl (by decide +kernel) ⟨Nat.le_of_ble_eq_true rfl, Nat.le_of_ble_eq_true rfl⟩) ⟨fun a U g mk q => by obtain ⟨q0, q1, qP, qK, qD⟩ := q; exact ⟨q0, q1, qP, va_K.moved (u := U) (U := U.calling g mk a) (Vm.Alike.refl U.vm) qK, qD⟩, va_recv hKc hPc (ci := 0) (q0 := 0) rfl rfl, fun U hU hW => ⟨rfl, by rw [hU], by rw [hU]; exact hPc, va_K.moved hW.alike hKc, hDc.weaken (fun _ _ _ _ => trivial)⟩⟩ rfl rfl hl.1 rfl (lv_room (Nat.le_of_ble_eq_true rfl)) dL_law_258 ⟨Nat.le_of_ble_eq_true rfl, Nat.le_of_ble_eq_true rfl⟩) hS (fun q _ h => hFc q h) hFc (fun r1 v t H_1 locs ht hvm hw1 hB hz1 hk1 hS => ?_)
  obtain ⟨hP1, hK1, hD1⟩ := hB
  rw [ht] at hP1
  obtain ⟨hP, hD⟩ := va_join (wr := wMu h1 q1 d1 u.1) (w1 := wXu h0 q d v) hP hD [0, 1, 2, 3, 4, 5, 6, 7, 8, 9, 10, 11, 12, 13] [14, 15, 16, 17, 18, 19, 20, 21, 22] rfl rfl (by decide) (by decide) hk1 hFc hP1 hD1
  have hP : va_P (dC, dI) spCl (wMu h1 q1 d1 u.1 ++ wXu h0 q d v) H_1 := hP
  have hD : va_D (fun q : Nat => s.heap.size ≤ q) (wMu h1 q1 d1 u.1 ++ wXu h0 q d v) := hD
  refine lv_aload_n hx hb dL_law_261 rfl (lv_at hl 1 rfl) ?_
  refine lv_aload_n hx hb dL_law_262 rfl (lv_at hl 3 rfl) ?_
  refine lv_iload_n hx hb dL_law_263 rfl (lv_at hl 0 rfl) ?_
  refine lv_iconst (v := 1) hx hb dL_law_264 (by decide) ?_
  refine lv_iadd hx hb dL_law_265 ?_
  refine sp_sld hx hb hX hbl hbA hS (i + 1) (nI_add i 1) (by omega) (by omega) dL_law_266 ?_
  refine lv_aload_n hx hb dL_law_267 rfl (lv_at hl 3 rfl) ?_
  refine lv_iload_n hx hb dL_law_268 rfl (lv_at hl 0 rfl) ?_
  refine lv_iconst (v := 2) hx hb dL_law_269 (by decide) ?_
  refine lv_iadd hx hb dL_law_270 ?_
  refine sp_sld hx hb hX hbl hbA hS (i + 2) (nI_add i 2) (by omega) (by omega) dL_law_271 ?_
  refine lv_aload_n hx hb dL_law_272 rfl (lv_at hl 3 rfl) ?_
  refine lv_iload_n hx hb dL_law_273 rfl (lv_at hl 0 rfl) ?_
  refine lv_iconst (v := 3) hx hb dL_law_274 (by decide) ?_
  refine lv_iadd hx hb dL_law_275 ?_
  refine sp_sld hx hb hX hbl hbA hS (i + 3) (nI_add i 3) (by omega) (by omega) dL_law_276 ?_
  have hPc := hP.sub (ws' := wMu h1 q1 d1 u.1) [0, 1, 2, 3, 4, 5, 6, 7, 8] rfl
  have hDc := hD.sub (ws' := wMu h1 q1 d1 u.1) [0, 1, 2, 3, 4, 5, 6, 7, 8] (by decide) rfl
  have hKc := hK.sub (tys' := tyM d1) [13, 14, 15, 16, 17, 18, 19, 20] rfl
  have hFc := va_free (wc := wMu h1 q1 d1 u.1) hD hS hA [0, 1, 2, 3, 4, 5, 6, 7, 8] rfl
  refine va_calli (va_runV (As := [.int (xs (i + 1)), .int (xs (i + 2)), .int (xs (i + 3))]) (rest := [.int r1]) ⟨hx, hb, hml, hown, hts⟩ (mM_store l dC dI h1 q1 d1 H_1.size u.1.1 u.1.2.1 u.1.2.2.1 u.1.2.2.2.1 u.1.2.2.2.2.1 u.1.2.2.2.2.2.1 u.1.2.2.2.2.2.2.1 u.1.2.2.2.2.2.2.2.1 u.1.2.2.2.2.2.2.2.2.1 u.1.2.2.2.2.2.2.2.2.2 (xs (i + 1)) (xs (i + 2)) (xs (i + 3)) hI.1) (cwV 3 hts (lw_V q185 q186 q187 q6 q188) rfl rfl rfl (by decide +kernel) ⟨Nat.le_of_ble_eq_true rfl, Nat.le_of_ble_eq_true rfl⟩) ⟨fun a U g mk q => by obtain ⟨q0, q1, qP, qK, qD⟩ := q; exact ⟨q0, q1, qP, va_K.moved (u := U) (U := U.calling g mk a) (Vm.Alike.refl U.vm) qK, qD⟩, va_recv hKc hPc (ci := 1) (q0 := 0) rfl rfl, fun U hU hW => ⟨rfl, by rw [hU], by rw [hU]; exact hPc, va_K.moved hW.alike hKc, hDc.weaken (fun _ _ _ _ => trivial)⟩⟩ rfl rfl hl.1 rfl (lv_room (Nat.le_of_ble_eq_true rfl)) dL_law_277 ⟨Nat.le_of_ble_eq_true rfl, Nat.le_of_ble_eq_true rfl⟩) hS (fun q _ h => hFc q h) hFc (fun r2 t2 t H_2 locs ht hvm hw2 hB hz1 hk1 hS => ?_)
  obtain ⟨hP1, hK1, hD1⟩ := hB
  rw [ht] at hP1
  obtain ⟨hP, hD⟩ := va_join (wr := wXu h0 q d v) (w1 := wMu h1 q1 d1 t2) hP hD [0, 1, 2, 3, 4, 5, 6, 7, 8] [9, 10, 11, 12, 13, 14, 15, 16, 17, 18, 19, 20, 21, 22] rfl rfl (by decide) (by decide) hk1 hFc hP1 hD1
  have hP : va_P (dC, dI) spCl (wXu h0 q d v ++ wMu h1 q1 d1 t2) H_2 := hP
  have hD : va_D (fun q : Nat => s.heap.size ≤ q) (wXu h0 q d v ++ wMu h1 q1 d1 t2) := hD
  have eE := hw1.1.trans hw2.symm
  have er : r1 = r2 := congrArg Prod.fst eE
  have eu : v.1 = t2 := congrArg Prod.snd eE
  subst eu
  refine lv_icmp_eq (tgt := 433) hx hb dL_law_280 (by decide) (fun c280 => ?_) (fun c280 => ?_)
  · exact kk v _ _ ls hw1.2 hP hD hS hl
  · exact absurd er c280
set_option maxHeartbeats 4000000 in
set_option maxRecDepth 100000 in
theorem law_case5 {p : Program} {l : Launch} {ev : Env} {s : State} {m : MethodId} {below : List Frame} {meth : Method} {c : Code} {dC : Nat → ClassId} {dI : Nat → Nat → Nat} {h0 h1 : Nat} {q q1 : Nat → Nat} {d d1 : Nat → ClassId} {b L : Nat} {xs : Nat → Int32} {Q : State → Prop} (hL : L ≤ 320) (C0 : lw_At p s m meth c b L xs) (hK : va_K (dC, dI) spCl (tyX d ++ tyM d1) s) {i : Nat} (hi : i + 5 ≤ L)
    (kk : ∀ (u : PT × PS) (H : Heap) (locs : List Loc) (ls : Array Slot), sp_Inv u → va_P (dC, dI) spCl (wXu h0 q d u ++ wMu h1 q1 d1 u.1) H → va_D (fun q : Nat => s.heap.size ≤ q) (wXu h0 q d u ++ wMu h1 q1 d1 u.1) → va_S (fun q : Nat => s.heap.size ≤ q) s.heap H locs → lv_has ls 4 [(3, .int (nI i)), (2, .ref h1), (1, .ref h0), (0, .ref b)] → W p l ev room_1 s m #[Value.ref b] below meth c H locs 23 337 Q (F0 m 433 ls []))
    (u : PT × PS) (H : Heap) (locs : List Loc) (ls : Array Slot) (hI : sp_Inv u) (hP : va_P (dC, dI) spCl (wXu h0 q d u ++ wMu h1 q1 d1 u.1) H) (hD : va_D (fun q : Nat => s.heap.size ≤ q) (wXu h0 q d u ++ wMu h1 q1 d1 u.1)) (hS : va_S (fun q : Nat => s.heap.size ≤ q) s.heap H locs) (hl : lv_has ls 4 [(3, .int (nI i)), (2, .ref h1), (1, .ref h0), (0, .ref b)]) : W p l ev room_1 s m #[Value.ref b] below meth c H locs 23 337 Q (F0 m 285 ls []) := by
  obtain ⟨hx, hb, hret, hml, hown, hts0, hX, hbl, hlocks, hgv⟩ := C0
  have hts : ∀ w ∈ lw_all, w.before #[Value.ref b] s = true := fun w h => hts0 w (lw_all_tbl h)
  have hA : ∀ q : Nat, s.heap.size ≤ q → (fun q : Nat => s.heap.size ≤ q) q := fun _ h => h
  have hbA : ¬ (fun q : Nat => s.heap.size ≤ q) b := Nat.not_le.mpr hbl
  refine lv_aload_n hx hb dL_law_285 rfl (lv_at hl 2 rfl) ?_
  refine lv_aload_n hx hb dL_law_286 rfl (lv_at hl 3 rfl) ?_
  refine lv_iload_n hx hb dL_law_287 rfl (lv_at hl 0 rfl) ?_
  refine lv_iconst (v := 1) hx hb dL_law_288 (by decide) ?_
  refine lv_iadd hx hb dL_law_289 ?_
  refine sp_sld hx hb hX hbl hbA hS (i + 1) (nI_add i 1) (by omega) (by omega) dL_law_290 ?_
  have hPc := hP.sub (ws' := wXu h0 q d u) [0, 1, 2, 3, 4, 5, 6, 7, 8, 9, 10, 11, 12, 13] rfl
  have hDc := hD.sub (ws' := wXu h0 q d u) [0, 1, 2, 3, 4, 5, 6, 7, 8, 9, 10, 11, 12, 13] (by decide) rfl
  have hKc := hK.sub (tys' := tyX d) [0, 1, 2, 3, 4, 5, 6, 7, 8, 9, 10, 11, 12] rfl
  have hFc := va_free (wc := wXu h0 q d u) hD hS hA [0, 1, 2, 3, 4, 5, 6, 7, 8, 9, 10, 11, 12, 13] rfl
  refine va_calli (va_runV (As := [.int (xs (i + 1))]) (rest := []) ⟨hx, hb, hml, hown, hts⟩ (mX_fetch l dC dI h0 q d H.size u.1.1 u.1.2.1 u.1.2.2.1 u.1.2.2.2.1 u.1.2.2.2.2.1 u.1.2.2.2.2.2.1 u.1.2.2.2.2.2.2.1 u.1.2.2.2.2.2.2.2.1 u.1.2.2.2.2.2.2.2.2.1 u.1.2.2.2.2.2.2.2.2.2 u.2.1 u.2.2.1 u.2.2.2.1 u.2.2.2.2.1 u.2.2.2.2.2 (xs (i + 1)) hI) (cwV 1 hts (lw_V q101 q102 q103 q5 q104) rfl rfl rfl (by decide +kernel) ⟨Nat.le_of_ble_eq_true rfl, Nat.le_of_ble_eq_true rfl⟩) ⟨fun a U g mk q => by obtain ⟨q0, q1, qP, qK, qD⟩ := q; exact ⟨q0, q1, qP, va_K.moved (u := U) (U := U.calling g mk a) (Vm.Alike.refl U.vm) qK, qD⟩, va_recv hKc hPc (ci := 0) (q0 := 0) rfl rfl, fun U hU hW => ⟨rfl, by rw [hU], by rw [hU]; exact hPc, va_K.moved hW.alike hKc, hDc.weaken (fun _ _ _ _ => trivial)⟩⟩ rfl rfl hl.1 rfl (lv_room (Nat.le_of_ble_eq_true rfl)) dL_law_291 ⟨Nat.le_of_ble_eq_true rfl, Nat.le_of_ble_eq_true rfl⟩) hS (fun q _ h => hFc q h) hFc (fun r1 v t H_1 locs ht hvm hw1 hB hz1 hk1 hS => ?_)
  obtain ⟨hP1, hK1, hD1⟩ := hB
  rw [ht] at hP1
  obtain ⟨hP, hD⟩ := va_join (wr := wMu h1 q1 d1 u.1) (w1 := wXu h0 q d v) hP hD [0, 1, 2, 3, 4, 5, 6, 7, 8, 9, 10, 11, 12, 13] [14, 15, 16, 17, 18, 19, 20, 21, 22] rfl rfl (by decide) (by decide) hk1 hFc hP1 hD1
  have hP : va_P (dC, dI) spCl (wMu h1 q1 d1 u.1 ++ wXu h0 q d v) H_1 := hP
  have hD : va_D (fun q : Nat => s.heap.size ≤ q) (wMu h1 q1 d1 u.1 ++ wXu h0 q d v) := hD
  refine lv_aload_n hx hb dL_law_294 rfl (lv_at hl 1 rfl) ?_
  refine lv_aload_n hx hb dL_law_295 rfl (lv_at hl 3 rfl) ?_
  refine lv_iload_n hx hb dL_law_296 rfl (lv_at hl 0 rfl) ?_
  refine lv_iconst (v := 1) hx hb dL_law_297 (by decide) ?_
  refine lv_iadd hx hb dL_law_298 ?_
  refine sp_sld hx hb hX hbl hbA hS (i + 1) (nI_add i 1) (by omega) (by omega) dL_law_299 ?_
  have hPc := hP.sub (ws' := wMu h1 q1 d1 u.1) [0, 1, 2, 3, 4, 5, 6, 7, 8] rfl
  have hDc := hD.sub (ws' := wMu h1 q1 d1 u.1) [0, 1, 2, 3, 4, 5, 6, 7, 8] (by decide) rfl
  have hKc := hK.sub (tys' := tyM d1) [13, 14, 15, 16, 17, 18, 19, 20] rfl
  have hFc := va_free (wc := wMu h1 q1 d1 u.1) hD hS hA [0, 1, 2, 3, 4, 5, 6, 7, 8] rfl
  refine va_calli (va_runV (As := [.int (xs (i + 1))]) (rest := [.int r1]) ⟨hx, hb, hml, hown, hts⟩ (mM_fetch l dC dI h1 q1 d1 H_1.size u.1.1 u.1.2.1 u.1.2.2.1 u.1.2.2.2.1 u.1.2.2.2.2.1 u.1.2.2.2.2.2.1 u.1.2.2.2.2.2.2.1 u.1.2.2.2.2.2.2.2.1 u.1.2.2.2.2.2.2.2.2.1 u.1.2.2.2.2.2.2.2.2.2 (xs (i + 1)) hI.1) (cwV 1 hts (lw_V q189 q190 q191 q6 q192) rfl rfl rfl (by decide +kernel) ⟨Nat.le_of_ble_eq_true rfl, Nat.le_of_ble_eq_true rfl⟩) ⟨fun a U g mk q => by obtain ⟨q0, q1, qP, qK, qD⟩ := q; exact ⟨q0, q1, qP, va_K.moved (u := U) (U := U.calling g mk a) (Vm.Alike.refl U.vm) qK, qD⟩, va_recv hKc hPc (ci := 1) (q0 := 0) rfl rfl, fun U hU hW => ⟨rfl, by rw [hU], by rw [hU]; exact hPc, va_K.moved hW.alike hKc, hDc.weaken (fun _ _ _ _ => trivial)⟩⟩ rfl rfl hl.1 rfl (lv_room (Nat.le_of_ble_eq_true rfl)) dL_law_300 ⟨Nat.le_of_ble_eq_true rfl, Nat.le_of_ble_eq_true rfl⟩) hS (fun q _ h => hFc q h) hFc (fun r2 t2 t H_2 locs ht hvm hw2 hB hz1 hk1 hS => ?_)
  obtain ⟨hP1, hK1, hD1⟩ := hB
  rw [ht] at hP1
  obtain ⟨hP, hD⟩ := va_join (wr := wXu h0 q d v) (w1 := wMu h1 q1 d1 t2) hP hD [0, 1, 2, 3, 4, 5, 6, 7, 8] [9, 10, 11, 12, 13, 14, 15, 16, 17, 18, 19, 20, 21, 22] rfl rfl (by decide) (by decide) hk1 hFc hP1 hD1
  have hP : va_P (dC, dI) spCl (wXu h0 q d v ++ wMu h1 q1 d1 t2) H_2 := hP
  have hD : va_D (fun q : Nat => s.heap.size ≤ q) (wXu h0 q d v ++ wMu h1 q1 d1 t2) := hD
  have eE := hw1.1.trans hw2.symm
  have er : r1 = r2 := congrArg Prod.fst eE
  have eu : v.1 = t2 := congrArg Prod.snd eE
  subst eu
  refine lv_icmp_eq (tgt := 433) hx hb dL_law_303 (by decide) (fun c303 => ?_) (fun c303 => ?_)
  · exact kk v _ _ ls hw1.2 hP hD hS hl
  · exact absurd er c303
set_option maxHeartbeats 4000000 in
set_option maxRecDepth 100000 in
theorem law_case6 {p : Program} {l : Launch} {ev : Env} {s : State} {m : MethodId} {below : List Frame} {meth : Method} {c : Code} {dC : Nat → ClassId} {dI : Nat → Nat → Nat} {h0 h1 : Nat} {q q1 : Nat → Nat} {d d1 : Nat → ClassId} {b L : Nat} {xs : Nat → Int32} {Q : State → Prop} (hL : L ≤ 320) (C0 : lw_At p s m meth c b L xs) (hK : va_K (dC, dI) spCl (tyX d ++ tyM d1) s) {i : Nat} (hi : i + 5 ≤ L)
    (kk : ∀ (u : PT × PS) (H : Heap) (locs : List Loc) (ls : Array Slot), sp_Inv u → va_P (dC, dI) spCl (wXu h0 q d u ++ wMu h1 q1 d1 u.1) H → va_D (fun q : Nat => s.heap.size ≤ q) (wXu h0 q d u ++ wMu h1 q1 d1 u.1) → va_S (fun q : Nat => s.heap.size ≤ q) s.heap H locs → lv_has ls 4 [(3, .int (nI i)), (2, .ref h1), (1, .ref h0), (0, .ref b)] → W p l ev room_1 s m #[Value.ref b] below meth c H locs 23 337 Q (F0 m 433 ls []))
    (u : PT × PS) (H : Heap) (locs : List Loc) (ls : Array Slot) (hI : sp_Inv u) (hP : va_P (dC, dI) spCl (wXu h0 q d u ++ wMu h1 q1 d1 u.1) H) (hD : va_D (fun q : Nat => s.heap.size ≤ q) (wXu h0 q d u ++ wMu h1 q1 d1 u.1)) (hS : va_S (fun q : Nat => s.heap.size ≤ q) s.heap H locs) (hl : lv_has ls 4 [(3, .int (nI i)), (2, .ref h1), (1, .ref h0), (0, .ref b)]) : W p l ev room_1 s m #[Value.ref b] below meth c H locs 23 337 Q (F0 m 308 ls []) := by
  obtain ⟨hx, hb, hret, hml, hown, hts0, hX, hbl, hlocks, hgv⟩ := C0
  have hts : ∀ w ∈ lw_all, w.before #[Value.ref b] s = true := fun w h => hts0 w (lw_all_tbl h)
  have hA : ∀ q : Nat, s.heap.size ≤ q → (fun q : Nat => s.heap.size ≤ q) q := fun _ h => h
  have hbA : ¬ (fun q : Nat => s.heap.size ≤ q) b := Nat.not_le.mpr hbl
  refine lv_aload_n hx hb dL_law_308 rfl (lv_at hl 2 rfl) ?_
  have hPc := hP.sub (ws' := wXu h0 q d u) [0, 1, 2, 3, 4, 5, 6, 7, 8, 9, 10, 11, 12, 13] rfl
  have hDc := hD.sub (ws' := wXu h0 q d u) [0, 1, 2, 3, 4, 5, 6, 7, 8, 9, 10, 11, 12, 13] (by decide) rfl
  have hKc := hK.sub (tys' := tyX d) [0, 1, 2, 3, 4, 5, 6, 7, 8, 9, 10, 11, 12] rfl
  have hFc := va_free (wc := wXu h0 q d u) hD hS hA [0, 1, 2, 3, 4, 5, 6, 7, 8, 9, 10, 11, 12, 13] rfl
  refine va_calli (va_runV (As := []) (rest := []) ⟨hx, hb, hml, hown, hts⟩ (mX_last l dC dI h0 q d H.size u.1.1 u.1.2.1 u.1.2.2.1 u.1.2.2.2.1 u.1.2.2.2.2.1 u.1.2.2.2.2.2.1 u.1.2.2.2.2.2.2.1 u.1.2.2.2.2.2.2.2.1 u.1.2.2.2.2.2.2.2.2.1 u.1.2.2.2.2.2.2.2.2.2 u.2.1 u.2.2.1 u.2.2.2.1 u.2.2.2.2.1 u.2.2.2.2.2 hI) (cwV 0 hts (lw_V q105 q106 q107 q5 q108) rfl rfl rfl (by decide +kernel) ⟨Nat.le_of_ble_eq_true rfl, Nat.le_of_ble_eq_true rfl⟩) ⟨fun a U g mk q => by obtain ⟨q0, q1, qP, qK, qD⟩ := q; exact ⟨q0, q1, qP, va_K.moved (u := U) (U := U.calling g mk a) (Vm.Alike.refl U.vm) qK, qD⟩, va_recv hKc hPc (ci := 0) (q0 := 0) rfl rfl, fun U hU hW => ⟨rfl, by rw [hU], by rw [hU]; exact hPc, va_K.moved hW.alike hKc, hDc.weaken (fun _ _ _ _ => trivial)⟩⟩ rfl rfl hl.1 rfl (lv_room (Nat.le_of_ble_eq_true rfl)) dL_law_309 ⟨Nat.le_of_ble_eq_true rfl, Nat.le_of_ble_eq_true rfl⟩) hS (fun q _ h => hFc q h) hFc (fun r1 v t H_1 locs ht hvm hw1 hB hz1 hk1 hS => ?_)
  obtain ⟨hP1, hK1, hD1⟩ := hB
  rw [ht] at hP1
  obtain ⟨hP, hD⟩ := va_join (wr := wMu h1 q1 d1 u.1) (w1 := wXu h0 q d v) hP hD [0, 1, 2, 3, 4, 5, 6, 7, 8, 9, 10, 11, 12, 13] [14, 15, 16, 17, 18, 19, 20, 21, 22] rfl rfl (by decide) (by decide) hk1 hFc hP1 hD1
  have hP : va_P (dC, dI) spCl (wMu h1 q1 d1 u.1 ++ wXu h0 q d v) H_1 := hP
  have hD : va_D (fun q : Nat => s.heap.size ≤ q) (wMu h1 q1 d1 u.1 ++ wXu h0 q d v) := hD
  refine lv_aload_n hx hb dL_law_312 rfl (lv_at hl 1 rfl) ?_
  have hPc := hP.sub (ws' := wMu h1 q1 d1 u.1) [0, 1, 2, 3, 4, 5, 6, 7, 8] rfl
  have hDc := hD.sub (ws' := wMu h1 q1 d1 u.1) [0, 1, 2, 3, 4, 5, 6, 7, 8] (by decide) rfl
  have hKc := hK.sub (tys' := tyM d1) [13, 14, 15, 16, 17, 18, 19, 20] rfl
  have hFc := va_free (wc := wMu h1 q1 d1 u.1) hD hS hA [0, 1, 2, 3, 4, 5, 6, 7, 8] rfl
  refine va_calli (va_runV (As := []) (rest := [.int r1]) ⟨hx, hb, hml, hown, hts⟩ (mM_last l dC dI h1 q1 d1 H_1.size u.1.1 u.1.2.1 u.1.2.2.1 u.1.2.2.2.1 u.1.2.2.2.2.1 u.1.2.2.2.2.2.1 u.1.2.2.2.2.2.2.1 u.1.2.2.2.2.2.2.2.1 u.1.2.2.2.2.2.2.2.2.1 u.1.2.2.2.2.2.2.2.2.2 hI.1) (cwV 0 hts (lw_V q193 q194 q195 q6 q196) rfl rfl rfl (by decide +kernel) ⟨Nat.le_of_ble_eq_true rfl, Nat.le_of_ble_eq_true rfl⟩) ⟨fun a U g mk q => by obtain ⟨q0, q1, qP, qK, qD⟩ := q; exact ⟨q0, q1, qP, va_K.moved (u := U) (U := U.calling g mk a) (Vm.Alike.refl U.vm) qK, qD⟩, va_recv hKc hPc (ci := 1) (q0 := 0) rfl rfl, fun U hU hW => ⟨rfl, by rw [hU], by rw [hU]; exact hPc, va_K.moved hW.alike hKc, hDc.weaken (fun _ _ _ _ => trivial)⟩⟩ rfl rfl hl.1 rfl (lv_room (Nat.le_of_ble_eq_true rfl)) dL_law_313 ⟨Nat.le_of_ble_eq_true rfl, Nat.le_of_ble_eq_true rfl⟩) hS (fun q _ h => hFc q h) hFc (fun r2 t2 t H_2 locs ht hvm hw2 hB hz1 hk1 hS => ?_)
  obtain ⟨hP1, hK1, hD1⟩ := hB
  rw [ht] at hP1
  obtain ⟨hP, hD⟩ := va_join (wr := wXu h0 q d v) (w1 := wMu h1 q1 d1 t2) hP hD [0, 1, 2, 3, 4, 5, 6, 7, 8] [9, 10, 11, 12, 13, 14, 15, 16, 17, 18, 19, 20, 21, 22] rfl rfl (by decide) (by decide) hk1 hFc hP1 hD1
  have hP : va_P (dC, dI) spCl (wXu h0 q d v ++ wMu h1 q1 d1 t2) H_2 := hP
  have hD : va_D (fun q : Nat => s.heap.size ≤ q) (wXu h0 q d v ++ wMu h1 q1 d1 t2) := hD
  have eE := hw1.1.trans hw2.symm
  have er : r1 = r2 := congrArg Prod.fst eE
  have eu : v.1 = t2 := congrArg Prod.snd eE
  subst eu
  refine lv_icmp_eq (tgt := 433) hx hb dL_law_316 (by decide) (fun c316 => ?_) (fun c316 => ?_)
  · exact kk v _ _ ls hw1.2 hP hD hS hl
  · exact absurd er c316
set_option maxHeartbeats 4000000 in
set_option maxRecDepth 100000 in
theorem law_case7 {p : Program} {l : Launch} {ev : Env} {s : State} {m : MethodId} {below : List Frame} {meth : Method} {c : Code} {dC : Nat → ClassId} {dI : Nat → Nat → Nat} {h0 h1 : Nat} {q q1 : Nat → Nat} {d d1 : Nat → ClassId} {b L : Nat} {xs : Nat → Int32} {Q : State → Prop} (hL : L ≤ 320) (C0 : lw_At p s m meth c b L xs) (hK : va_K (dC, dI) spCl (tyX d ++ tyM d1) s) {i : Nat} (hi : i + 5 ≤ L)
    (kk : ∀ (u : PT × PS) (H : Heap) (locs : List Loc) (ls : Array Slot), sp_Inv u → va_P (dC, dI) spCl (wXu h0 q d u ++ wMu h1 q1 d1 u.1) H → va_D (fun q : Nat => s.heap.size ≤ q) (wXu h0 q d u ++ wMu h1 q1 d1 u.1) → va_S (fun q : Nat => s.heap.size ≤ q) s.heap H locs → lv_has ls 4 [(3, .int (nI i)), (2, .ref h1), (1, .ref h0), (0, .ref b)] → W p l ev room_1 s m #[Value.ref b] below meth c H locs 23 337 Q (F0 m 433 ls []))
    (u : PT × PS) (H : Heap) (locs : List Loc) (ls : Array Slot) (hI : sp_Inv u) (hP : va_P (dC, dI) spCl (wXu h0 q d u ++ wMu h1 q1 d1 u.1) H) (hD : va_D (fun q : Nat => s.heap.size ≤ q) (wXu h0 q d u ++ wMu h1 q1 d1 u.1)) (hS : va_S (fun q : Nat => s.heap.size ≤ q) s.heap H locs) (hl : lv_has ls 4 [(3, .int (nI i)), (2, .ref h1), (1, .ref h0), (0, .ref b)]) : W p l ev room_1 s m #[Value.ref b] below meth c H locs 23 337 Q (F0 m 321 ls []) := by
  obtain ⟨hx, hb, hret, hml, hown, hts0, hX, hbl, hlocks, hgv⟩ := C0
  have hts : ∀ w ∈ lw_all, w.before #[Value.ref b] s = true := fun w h => hts0 w (lw_all_tbl h)
  have hA : ∀ q : Nat, s.heap.size ≤ q → (fun q : Nat => s.heap.size ≤ q) q := fun _ h => h
  have hbA : ¬ (fun q : Nat => s.heap.size ≤ q) b := Nat.not_le.mpr hbl
  refine lv_aload_n hx hb dL_law_321 rfl (lv_at hl 2 rfl) ?_
  refine lv_aload_n hx hb dL_law_322 rfl (lv_at hl 3 rfl) ?_
  refine lv_iload_n hx hb dL_law_323 rfl (lv_at hl 0 rfl) ?_
  refine lv_iconst (v := 1) hx hb dL_law_324 (by decide) ?_
  refine lv_iadd hx hb dL_law_325 ?_
  refine sp_sld hx hb hX hbl hbA hS (i + 1) (nI_add i 1) (by omega) (by omega) dL_law_326 ?_
  refine lv_aload_n hx hb dL_law_327 rfl (lv_at hl 3 rfl) ?_
  refine lv_iload_n hx hb dL_law_328 rfl (lv_at hl 0 rfl) ?_
  refine lv_iconst (v := 2) hx hb dL_law_329 (by decide) ?_
  refine lv_iadd hx hb dL_law_330 ?_
  refine sp_sld hx hb hX hbl hbA hS (i + 2) (nI_add i 2) (by omega) (by omega) dL_law_331 ?_
  have hPc := hP.sub (ws' := wXu h0 q d u) [0, 1, 2, 3, 4, 5, 6, 7, 8, 9, 10, 11, 12, 13] rfl
  have hDc := hD.sub (ws' := wXu h0 q d u) [0, 1, 2, 3, 4, 5, 6, 7, 8, 9, 10, 11, 12, 13] (by decide) rfl
  have hKc := hK.sub (tys' := tyX d) [0, 1, 2, 3, 4, 5, 6, 7, 8, 9, 10, 11, 12] rfl
  have hFc := va_free (wc := wXu h0 q d u) hD hS hA [0, 1, 2, 3, 4, 5, 6, 7, 8, 9, 10, 11, 12, 13] rfl
  refine va_calli (va_runV (As := [.int (xs (i + 1)), .int (xs (i + 2))]) (rest := []) ⟨hx, hb, hml, hown, hts⟩ (mX_marks l dC dI h0 q d H.size u.1.1 u.1.2.1 u.1.2.2.1 u.1.2.2.2.1 u.1.2.2.2.2.1 u.1.2.2.2.2.2.1 u.1.2.2.2.2.2.2.1 u.1.2.2.2.2.2.2.2.1 u.1.2.2.2.2.2.2.2.2.1 u.1.2.2.2.2.2.2.2.2.2 u.2.1 u.2.2.1 u.2.2.2.1 u.2.2.2.2.1 u.2.2.2.2.2 (xs (i + 1)) (xs (i + 2)) hI) (cwV 2 hts (lw_V q109 q110 q111 q5 q112) rfl rfl rfl (by decide +kernel) ⟨Nat.le_of_ble_eq_true rfl, Nat.le_of_ble_eq_true rfl⟩) ⟨fun a U g mk q => by obtain ⟨q0, q1, qP, qK, qD⟩ := q; exact ⟨q0, q1, qP, va_K.moved (u := U) (U := U.calling g mk a) (Vm.Alike.refl U.vm) qK, qD⟩, va_recv hKc hPc (ci := 0) (q0 := 0) rfl rfl, fun U hU hW => ⟨rfl, by rw [hU], by rw [hU]; exact hPc, va_K.moved hW.alike hKc, hDc.weaken (fun _ _ _ _ => trivial)⟩⟩ rfl rfl hl.1 rfl (lv_room (Nat.le_of_ble_eq_true rfl)) dL_law_332 ⟨Nat.le_of_ble_eq_true rfl, Nat.le_of_ble_eq_true rfl⟩) hS (fun q _ h => hFc q h) hFc (fun r1 v t H_1 locs ht hvm hw1 hB hz1 hk1 hS => ?_)
  obtain ⟨hP1, hK1, hD1⟩ := hB
  rw [ht] at hP1
  obtain ⟨hP, hD⟩ := va_join (wr := wMu h1 q1 d1 u.1) (w1 := wXu h0 q d v) hP hD [0, 1, 2, 3, 4, 5, 6, 7, 8, 9, 10, 11, 12, 13] [14, 15, 16, 17, 18, 19, 20, 21, 22] rfl rfl (by decide) (by decide) hk1 hFc hP1 hD1
  have hP : va_P (dC, dI) spCl (wMu h1 q1 d1 u.1 ++ wXu h0 q d v) H_1 := hP
  have hD : va_D (fun q : Nat => s.heap.size ≤ q) (wMu h1 q1 d1 u.1 ++ wXu h0 q d v) := hD
  refine lv_aload_n hx hb dL_law_335 rfl (lv_at hl 1 rfl) ?_
  refine lv_aload_n hx hb dL_law_336 rfl (lv_at hl 3 rfl) ?_
  refine lv_iload_n hx hb dL_law_337 rfl (lv_at hl 0 rfl) ?_
  refine lv_iconst (v := 1) hx hb dL_law_338 (by decide) ?_
  refine lv_iadd hx hb dL_law_339 ?_
  refine sp_sld hx hb hX hbl hbA hS (i + 1) (nI_add i 1) (by omega) (by omega) dL_law_340 ?_
  refine lv_aload_n hx hb dL_law_341 rfl (lv_at hl 3 rfl) ?_
  refine lv_iload_n hx hb dL_law_342 rfl (lv_at hl 0 rfl) ?_
  refine lv_iconst (v := 2) hx hb dL_law_343 (by decide) ?_
  refine lv_iadd hx hb dL_law_344 ?_
  refine sp_sld hx hb hX hbl hbA hS (i + 2) (nI_add i 2) (by omega) (by omega) dL_law_345 ?_
  have hPc := hP.sub (ws' := wMu h1 q1 d1 u.1) [0, 1, 2, 3, 4, 5, 6, 7, 8] rfl
  have hDc := hD.sub (ws' := wMu h1 q1 d1 u.1) [0, 1, 2, 3, 4, 5, 6, 7, 8] (by decide) rfl
  have hKc := hK.sub (tys' := tyM d1) [13, 14, 15, 16, 17, 18, 19, 20] rfl
  have hFc := va_free (wc := wMu h1 q1 d1 u.1) hD hS hA [0, 1, 2, 3, 4, 5, 6, 7, 8] rfl
  refine va_calli (va_runV (As := [.int (xs (i + 1)), .int (xs (i + 2))]) (rest := [.int r1]) ⟨hx, hb, hml, hown, hts⟩ (mM_marks l dC dI h1 q1 d1 H_1.size u.1.1 u.1.2.1 u.1.2.2.1 u.1.2.2.2.1 u.1.2.2.2.2.1 u.1.2.2.2.2.2.1 u.1.2.2.2.2.2.2.1 u.1.2.2.2.2.2.2.2.1 u.1.2.2.2.2.2.2.2.2.1 u.1.2.2.2.2.2.2.2.2.2 (xs (i + 1)) (xs (i + 2)) hI.1) (cwV 2 hts (lw_V q197 q198 q199 q6 q200) rfl rfl rfl (by decide +kernel) ⟨Nat.le_of_ble_eq_true rfl, Nat.le_of_ble_eq_true rfl⟩) ⟨fun a U g mk q => by obtain ⟨q0, q1, qP, qK, qD⟩ := q; exact ⟨q0, q1, qP, va_K.moved (u := U) (U := U.calling g mk a) (Vm.Alike.refl U.vm) qK, qD⟩, va_recv hKc hPc (ci := 1) (q0 := 0) rfl rfl, fun U hU hW => ⟨rfl, by rw [hU], by rw [hU]; exact hPc, va_K.moved hW.alike hKc, hDc.weaken (fun _ _ _ _ => trivial)⟩⟩ rfl rfl hl.1 rfl (lv_room (Nat.le_of_ble_eq_true rfl)) dL_law_346 ⟨Nat.le_of_ble_eq_true rfl, Nat.le_of_ble_eq_true rfl⟩) hS (fun q _ h => hFc q h) hFc (fun r2 t2 t H_2 locs ht hvm hw2 hB hz1 hk1 hS => ?_)
  obtain ⟨hP1, hK1, hD1⟩ := hB
  rw [ht] at hP1
  obtain ⟨hP, hD⟩ := va_join (wr := wXu h0 q d v) (w1 := wMu h1 q1 d1 t2) hP hD [0, 1, 2, 3, 4, 5, 6, 7, 8] [9, 10, 11, 12, 13, 14, 15, 16, 17, 18, 19, 20, 21, 22] rfl rfl (by decide) (by decide) hk1 hFc hP1 hD1
  have hP : va_P (dC, dI) spCl (wXu h0 q d v ++ wMu h1 q1 d1 t2) H_2 := hP
  have hD : va_D (fun q : Nat => s.heap.size ≤ q) (wXu h0 q d v ++ wMu h1 q1 d1 t2) := hD
  have eE := hw1.1.trans hw2.symm
  have er : r1 = r2 := congrArg Prod.fst eE
  have eu : v.1 = t2 := congrArg Prod.snd eE
  subst eu
  refine lv_icmp_eq (tgt := 433) hx hb dL_law_349 (by decide) (fun c349 => ?_) (fun c349 => ?_)
  · exact kk v _ _ ls hw1.2 hP hD hS hl
  · exact absurd er c349
end
section
set_option maxHeartbeats 4000000 in
set_option maxRecDepth 100000 in
theorem law_case8 {p : Program} {l : Launch} {ev : Env} {s : State} {m : MethodId} {below : List Frame} {meth : Method} {c : Code} {dC : Nat → ClassId} {dI : Nat → Nat → Nat} {h0 h1 : Nat} {q q1 : Nat → Nat} {d d1 : Nat → ClassId} {b L : Nat} {xs : Nat → Int32} {Q : State → Prop} (hL : L ≤ 320) (C0 : lw_At p s m meth c b L xs) (hK : va_K (dC, dI) spCl (tyX d ++ tyM d1) s) {i : Nat} (hi : i + 5 ≤ L)
    (kk : ∀ (u : PT × PS) (H : Heap) (locs : List Loc) (ls : Array Slot), sp_Inv u → va_P (dC, dI) spCl (wXu h0 q d u ++ wMu h1 q1 d1 u.1) H → va_D (fun q : Nat => s.heap.size ≤ q) (wXu h0 q d u ++ wMu h1 q1 d1 u.1) → va_S (fun q : Nat => s.heap.size ≤ q) s.heap H locs → lv_has ls 4 [(3, .int (nI i)), (2, .ref h1), (1, .ref h0), (0, .ref b)] → W p l ev room_1 s m #[Value.ref b] below meth c H locs 23 337 Q (F0 m 433 ls []))
    (u : PT × PS) (H : Heap) (locs : List Loc) (ls : Array Slot) (hI : sp_Inv u) (hP : va_P (dC, dI) spCl (wXu h0 q d u ++ wMu h1 q1 d1 u.1) H) (hD : va_D (fun q : Nat => s.heap.size ≤ q) (wXu h0 q d u ++ wMu h1 q1 d1 u.1)) (hS : va_S (fun q : Nat => s.heap.size ≤ q) s.heap H locs) (hl : lv_has ls 4 [(3, .int (nI i)), (2, .ref h1), (1, .ref h0), (0, .ref b)]) : W p l ev room_1 s m #[Value.ref b] below meth c H locs 23 337 Q (F0 m 354 ls []) := by
  obtain ⟨hx, hb, hret, hml, hown, hts0, hX, hbl, hlocks, hgv⟩ := C0
  have hts : ∀ w ∈ lw_all, w.before #[Value.ref b] s = true := fun w h => hts0 w (lw_all_tbl h)
  have hA : ∀ q : Nat, s.heap.size ≤ q → (fun q : Nat => s.heap.size ≤ q) q := fun _ h => h
  have hbA : ¬ (fun q : Nat => s.heap.size ≤ q) b := Nat.not_le.mpr hbl
  refine lv_aload_n hx hb dL_law_354 rfl (lv_at hl 2 rfl) ?_
  refine lv_aload_n hx hb dL_law_355 rfl (lv_at hl 3 rfl) ?_
  refine lv_iload_n hx hb dL_law_356 rfl (lv_at hl 0 rfl) ?_
  refine lv_iconst (v := 1) hx hb dL_law_357 (by decide) ?_
  refine lv_iadd hx hb dL_law_358 ?_
  refine sp_sld hx hb hX hbl hbA hS (i + 1) (nI_add i 1) (by omega) (by omega) dL_law_359 ?_
  have hPc := hP.sub (ws' := wXu h0 q d u) [0, 1, 2, 3, 4, 5, 6, 7, 8, 9, 10, 11, 12, 13] rfl
  have hDc := hD.sub (ws' := wXu h0 q d u) [0, 1, 2, 3, 4, 5, 6, 7, 8, 9, 10, 11, 12, 13] (by decide) rfl
  have hKc := hK.sub (tys' := tyX d) [0, 1, 2, 3, 4, 5, 6, 7, 8, 9, 10, 11, 12] rfl
  have hFc := va_free (wc := wXu h0 q d u) hD hS hA [0, 1, 2, 3, 4, 5, 6, 7, 8, 9, 10, 11, 12, 13] rfl
  refine va_calli (va_runV (As := [.int (xs (i + 1))]) (rest := []) ⟨hx, hb, hml, hown, hts⟩ (mX_hostMark l dC dI h0 q d H.size u.1.1 u.1.2.1 u.1.2.2.1 u.1.2.2.2.1 u.1.2.2.2.2.1 u.1.2.2.2.2.2.1 u.1.2.2.2.2.2.2.1 u.1.2.2.2.2.2.2.2.1 u.1.2.2.2.2.2.2.2.2.1 u.1.2.2.2.2.2.2.2.2.2 u.2.1 u.2.2.1 u.2.2.2.1 u.2.2.2.2.1 u.2.2.2.2.2 (xs (i + 1)) hI) (cwV 1 hts (lw_V q113 q114 q115 q5 q116) rfl rfl rfl (by decide +kernel) ⟨Nat.le_of_ble_eq_true rfl, Nat.le_of_ble_eq_true rfl⟩) ⟨fun a U g mk q => by obtain ⟨q0, q1, qP, qK, qD⟩ := q; exact ⟨q0, q1, qP, va_K.moved (u := U) (U := U.calling g mk a) (Vm.Alike.refl U.vm) qK, qD⟩, va_recv hKc hPc (ci := 0) (q0 := 0) rfl rfl, fun U hU hW => ⟨rfl, by rw [hU], by rw [hU]; exact hPc, va_K.moved hW.alike hKc, hDc.weaken (fun _ _ _ _ => trivial)⟩⟩ rfl rfl hl.1 rfl (lv_room (Nat.le_of_ble_eq_true rfl)) dL_law_360 ⟨Nat.le_of_ble_eq_true rfl, Nat.le_of_ble_eq_true rfl⟩) hS (fun q _ h => hFc q h) hFc (fun r1 v t H_1 locs ht hvm hw1 hB hz1 hk1 hS => ?_)
  obtain ⟨hP1, hK1, hD1⟩ := hB
  rw [ht] at hP1
  obtain ⟨hP, hD⟩ := va_join (wr := wMu h1 q1 d1 u.1) (w1 := wXu h0 q d v) hP hD [0, 1, 2, 3, 4, 5, 6, 7, 8, 9, 10, 11, 12, 13] [14, 15, 16, 17, 18, 19, 20, 21, 22] rfl rfl (by decide) (by decide) hk1 hFc hP1 hD1
  have hP : va_P (dC, dI) spCl (wMu h1 q1 d1 u.1 ++ wXu h0 q d v) H_1 := hP
  have hD : va_D (fun q : Nat => s.heap.size ≤ q) (wMu h1 q1 d1 u.1 ++ wXu h0 q d v) := hD
  refine lv_aload_n hx hb dL_law_363 rfl (lv_at hl 1 rfl) ?_
  refine lv_aload_n hx hb dL_law_364 rfl (lv_at hl 3 rfl) ?_
  refine lv_iload_n hx hb dL_law_365 rfl (lv_at hl 0 rfl) ?_
  refine lv_iconst (v := 1) hx hb dL_law_366 (by decide) ?_
  refine lv_iadd hx hb dL_law_367 ?_
  refine sp_sld hx hb hX hbl hbA hS (i + 1) (nI_add i 1) (by omega) (by omega) dL_law_368 ?_
  have hPc := hP.sub (ws' := wMu h1 q1 d1 u.1) [0, 1, 2, 3, 4, 5, 6, 7, 8] rfl
  have hDc := hD.sub (ws' := wMu h1 q1 d1 u.1) [0, 1, 2, 3, 4, 5, 6, 7, 8] (by decide) rfl
  have hKc := hK.sub (tys' := tyM d1) [13, 14, 15, 16, 17, 18, 19, 20] rfl
  have hFc := va_free (wc := wMu h1 q1 d1 u.1) hD hS hA [0, 1, 2, 3, 4, 5, 6, 7, 8] rfl
  refine va_calli (va_runV (As := [.int (xs (i + 1))]) (rest := [.int r1]) ⟨hx, hb, hml, hown, hts⟩ (mM_hostMark l dC dI h1 q1 d1 H_1.size u.1.1 u.1.2.1 u.1.2.2.1 u.1.2.2.2.1 u.1.2.2.2.2.1 u.1.2.2.2.2.2.1 u.1.2.2.2.2.2.2.1 u.1.2.2.2.2.2.2.2.1 u.1.2.2.2.2.2.2.2.2.1 u.1.2.2.2.2.2.2.2.2.2 (xs (i + 1)) hI.1) (cwV 1 hts (lw_V q201 q202 q203 q6 q204) rfl rfl rfl (by decide +kernel) ⟨Nat.le_of_ble_eq_true rfl, Nat.le_of_ble_eq_true rfl⟩) ⟨fun a U g mk q => by obtain ⟨q0, q1, qP, qK, qD⟩ := q; exact ⟨q0, q1, qP, va_K.moved (u := U) (U := U.calling g mk a) (Vm.Alike.refl U.vm) qK, qD⟩, va_recv hKc hPc (ci := 1) (q0 := 0) rfl rfl, fun U hU hW => ⟨rfl, by rw [hU], by rw [hU]; exact hPc, va_K.moved hW.alike hKc, hDc.weaken (fun _ _ _ _ => trivial)⟩⟩ rfl rfl hl.1 rfl (lv_room (Nat.le_of_ble_eq_true rfl)) dL_law_369 ⟨Nat.le_of_ble_eq_true rfl, Nat.le_of_ble_eq_true rfl⟩) hS (fun q _ h => hFc q h) hFc (fun r2 t2 t H_2 locs ht hvm hw2 hB hz1 hk1 hS => ?_)
  obtain ⟨hP1, hK1, hD1⟩ := hB
  rw [ht] at hP1
  obtain ⟨hP, hD⟩ := va_join (wr := wXu h0 q d v) (w1 := wMu h1 q1 d1 t2) hP hD [0, 1, 2, 3, 4, 5, 6, 7, 8] [9, 10, 11, 12, 13, 14, 15, 16, 17, 18, 19, 20, 21, 22] rfl rfl (by decide) (by decide) hk1 hFc hP1 hD1
  have hP : va_P (dC, dI) spCl (wXu h0 q d v ++ wMu h1 q1 d1 t2) H_2 := hP
  have hD : va_D (fun q : Nat => s.heap.size ≤ q) (wXu h0 q d v ++ wMu h1 q1 d1 t2) := hD
  have eE := hw1.1.trans hw2.symm
  have er : r1 = r2 := congrArg Prod.fst eE
  have eu : v.1 = t2 := congrArg Prod.snd eE
  subst eu
  refine lv_icmp_eq (tgt := 433) hx hb dL_law_372 (by decide) (fun c372 => ?_) (fun c372 => ?_)
  · exact kk v _ _ ls hw1.2 hP hD hS hl
  · exact absurd er c372
set_option maxHeartbeats 4000000 in
set_option maxRecDepth 100000 in
theorem law_case9 {p : Program} {l : Launch} {ev : Env} {s : State} {m : MethodId} {below : List Frame} {meth : Method} {c : Code} {dC : Nat → ClassId} {dI : Nat → Nat → Nat} {h0 h1 : Nat} {q q1 : Nat → Nat} {d d1 : Nat → ClassId} {b L : Nat} {xs : Nat → Int32} {Q : State → Prop} (hL : L ≤ 320) (C0 : lw_At p s m meth c b L xs) (hK : va_K (dC, dI) spCl (tyX d ++ tyM d1) s) {i : Nat} (hi : i + 5 ≤ L)
    (kk : ∀ (u : PT × PS) (H : Heap) (locs : List Loc) (ls : Array Slot), sp_Inv u → va_P (dC, dI) spCl (wXu h0 q d u ++ wMu h1 q1 d1 u.1) H → va_D (fun q : Nat => s.heap.size ≤ q) (wXu h0 q d u ++ wMu h1 q1 d1 u.1) → va_S (fun q : Nat => s.heap.size ≤ q) s.heap H locs → lv_has ls 4 [(3, .int (nI i)), (2, .ref h1), (1, .ref h0), (0, .ref b)] → W p l ev room_1 s m #[Value.ref b] below meth c H locs 23 337 Q (F0 m 433 ls []))
    (u : PT × PS) (H : Heap) (locs : List Loc) (ls : Array Slot) (hI : sp_Inv u) (hP : va_P (dC, dI) spCl (wXu h0 q d u ++ wMu h1 q1 d1 u.1) H) (hD : va_D (fun q : Nat => s.heap.size ≤ q) (wXu h0 q d u ++ wMu h1 q1 d1 u.1)) (hS : va_S (fun q : Nat => s.heap.size ≤ q) s.heap H locs) (hl : lv_has ls 4 [(3, .int (nI i)), (2, .ref h1), (1, .ref h0), (0, .ref b)]) : W p l ev room_1 s m #[Value.ref b] below meth c H locs 23 337 Q (F0 m 377 ls []) := by
  obtain ⟨hx, hb, hret, hml, hown, hts0, hX, hbl, hlocks, hgv⟩ := C0
  have hts : ∀ w ∈ lw_all, w.before #[Value.ref b] s = true := fun w h => hts0 w (lw_all_tbl h)
  have hA : ∀ q : Nat, s.heap.size ≤ q → (fun q : Nat => s.heap.size ≤ q) q := fun _ h => h
  have hbA : ¬ (fun q : Nat => s.heap.size ≤ q) b := Nat.not_le.mpr hbl
  refine lv_aload_n hx hb dL_law_377 rfl (lv_at hl 2 rfl) ?_
  refine lv_aload_n hx hb dL_law_378 rfl (lv_at hl 3 rfl) ?_
  refine lv_iload_n hx hb dL_law_379 rfl (lv_at hl 0 rfl) ?_
  refine lv_iconst (v := 1) hx hb dL_law_380 (by decide) ?_
  refine lv_iadd hx hb dL_law_381 ?_
  refine sp_sld hx hb hX hbl hbA hS (i + 1) (nI_add i 1) (by omega) (by omega) dL_law_382 ?_
  have hPc := hP.sub (ws' := wXu h0 q d u) [0, 1, 2, 3, 4, 5, 6, 7, 8, 9, 10, 11, 12, 13] rfl
  have hDc := hD.sub (ws' := wXu h0 q d u) [0, 1, 2, 3, 4, 5, 6, 7, 8, 9, 10, 11, 12, 13] (by decide) rfl
  have hKc := hK.sub (tys' := tyX d) [0, 1, 2, 3, 4, 5, 6, 7, 8, 9, 10, 11, 12] rfl
  have hFc := va_free (wc := wXu h0 q d u) hD hS hA [0, 1, 2, 3, 4, 5, 6, 7, 8, 9, 10, 11, 12, 13] rfl
  refine va_calli (va_runV (As := [.int (xs (i + 1))]) (rest := []) ⟨hx, hb, hml, hown, hts⟩ (mX_age l dC dI h0 q d H.size u.1.1 u.1.2.1 u.1.2.2.1 u.1.2.2.2.1 u.1.2.2.2.2.1 u.1.2.2.2.2.2.1 u.1.2.2.2.2.2.2.1 u.1.2.2.2.2.2.2.2.1 u.1.2.2.2.2.2.2.2.2.1 u.1.2.2.2.2.2.2.2.2.2 u.2.1 u.2.2.1 u.2.2.2.1 u.2.2.2.2.1 u.2.2.2.2.2 (xs (i + 1)) hI) (cwV 1 hts (lw_V q117 q118 q119 q5 q120) rfl rfl rfl (by decide +kernel) ⟨Nat.le_of_ble_eq_true rfl, Nat.le_of_ble_eq_true rfl⟩) ⟨fun a U g mk q => by obtain ⟨q0, q1, qP, qK, qD⟩ := q; exact ⟨q0, q1, qP, va_K.moved (u := U) (U := U.calling g mk a) (Vm.Alike.refl U.vm) qK, qD⟩, va_recv hKc hPc (ci := 0) (q0 := 0) rfl rfl, fun U hU hW => ⟨rfl, by rw [hU], by rw [hU]; exact hPc, va_K.moved hW.alike hKc, hDc.weaken (fun _ _ _ _ => trivial)⟩⟩ rfl rfl hl.1 rfl (lv_room (Nat.le_of_ble_eq_true rfl)) dL_law_383 ⟨Nat.le_of_ble_eq_true rfl, Nat.le_of_ble_eq_true rfl⟩) hS (fun q _ h => hFc q h) hFc (fun r1 v t H_1 locs ht hvm hw1 hB hz1 hk1 hS => ?_)
  obtain ⟨hP1, hK1, hD1⟩ := hB
  rw [ht] at hP1
  obtain ⟨hP, hD⟩ := va_join (wr := wMu h1 q1 d1 u.1) (w1 := wXu h0 q d v) hP hD [0, 1, 2, 3, 4, 5, 6, 7, 8, 9, 10, 11, 12, 13] [14, 15, 16, 17, 18, 19, 20, 21, 22] rfl rfl (by decide) (by decide) hk1 hFc hP1 hD1
  have hP : va_P (dC, dI) spCl (wMu h1 q1 d1 u.1 ++ wXu h0 q d v) H_1 := hP
  have hD : va_D (fun q : Nat => s.heap.size ≤ q) (wMu h1 q1 d1 u.1 ++ wXu h0 q d v) := hD
  refine lv_aload_n hx hb dL_law_386 rfl (lv_at hl 1 rfl) ?_
  refine lv_aload_n hx hb dL_law_387 rfl (lv_at hl 3 rfl) ?_
  refine lv_iload_n hx hb dL_law_388 rfl (lv_at hl 0 rfl) ?_
  refine lv_iconst (v := 1) hx hb dL_law_389 (by decide) ?_
  refine lv_iadd hx hb dL_law_390 ?_
  refine sp_sld hx hb hX hbl hbA hS (i + 1) (nI_add i 1) (by omega) (by omega) dL_law_391 ?_
  have hPc := hP.sub (ws' := wMu h1 q1 d1 u.1) [0, 1, 2, 3, 4, 5, 6, 7, 8] rfl
  have hDc := hD.sub (ws' := wMu h1 q1 d1 u.1) [0, 1, 2, 3, 4, 5, 6, 7, 8] (by decide) rfl
  have hKc := hK.sub (tys' := tyM d1) [13, 14, 15, 16, 17, 18, 19, 20] rfl
  have hFc := va_free (wc := wMu h1 q1 d1 u.1) hD hS hA [0, 1, 2, 3, 4, 5, 6, 7, 8] rfl
  refine va_calli (va_runV (As := [.int (xs (i + 1))]) (rest := [.int r1]) ⟨hx, hb, hml, hown, hts⟩ (mM_age l dC dI h1 q1 d1 H_1.size u.1.1 u.1.2.1 u.1.2.2.1 u.1.2.2.2.1 u.1.2.2.2.2.1 u.1.2.2.2.2.2.1 u.1.2.2.2.2.2.2.1 u.1.2.2.2.2.2.2.2.1 u.1.2.2.2.2.2.2.2.2.1 u.1.2.2.2.2.2.2.2.2.2 (xs (i + 1)) hI.1) (cwV 1 hts (lw_V q205 q206 q207 q6 q208) rfl rfl rfl (by decide +kernel) ⟨Nat.le_of_ble_eq_true rfl, Nat.le_of_ble_eq_true rfl⟩) ⟨fun a U g mk q => by obtain ⟨q0, q1, qP, qK, qD⟩ := q; exact ⟨q0, q1, qP, va_K.moved (u := U) (U := U.calling g mk a) (Vm.Alike.refl U.vm) qK, qD⟩, va_recv hKc hPc (ci := 1) (q0 := 0) rfl rfl, fun U hU hW => ⟨rfl, by rw [hU], by rw [hU]; exact hPc, va_K.moved hW.alike hKc, hDc.weaken (fun _ _ _ _ => trivial)⟩⟩ rfl rfl hl.1 rfl (lv_room (Nat.le_of_ble_eq_true rfl)) dL_law_392 ⟨Nat.le_of_ble_eq_true rfl, Nat.le_of_ble_eq_true rfl⟩) hS (fun q _ h => hFc q h) hFc (fun r2 t2 t H_2 locs ht hvm hw2 hB hz1 hk1 hS => ?_)
  obtain ⟨hP1, hK1, hD1⟩ := hB
  rw [ht] at hP1
  obtain ⟨hP, hD⟩ := va_join (wr := wXu h0 q d v) (w1 := wMu h1 q1 d1 t2) hP hD [0, 1, 2, 3, 4, 5, 6, 7, 8] [9, 10, 11, 12, 13, 14, 15, 16, 17, 18, 19, 20, 21, 22] rfl rfl (by decide) (by decide) hk1 hFc hP1 hD1
  have hP : va_P (dC, dI) spCl (wXu h0 q d v ++ wMu h1 q1 d1 t2) H_2 := hP
  have hD : va_D (fun q : Nat => s.heap.size ≤ q) (wXu h0 q d v ++ wMu h1 q1 d1 t2) := hD
  have eE := hw1.1.trans hw2.symm
  have er : r1 = r2 := congrArg Prod.fst eE
  have eu : v.1 = t2 := congrArg Prod.snd eE
  subst eu
  refine lv_icmp_eq (tgt := 433) hx hb dL_law_395 (by decide) (fun c395 => ?_) (fun c395 => ?_)
  · exact kk v _ _ ls hw1.2 hP hD hS hl
  · exact absurd er c395
set_option maxHeartbeats 4000000 in
set_option maxRecDepth 100000 in
theorem law_case10 {p : Program} {l : Launch} {ev : Env} {s : State} {m : MethodId} {below : List Frame} {meth : Method} {c : Code} {dC : Nat → ClassId} {dI : Nat → Nat → Nat} {h0 h1 : Nat} {q q1 : Nat → Nat} {d d1 : Nat → ClassId} {b L : Nat} {xs : Nat → Int32} {Q : State → Prop} (hL : L ≤ 320) (C0 : lw_At p s m meth c b L xs) (hK : va_K (dC, dI) spCl (tyX d ++ tyM d1) s) {i : Nat} (hi : i + 5 ≤ L)
    (kk : ∀ (u : PT × PS) (H : Heap) (locs : List Loc) (ls : Array Slot), sp_Inv u → va_P (dC, dI) spCl (wXu h0 q d u ++ wMu h1 q1 d1 u.1) H → va_D (fun q : Nat => s.heap.size ≤ q) (wXu h0 q d u ++ wMu h1 q1 d1 u.1) → va_S (fun q : Nat => s.heap.size ≤ q) s.heap H locs → lv_has ls 4 [(3, .int (nI i)), (2, .ref h1), (1, .ref h0), (0, .ref b)] → W p l ev room_1 s m #[Value.ref b] below meth c H locs 23 337 Q (F0 m 433 ls []))
    (u : PT × PS) (H : Heap) (locs : List Loc) (ls : Array Slot) (hI : sp_Inv u) (hP : va_P (dC, dI) spCl (wXu h0 q d u ++ wMu h1 q1 d1 u.1) H) (hD : va_D (fun q : Nat => s.heap.size ≤ q) (wXu h0 q d u ++ wMu h1 q1 d1 u.1)) (hS : va_S (fun q : Nat => s.heap.size ≤ q) s.heap H locs) (hl : lv_has ls 4 [(3, .int (nI i)), (2, .ref h1), (1, .ref h0), (0, .ref b)]) : W p l ev room_1 s m #[Value.ref b] below meth c H locs 23 337 Q (F0 m 400 ls []) := by
  obtain ⟨hx, hb, hret, hml, hown, hts0, hX, hbl, hlocks, hgv⟩ := C0
  have hts : ∀ w ∈ lw_all, w.before #[Value.ref b] s = true := fun w h => hts0 w (lw_all_tbl h)
  have hA : ∀ q : Nat, s.heap.size ≤ q → (fun q : Nat => s.heap.size ≤ q) q := fun _ h => h
  have hbA : ¬ (fun q : Nat => s.heap.size ≤ q) b := Nat.not_le.mpr hbl
  refine lv_aload_n hx hb dL_law_400 rfl (lv_at hl 2 rfl) ?_
  refine lv_aload_n hx hb dL_law_401 rfl (lv_at hl 3 rfl) ?_
  refine lv_iload_n hx hb dL_law_402 rfl (lv_at hl 0 rfl) ?_
  refine lv_iconst (v := 1) hx hb dL_law_403 (by decide) ?_
  refine lv_iadd hx hb dL_law_404 ?_
  refine sp_sld hx hb hX hbl hbA hS (i + 1) (nI_add i 1) (by omega) (by omega) dL_law_405 ?_
  refine lv_aload_n hx hb dL_law_406 rfl (lv_at hl 3 rfl) ?_
  refine lv_iload_n hx hb dL_law_407 rfl (lv_at hl 0 rfl) ?_
  refine lv_iconst (v := 2) hx hb dL_law_408 (by decide) ?_
  refine lv_iadd hx hb dL_law_409 ?_
  refine sp_sld hx hb hX hbl hbA hS (i + 2) (nI_add i 2) (by omega) (by omega) dL_law_410 ?_
  have hPc := hP.sub (ws' := wXu h0 q d u) [0, 1, 2, 3, 4, 5, 6, 7, 8, 9, 10, 11, 12, 13] rfl
  have hDc := hD.sub (ws' := wXu h0 q d u) [0, 1, 2, 3, 4, 5, 6, 7, 8, 9, 10, 11, 12, 13] (by decide) rfl
  have hKc := hK.sub (tys' := tyX d) [0, 1, 2, 3, 4, 5, 6, 7, 8, 9, 10, 11, 12] rfl
  have hFc := va_free (wc := wXu h0 q d u) hD hS hA [0, 1, 2, 3, 4, 5, 6, 7, 8, 9, 10, 11, 12, 13] rfl
  refine va_calli (va_runV (As := [.int (xs (i + 1)), .int (xs (i + 2))]) (rest := []) ⟨hx, hb, hml, hown, hts⟩ (mX_frameCell l dC dI h0 q d H.size u.1.1 u.1.2.1 u.1.2.2.1 u.1.2.2.2.1 u.1.2.2.2.2.1 u.1.2.2.2.2.2.1 u.1.2.2.2.2.2.2.1 u.1.2.2.2.2.2.2.2.1 u.1.2.2.2.2.2.2.2.2.1 u.1.2.2.2.2.2.2.2.2.2 u.2.1 u.2.2.1 u.2.2.2.1 u.2.2.2.2.1 u.2.2.2.2.2 (xs (i + 1)) (xs (i + 2)) hI) (cwV 2 hts (lw_V q121 q122 q123 q5 q124) rfl rfl rfl (by decide +kernel) ⟨Nat.le_of_ble_eq_true rfl, Nat.le_of_ble_eq_true rfl⟩) ⟨fun a U g mk q => by obtain ⟨q0, q1, qP, qK, qD⟩ := q; exact ⟨q0, q1, qP, va_K.moved (u := U) (U := U.calling g mk a) (Vm.Alike.refl U.vm) qK, qD⟩, va_recv hKc hPc (ci := 0) (q0 := 0) rfl rfl, fun U hU hW => ⟨rfl, by rw [hU], by rw [hU]; exact hPc, va_K.moved hW.alike hKc, hDc.weaken (fun _ _ _ _ => trivial)⟩⟩ rfl rfl hl.1 rfl (lv_room (Nat.le_of_ble_eq_true rfl)) dL_law_411 ⟨Nat.le_of_ble_eq_true rfl, Nat.le_of_ble_eq_true rfl⟩) hS (fun q _ h => hFc q h) hFc (fun r1 v t H_1 locs ht hvm hw1 hB hz1 hk1 hS => ?_)
  obtain ⟨hP1, hK1, hD1⟩ := hB
  rw [ht] at hP1
  obtain ⟨hP, hD⟩ := va_join (wr := wMu h1 q1 d1 u.1) (w1 := wXu h0 q d v) hP hD [0, 1, 2, 3, 4, 5, 6, 7, 8, 9, 10, 11, 12, 13] [14, 15, 16, 17, 18, 19, 20, 21, 22] rfl rfl (by decide) (by decide) hk1 hFc hP1 hD1
  have hP : va_P (dC, dI) spCl (wMu h1 q1 d1 u.1 ++ wXu h0 q d v) H_1 := hP
  have hD : va_D (fun q : Nat => s.heap.size ≤ q) (wMu h1 q1 d1 u.1 ++ wXu h0 q d v) := hD
  refine lv_aload_n hx hb dL_law_414 rfl (lv_at hl 1 rfl) ?_
  refine lv_aload_n hx hb dL_law_415 rfl (lv_at hl 3 rfl) ?_
  refine lv_iload_n hx hb dL_law_416 rfl (lv_at hl 0 rfl) ?_
  refine lv_iconst (v := 1) hx hb dL_law_417 (by decide) ?_
  refine lv_iadd hx hb dL_law_418 ?_
  refine sp_sld hx hb hX hbl hbA hS (i + 1) (nI_add i 1) (by omega) (by omega) dL_law_419 ?_
  refine lv_aload_n hx hb dL_law_420 rfl (lv_at hl 3 rfl) ?_
  refine lv_iload_n hx hb dL_law_421 rfl (lv_at hl 0 rfl) ?_
  refine lv_iconst (v := 2) hx hb dL_law_422 (by decide) ?_
  refine lv_iadd hx hb dL_law_423 ?_
  refine sp_sld hx hb hX hbl hbA hS (i + 2) (nI_add i 2) (by omega) (by omega) dL_law_424 ?_
  have hPc := hP.sub (ws' := wMu h1 q1 d1 u.1) [0, 1, 2, 3, 4, 5, 6, 7, 8] rfl
  have hDc := hD.sub (ws' := wMu h1 q1 d1 u.1) [0, 1, 2, 3, 4, 5, 6, 7, 8] (by decide) rfl
  have hKc := hK.sub (tys' := tyM d1) [13, 14, 15, 16, 17, 18, 19, 20] rfl
  have hFc := va_free (wc := wMu h1 q1 d1 u.1) hD hS hA [0, 1, 2, 3, 4, 5, 6, 7, 8] rfl
  refine va_calli (va_runV (As := [.int (xs (i + 1)), .int (xs (i + 2))]) (rest := [.int r1]) ⟨hx, hb, hml, hown, hts⟩ (mM_frameCell l dC dI h1 q1 d1 H_1.size u.1.1 u.1.2.1 u.1.2.2.1 u.1.2.2.2.1 u.1.2.2.2.2.1 u.1.2.2.2.2.2.1 u.1.2.2.2.2.2.2.1 u.1.2.2.2.2.2.2.2.1 u.1.2.2.2.2.2.2.2.2.1 u.1.2.2.2.2.2.2.2.2.2 (xs (i + 1)) (xs (i + 2)) hI.1) (cwV 2 hts (lw_V q209 q210 q211 q6 q212) rfl rfl rfl (by decide +kernel) ⟨Nat.le_of_ble_eq_true rfl, Nat.le_of_ble_eq_true rfl⟩) ⟨fun a U g mk q => by obtain ⟨q0, q1, qP, qK, qD⟩ := q; exact ⟨q0, q1, qP, va_K.moved (u := U) (U := U.calling g mk a) (Vm.Alike.refl U.vm) qK, qD⟩, va_recv hKc hPc (ci := 1) (q0 := 0) rfl rfl, fun U hU hW => ⟨rfl, by rw [hU], by rw [hU]; exact hPc, va_K.moved hW.alike hKc, hDc.weaken (fun _ _ _ _ => trivial)⟩⟩ rfl rfl hl.1 rfl (lv_room (Nat.le_of_ble_eq_true rfl)) dL_law_425 ⟨Nat.le_of_ble_eq_true rfl, Nat.le_of_ble_eq_true rfl⟩) hS (fun q _ h => hFc q h) hFc (fun r2 t2 t H_2 locs ht hvm hw2 hB hz1 hk1 hS => ?_)
  obtain ⟨hP1, hK1, hD1⟩ := hB
  rw [ht] at hP1
  obtain ⟨hP, hD⟩ := va_join (wr := wXu h0 q d v) (w1 := wMu h1 q1 d1 t2) hP hD [0, 1, 2, 3, 4, 5, 6, 7, 8] [9, 10, 11, 12, 13, 14, 15, 16, 17, 18, 19, 20, 21, 22] rfl rfl (by decide) (by decide) hk1 hFc hP1 hD1
  have hP : va_P (dC, dI) spCl (wXu h0 q d v ++ wMu h1 q1 d1 t2) H_2 := hP
  have hD : va_D (fun q : Nat => s.heap.size ≤ q) (wXu h0 q d v ++ wMu h1 q1 d1 t2) := hD
  have eE := hw1.1.trans hw2.symm
  have er : r1 = r2 := congrArg Prod.fst eE
  have eu : v.1 = t2 := congrArg Prod.snd eE
  subst eu
  refine lv_icmp_eq (tgt := 433) hx hb dL_law_428 (by decide) (fun c428 => ?_) (fun c428 => ?_)
  · exact kk v _ _ ls hw1.2 hP hD hS hl
  · exact absurd er c428
theorem sp_le5 {i L : Nat} (hL : L ≤ 320) (hi : i ≤ L) (h : ¬ Int32.ofNat L - 5 < nI i) : i + 5 ≤ L := by
  rcases Nat.lt_or_ge L (i + 5) with z | z
  · refine absurd ?_ h
    rw [Int32.lt_iff_toInt_lt, show Int32.ofNat L - 5 = nI L - nI 5 from rfl, pk_sub_toInt (by omega) (by decide), nI_toInt (by omega)]
    omega
  · exact z
set_option maxHeartbeats 4000000 in
set_option maxRecDepth 100000 in
theorem law_loop {p : Program} {l : Launch} {ev : Env} {s : State} {m : MethodId} {below : List Frame} {meth : Method} {c : Code} {dC : Nat → ClassId} {dI : Nat → Nat → Nat} {h0 h1 : Nat} {q q1 : Nat → Nat} {d d1 : Nat → ClassId} {b L : Nat} {xs : Nat → Int32} (hL : L ≤ 320) (C0 : lw_At p s m meth c b L xs) (hK : va_K (dC, dI) spCl (tyX d ++ tyM d1) s) : ∀ (n i : Nat) (u : PT × PS) (H : Heap) (locs : List Loc) (ls : Array Slot), L < i + n → i ≤ L → sp_Inv u → va_P (dC, dI) spCl (wXu h0 q d u ++ wMu h1 q1 d1 u.1) H → va_D (fun q : Nat => s.heap.size ≤ q) (wXu h0 q d u ++ wMu h1 q1 d1 u.1) → va_S (fun q : Nat => s.heap.size ≤ q) s.heap H locs → lv_has ls 4 [(3, .int (nI i)), (2, .ref h1), (1, .ref h0), (0, .ref b)] → W p l ev room_1 s m #[Value.ref b] below meth c H locs 23 337 (lw_Z below #[Value.ref b] s) (F0 m 18 ls []) := by
  have C1 := C0
  obtain ⟨hx, hb, hret, hml, hown, hts0, hX, hbl, hlocks, hgv⟩ := C0
  have hts : ∀ w ∈ lw_all, w.before #[Value.ref b] s = true := fun w h => hts0 w (lw_all_tbl h)
  have hA : ∀ q : Nat, s.heap.size ≤ q → (fun q : Nat => s.heap.size ≤ q) q := fun _ h => h
  have hbA : ¬ (fun q : Nat => s.heap.size ≤ q) b := Nat.not_le.mpr hbl
  intro n
  induction n with
  | zero =>
    intro i u H locs ls h1 h2
    exact absurd h1 (by omega)
  | succ n ih =>
    intro i u H locs ls hn hi hI hP hD hS hl
    refine lv_iload_n hx hb dL_law_18 rfl (lv_at hl 0 rfl) ?_
    refine lv_aload_n hx hb dL_law_19 rfl (lv_at hl 3 rfl) ?_
    refine va_slen hx hb hX hbl hbA hS dL_law_20 ?_
    refine lv_iconst (v := 5) hx hb dL_law_21 (by decide) ?_
    refine lv_isub hx hb dL_law_22 ?_
    refine lv_icmp_gt (tgt := 439) hx hb dL_law_23 (by decide) (fun c23 => ?_) (fun c23 => ?_)
    · refine lv_iconst (v := 1) hx hb dL_law_439 (by decide) ?_
      refine va_forget (fun q hq => hS.2.2 q hq) ?_
      refine W.widen (k := 600000) (n := 7290000) (Nat.le_of_ble_eq_true rfl) (Nat.le_of_ble_eq_true rfl) ?_
      exact lw_ret hx hb hret hlocks dL_law_440
    · have hi5 : i + 5 ≤ L := sp_le5 hL hi c23
      have kk : ∀ (u : PT × PS) (H : Heap) (locs : List Loc) (ls : Array Slot), sp_Inv u → va_P (dC, dI) spCl (wXu h0 q d u ++ wMu h1 q1 d1 u.1) H → va_D (fun q : Nat => s.heap.size ≤ q) (wXu h0 q d u ++ wMu h1 q1 d1 u.1) → va_S (fun q : Nat => s.heap.size ≤ q) s.heap H locs → lv_has ls 4 [(3, .int (nI i)), (2, .ref h1), (1, .ref h0), (0, .ref b)] → W p l ev room_1 s m #[Value.ref b] below meth c H locs 23 337 (lw_Z below #[Value.ref b] s) (F0 m 433 ls []) := by
        intro u H locs ls hI hP hD hS hl
        refine lv_iinc (v := (nI (i + 5))) (lv' := [(3, .int (nI (i + 5))), (2, .ref h1), (1, .ref h0), (0, .ref b)]) hx hb dL_law_433 hl (k := 0) rfl (sp_inc5 i) (by decide) rfl (fun ls hl => ?_)
        refine lv_goto (tgt := 18) hx hb dL_law_436 (by decide) ?_
        exact ih (i + 5) u _ _ ls (by omega) (by omega) hI hP hD hS (lv_sub hl [0, 1, 2, 3] rfl)
      refine lv_aload_n hx hb dL_law_26 rfl (lv_at hl 3 rfl) ?_
      refine lv_iload_n hx hb dL_law_27 rfl (lv_at hl 0 rfl) ?_
      refine sp_sld hx hb hX hbl hbA hS i rfl (by omega) (by omega) dL_law_28 ?_
      refine lv_bipush (v := 15) hx hb dL_law_29 (by decide) ?_
      refine lv_iand hx hb dL_law_31 ?_
      obtain ⟨j, hj, ej⟩ := pk_andE (xs i) (m := 15) 4 (by decide)
      refine lv_topi (fun v_1 ev_1 => ?_)
      obtain rfl : v_1 = nI j := ev_1.trans (ej)
      have hj : j < 16 := hj
      rcases (show j = 0 ∨ j = 1 ∨ j = 2 ∨ j = 3 ∨ j = 4 ∨ j = 5 ∨ j = 6 ∨ j = 7 ∨ j = 8 ∨ j = 9 ∨ j = 10 ∨ 10 < j by omega) with rfl | rfl | rfl | rfl | rfl | rfl | rfl | rfl | rfl | rfl | rfl | hj10
      · refine lv_tableIn (off := 60) (tgt := 92) hx hb dL_law_32 (by decide) (by decide) (by decide) (by decide) ?_
        exact law_case0 hL C1 hK hi5 kk u _ _ ls hI hP hD hS hl
      · refine lv_tableIn (off := 113) (tgt := 145) hx hb dL_law_32 (by decide) (by decide) (by decide) (by decide) ?_
        exact law_case1 hL C1 hK hi5 kk u _ _ ls hI hP hD hS hl
      · refine lv_tableIn (off := 156) (tgt := 188) hx hb dL_law_32 (by decide) (by decide) (by decide) (by decide) ?_
        exact law_case2 hL C1 hK hi5 kk u _ _ ls hI hP hD hS hl
      · refine lv_tableIn (off := 177) (tgt := 209) hx hb dL_law_32 (by decide) (by decide) (by decide) (by decide) ?_
        exact law_case3 hL C1 hK hi5 kk u _ _ ls hI hP hD hS hl
      · refine lv_tableIn (off := 210) (tgt := 242) hx hb dL_law_32 (by decide) (by decide) (by decide) (by decide) ?_
        exact law_case4 hL C1 hK hi5 kk u _ _ ls hI hP hD hS hl
      · refine lv_tableIn (off := 253) (tgt := 285) hx hb dL_law_32 (by decide) (by decide) (by decide) (by decide) ?_
        exact law_case5 hL C1 hK hi5 kk u _ _ ls hI hP hD hS hl
      · refine lv_tableIn (off := 276) (tgt := 308) hx hb dL_law_32 (by decide) (by decide) (by decide) (by decide) ?_
        exact law_case6 hL C1 hK hi5 kk u _ _ ls hI hP hD hS hl
      · refine lv_tableIn (off := 289) (tgt := 321) hx hb dL_law_32 (by decide) (by decide) (by decide) (by decide) ?_
        exact law_case7 hL C1 hK hi5 kk u _ _ ls hI hP hD hS hl
      · refine lv_tableIn (off := 322) (tgt := 354) hx hb dL_law_32 (by decide) (by decide) (by decide) (by decide) ?_
        exact law_case8 hL C1 hK hi5 kk u _ _ ls hI hP hD hS hl
      · refine lv_tableIn (off := 345) (tgt := 377) hx hb dL_law_32 (by decide) (by decide) (by decide) (by decide) ?_
        exact law_case9 hL C1 hK hi5 kk u _ _ ls hI hP hD hS hl
      · refine lv_tableIn (off := 368) (tgt := 400) hx hb dL_law_32 (by decide) (by decide) (by decide) (by decide) ?_
        exact law_case10 hL C1 hK hi5 kk u _ _ ls hI hP hD hS hl
      · refine lv_tableOut (tgt := 433) hx hb dL_law_32 (Or.inr (by rw [nI_toInt (by omega)]; omega)) (by decide) ?_
        exact kk u _ _ ls hI hP hD hS hl
end
section
set_option maxHeartbeats 4000000 in
set_option maxRecDepth 100000 in
theorem whole_start {p : Program} {e : Env} {s : State} {m : MethodId} {below : List Frame} {meth : Method} {c : Code} (l : Launch) {b L : Nat} {xs : Nat → Int32} (hL : L ≤ 320) (C0 : lw_At p s m meth c b L xs) : W p l e room_1 s m #[Value.ref b] below meth c s.heap [] 0 0 (lw_Z below #[Value.ref b] s) (entryFrame m ([Value.ref b] : List Value).toArray 4) := by
  have C1 := C0
  obtain ⟨hx, hb, hret, hml, hown, hts0, hX, hbl, hlocks, hgv⟩ := C0
  have hts : ∀ w ∈ lw_all, w.before #[Value.ref b] s = true := fun w h => hts0 w (lw_all_tbl h)
  have hA : ∀ q : Nat, s.heap.size ≤ q → (fun q : Nat => s.heap.size ≤ q) q := fun _ h => h
  have hbA : ¬ (fun q : Nat => s.heap.size ≤ q) b := Nat.not_le.mpr hbl
  obtain ⟨c0_, iS0, hKn0⟩ := u_known (C := RX0) (T := TX0) (N := 15) (n := 15) hts0 (fun w h => lw_all_tbl (in_X0 w h)) (hts _ q8)
  obtain ⟨c1_, iS1, hKn1⟩ := u_known (C := RX1) (T := TX1) (N := 10) (n := 10) hts0 (fun w h => lw_all_tbl (in_X1 w h)) (hts _ q126)
  obtain ⟨dC, dI, hKc⟩ : ∃ (dC : Nat → ClassId) (dI : Nat → Nat → Nat), ∀ (k : Nat) (q : vw_C), spCl[k]? = some q → u_Kn s q.1 q.2.1 q.2.2 (dC k) (dI k) := by
    refine ⟨fun k => if k = 0 then c0_ else c1_, fun k => if k = 0 then iS0 else iS1, ?_⟩
    intro k q hq
    match k, hq with
    | 0, hq => cases hq; exact hKn0
    | 1, hq => cases hq; exact hKn1
    | k + 2, hq => simp [spCl] at hq
  have hS : va_S (fun q : Nat => s.heap.size ≤ q) s.heap s.heap [] := va_S.rf
  have hK : va_K (dC, dI) spCl [] s := ⟨hKc, fun k q h => by simp at h⟩
  have hP : va_P (dC, dI) spCl [] s.heap := fun k q h => by simp at h
  have hD : va_D (fun q : Nat => s.heap.size ≤ q) [] := ⟨fun i j p q h => by simp at h, fun k q h => by simp at h⟩
  have hl := lv_entry ([.ref b]) (n := 4) (Nat.le_of_ble_eq_true rfl)
  rw [lg_entry_eq]
  generalize (lg_sl ([.ref b]) ++ List.replicate (4 - (lg_sl ([.ref b])).length) Slot.unset).toArray = ls at hl ⊢
  have hl : lv_has ls 4 [(0, .ref b)] := hl
  refine va_new (ci := 0) (fs := [.int 0, .null, .null, .null, .null, .null, .null, .null, .null, .int 0, .null, .null, .null, .null, .null]) (C := RX0) (T := TX0) (N := 15) hx hb hts in_X0 tyX0 tyX0_ok hown (hts _ q7) (hts _ q8) (hts _ q5) hK hP hD hS hA rfl (fun j hj => by rcases (show j = 0 ∨ j = 1 ∨ j = 2 ∨ j = 3 ∨ j = 4 ∨ j = 5 ∨ j = 6 ∨ j = 7 ∨ j = 8 ∨ j = 9 ∨ j = 10 ∨ j = 11 ∨ j = 12 ∨ j = 13 ∨ j = 14 by omega) with rfl | rfl | rfl | rfl | rfl | rfl | rfl | rfl | rfl | rfl | rfl | rfl | rfl | rfl | rfl <;> rfl) (Nat.le_of_ble_eq_true rfl) (Nat.le_of_ble_eq_true rfl) dL_law_0 (fun h0 H_1 hP hD hS => ?_)
  have hP : va_P (dC, dI) spCl [(h0, .inr (0, [.int 0, .null, .null, .null, .null, .null, .null, .null, .null, .int 0, .null, .null, .null, .null, .null]))] H_1 := hP
  have hD : va_D (fun q : Nat => s.heap.size ≤ q) [(h0, .inr (0, [.int 0, .null, .null, .null, .null, .null, .null, .null, .null, .int 0, .null, .null, .null, .null, .null]))] := hD
  refine W.widen (k := 1) (n := 15) (Nat.le_of_ble_eq_true rfl) (Nat.le_of_ble_eq_true rfl) ?_
  refine lv_dup hx hb dL_law_3 rfl ?_
  have hFc := va_free (wc := [(h0, .inr (0, [.int 0, .null, .null, .null, .null, .null, .null, .null, .null, .int 0, .null, .null, .null, .null, .null]))]) hD hS hA [0] rfl
  refine va_callv (va_runI (As := []) (rest := [.ref h0]) ⟨hx, hb, hml, hown, hts⟩ (mX_init l dC dI h0 H_1.size) (cwI 0 hts (lw_meth q11) rfl rfl rfl (hts _ q5) (hts _ q9) (hts _ q10) rfl (by decide +kernel) ⟨Nat.le_of_ble_eq_true rfl, Nat.le_of_ble_eq_true rfl⟩) ⟨fun a U g mk q => by obtain ⟨q0, q1, qP, qK, qD⟩ := q; exact ⟨q0, q1, qP, va_K.moved (u := U) (U := U.calling g mk a) (Vm.Alike.refl U.vm) qK, qD⟩, fun U hU hW => ⟨rfl, by rw [hU], by rw [hU]; exact hP, va_K.moved hW.alike hK, hD.weaken (fun _ _ _ _ => trivial)⟩⟩ rfl rfl hl.1 rfl (lv_room (Nat.le_of_ble_eq_true rfl)) dL_law_4 ⟨Nat.le_of_ble_eq_true rfl, Nat.le_of_ble_eq_true rfl⟩) hS (fun q _ h => hFc q h) hFc (fun _ t H_2 locs ht hvm hw1 hB hz1 hk1 hS => ?_)
  obtain ⟨q, d, hP1, hK1, hD1⟩ := hB
  rw [ht] at hP1
  have hK1 := va_K.moved hvm.symm hK1
  have hP : va_P (dC, dI) spCl (wX h0 q d 0 0 (sp_pre 16) sp_z sp_z sp_z (sp_pre 8) sp_z sp_z sp_z (sp_pre 16) sp_z sp_z (sp_pre 8) sp_z) H_2 := hP1
  have hD : va_D (fun q : Nat => s.heap.size ≤ q) (wX h0 q d 0 0 (sp_pre 16) sp_z sp_z sp_z (sp_pre 8) sp_z sp_z sp_z (sp_pre 16) sp_z sp_z (sp_pre 8) sp_z) := hD1.weaken (fun _ _ _ h => hFc _ h)
  refine W.widen (k := 14) (n := 207) (Nat.le_of_ble_eq_true rfl) (Nat.le_of_ble_eq_true rfl) ?_
  refine lv_astore_n (lv' := [(1, .ref h0), (0, .ref b)]) hx hb dL_law_7 rfl hl (by decide) rfl (fun ls hl => ?_)
  refine va_new (ci := 1) (fs := [.null, .null, .null, .null, .null, .null, .null, .null, .int 0, .int 0]) (C := RX1) (T := TX1) (N := 10) hx hb hts in_X1 tyX1 tyX1_ok hown (hts _ q125) (hts _ q126) (hts _ q6) hK1 hP hD hS hA rfl (fun j hj => by rcases (show j = 0 ∨ j = 1 ∨ j = 2 ∨ j = 3 ∨ j = 4 ∨ j = 5 ∨ j = 6 ∨ j = 7 ∨ j = 8 ∨ j = 9 by omega) with rfl | rfl | rfl | rfl | rfl | rfl | rfl | rfl | rfl | rfl <;> rfl) (Nat.le_of_ble_eq_true rfl) (Nat.le_of_ble_eq_true rfl) dL_law_8 (fun h1 H_3 hP hD hS => ?_)
  have hP : va_P (dC, dI) spCl (wX h0 q d 0 0 (sp_pre 16) sp_z sp_z sp_z (sp_pre 8) sp_z sp_z sp_z (sp_pre 16) sp_z sp_z (sp_pre 8) sp_z ++ [(h1, .inr (1, [.null, .null, .null, .null, .null, .null, .null, .null, .int 0, .int 0]))]) H_3 := hP
  have hD : va_D (fun q : Nat => s.heap.size ≤ q) (wX h0 q d 0 0 (sp_pre 16) sp_z sp_z sp_z (sp_pre 8) sp_z sp_z sp_z (sp_pre 16) sp_z sp_z (sp_pre 8) sp_z ++ [(h1, .inr (1, [.null, .null, .null, .null, .null, .null, .null, .null, .int 0, .int 0]))]) := hD
  refine W.widen (k := 15) (n := 217) (Nat.le_of_ble_eq_true rfl) (Nat.le_of_ble_eq_true rfl) ?_
  refine lv_dup hx hb dL_law_11 rfl ?_
  have hPc := hP.sub (ws' := [(h1, .inr (1, [.null, .null, .null, .null, .null, .null, .null, .null, .int 0, .int 0]))]) [14] rfl
  have hDc := hD.sub (ws' := [(h1, .inr (1, [.null, .null, .null, .null, .null, .null, .null, .null, .int 0, .int 0]))]) [14] (by decide) rfl
  have hKc := hK1.sub (tys' := []) [] rfl
  have hFc := va_free (wc := [(h1, .inr (1, [.null, .null, .null, .null, .null, .null, .null, .null, .int 0, .int 0]))]) hD hS hA [14] rfl
  refine va_callv (va_runI (As := []) (rest := [.ref h1]) ⟨hx, hb, hml, hown, hts⟩ (mM_init l dC dI h1 H_3.size) (cwI 0 hts (lw_meth q129) rfl rfl rfl (hts _ q6) (hts _ q127) (hts _ q128) rfl (by decide +kernel) ⟨Nat.le_of_ble_eq_true rfl, Nat.le_of_ble_eq_true rfl⟩) ⟨fun a U g mk q => by obtain ⟨q0, q1, qP, qK, qD⟩ := q; exact ⟨q0, q1, qP, va_K.moved (u := U) (U := U.calling g mk a) (Vm.Alike.refl U.vm) qK, qD⟩, fun U hU hW => ⟨rfl, by rw [hU], by rw [hU]; exact hPc, va_K.moved hW.alike hKc, hDc.weaken (fun _ _ _ _ => trivial)⟩⟩ rfl rfl hl.1 rfl (lv_room (Nat.le_of_ble_eq_true rfl)) dL_law_12 ⟨Nat.le_of_ble_eq_true rfl, Nat.le_of_ble_eq_true rfl⟩) hS (fun q _ h => hFc q h) hFc (fun _ t H_4 locs ht hvm hw2 hB hz1 hk1 hS => ?_)
  obtain ⟨q1, d1, hP2, hK2, hD2⟩ := hB
  rw [ht] at hP2
  have hK2 := va_K.moved hvm.symm hK2
  obtain ⟨hP, hD⟩ := va_join (wr := wX h0 q d 0 0 (sp_pre 16) sp_z sp_z sp_z (sp_pre 8) sp_z sp_z sp_z (sp_pre 16) sp_z sp_z (sp_pre 8) sp_z) (w1 := wM h1 q1 d1 0 0 (sp_pre 16) sp_z sp_z sp_z (sp_pre 8) sp_z sp_z sp_z) hP hD [14] [0, 1, 2, 3, 4, 5, 6, 7, 8, 9, 10, 11, 12, 13] rfl rfl (by decide) (by decide) hk1 hFc hP2 hD2
  have hK := hK1.app hK2
  refine W.widen (k := 23) (n := 337) (Nat.le_of_ble_eq_true rfl) (Nat.le_of_ble_eq_true rfl) ?_
  refine lv_astore_n (lv' := [(2, .ref h1), (1, .ref h0), (0, .ref b)]) hx hb dL_law_15 rfl hl (by decide) rfl (fun ls hl => ?_)
  refine lv_iconst (v := 0) hx hb dL_law_16 (by decide) ?_
  refine lv_istore_n (lv' := [(3, .int 0), (2, .ref h1), (1, .ref h0), (0, .ref b)]) hx hb dL_law_17 rfl hl (by decide) rfl (fun ls hl => ?_)
  exact law_loop hL C1 hK (L + 1) 0 ((0, 0, sp_pre 16, sp_z, sp_z, sp_z, sp_pre 8, sp_z, sp_z, sp_z), (sp_pre 16, sp_z, sp_z, sp_pre 8, sp_z)) _ _ ls (by omega) (by omega) sp_init_inv hP hD hS hl
set_option maxHeartbeats 4000000 in
theorem lw_walk (l : Launch) (b : Addr) (xs : List Int32) : MetFree l x (headSpec (Jvm.Cond.code x code maxLocals ret :: tables_1) room_1) (lw_P b xs) (fun _ _ _ _ _ => True) lw_Q := by
  refine MetFree.of_bodyS (code := code) (maxLocals := maxLocals) (ret := ret) (by decide) ?_ ?_
  · intro args s m h hn
    obtain ⟨meth, c, h1, h2, h3, h4, h5, h6, -, -⟩ := Cond.code_spec hn (atoms_spec (ws := Jvm.Cond.code x code maxLocals ret :: tables_1) h _ List.mem_cons_self)
    exact ⟨meth, c, h1, h2, h3, h4, h5, h6⟩
  · intro p e s m args below meth c s₁ B hml0 hP _
    obtain ⟨rfl, hx, hbd, hgv⟩ := hP
    obtain ⟨scr, harrAt, hlist, hof, hsmall⟩ := hx
    obtain ⟨hcb, hkn, -, -⟩ := State.arrayAt?_spec harrAt
    have hown : s.vm.findClass R_law = some m.cls := findClass_of_methodNamed B.named
    have hts0 : ∀ c ∈ (Jvm.Cond.code x code maxLocals ret :: tables_1), c.before #[Value.ref b] s = true := atoms_spec (ws := Jvm.Cond.code x code maxLocals ret :: tables_1) B.pre
    have hts : ∀ w ∈ lw_tbl, w.before #[Value.ref b] s = true := k2_hts_sels lw_privs (fun w hw => hts0 w (List.mem_cons_of_mem _ hw)) lw_privs_ok
    have hml : c.maxLocals = 4 := B.maxLocals_eq (hts0 _ List.mem_cons_self)
    have X₀ : Stand p l e room_1 s m #[Value.ref b] below meth c s₁ [] 0 0 := Stand.of_body B
    have hh0 : s₁.heap = s.heap := by rw [B.state]; rfl
    have hsz : scr.slots.size = xs.length := by rw [← Array.length_toList, hlist, List.length_map]
    have hval : ∀ j : Nat, j < xs.length → scr.slots[j]? = some (.int (xs.getD j 0)) := fun j hj => by
      rw [← Array.getElem?_toList, hlist]
      simp [hj]
    have hbl : b < s.heap.size := (Array.getElem?_eq_some_iff.mp hcb).1
    have hX : va_X b xs.length (fun j => xs.getD j 0) s s.heap := ⟨scr, hcb, hof, hkn, hsz, hval⟩
    have K : W p l e room_1 s m #[Value.ref b] below meth c s₁.heap [] 0 0 (lw_Z below #[Value.ref b] s) (entryFrame m ([Value.ref b] : List Value).toArray 4) := by
      rw [hh0]
      exact whole_start l hbd ⟨B.exec, B.bytes, B.returns, hml, hown, hts, hX, hbl, B.notSynchronized, hgv⟩
    obtain ⟨t, a1, o, b1, b2, b3⟩ := K s₁ rfl X₀
    exact ⟨t, o, a1, b1, b2, b3⟩
theorem lw_pre_spec {args : Array Value} {s : State} (h : (Jvm.Cond.and given_1 narrow_1).before args s = true) (hr : rest_1_c.before args s = true) : ∃ (b : Addr) (xs : List Int32), lw_P b xs args s := by
  have hs := flat_of_before _ h
  have hq := flat_of_before _ hr
  have hc : (Cond.count 1).before args s = true := hs _ (by decide +kernel)
  have harr : (Cond.arrayOf (.arg 0) .int).before args s = true := hs _ (by decide +kernel)
  have hle : (Cond.le (.length (.arg 0)) (.int 320)).before args s = true := hs _ (by decide +kernel)
  have hlen : (Cond.isInt (.length (.arg 0))).before args s = true := hq _ (by decide +kernel)
  have hall : (Cond.all (.arg 0) (.isInt (.elem (.arg 0) (.index 0)))).before args s = true := hq _ (by decide +kernel)
  obtain ⟨b, xs, hb, hx⟩ := State.ints_of_pre rfl harr hlen hall
  have hsm : xs.length < 2 ^ 31 := hx.choose_spec.2.2.2
  have hev : (Term.length (.arg 0)).eval args s none [] s = some (.int xs.length.toInt32) := hx.length_eval hb
  have hv := Cond.le_ints hev (show (Term.int 320).eval args s none [] s = some (.int 320) from rfl)
  have hd : xs.length.toInt32 ≤ 320 := by
    simpa [Cond.before, Cond.holds, hv] using hle
  have hN : xs.length ≤ 320 := (Int32.ofNat_le_ofNat hsm (by decide)).mp (show Int32.ofNat xs.length ≤ Int32.ofNat 320 from hd)
  exact ⟨b, xs, Cond.one_arg hc (show args[0]? = some (.ref b) from hb), hx, hN, h⟩
theorem lw_comes (l : Launch) : Comes l x (Jvm.Cond.code x code maxLocals ret :: tables_1) room_1 (fun tb e args s => Calls_1 tb e args s ∧ rest_1 tb e args s ∧ Pre_1 tb e args s)
    (fun _ _ args s o t => lw_Q args s o t) := by
  intro p e ha hc hk s m args below hf hfit hheap happ hpre
  obtain ⟨b, xs, hP⟩ := lw_pre_spec hpre.2.2 hpre.2.1
  obtain ⟨k, o, h1, h2, h3, hQ⟩ := lw_walk l b xs p e ha hc hk s m args below hf ((Spec.applies_iff_loose hf).mp happ).1 hP trivial
  exact ⟨k, o, h1, h2, h3, hQ⟩
theorem lw_frame {s t : State} {o : Outcome} {args : Array Value} (h : Framed s o t [] 600000 7290000) :
    Framed s o t (fieldLocs frame_1_writes args s ++ arrayLocs frame_1_arrays args s ++ staticLocs frame_1_statics s) 600000 7290000 := h
theorem lw_limb (L : Cond) (hL : ∀ (args : Array Value) (s t : State), L.after args s (.returned (some (.int 1))) t = true) :
    ArmFor flags0 classFile x code maxLocals ret World_1 tables_1 room_1 Calls_1 rest_1 Pre_1
      (fun tb e a s o t => postC L tb e a s o t ∧ Framed s o t (fieldLocs frame_1_writes a s ++ arrayLocs frame_1_arrays a s ++ staticLocs frame_1_statics s) 600000 7290000) := by
  intro l _ _ _ p e ha hc hk s m args below hf hfit hheap happ hpre
  obtain ⟨k, o, h1, h2, h3, rfl, hF⟩ := lw_comes l p e ha hc hk s m args below hf hfit hheap happ hpre
  exact ⟨k, _, h1, h2, h3, hL args s _, lw_frame hF⟩
theorem i_vc : Claimed_1_1 ∧ Claimed_1_2 := ⟨lw_limb limb_1_1 (fun args s t => by simp [limb_1_1, Cond.after, Cond.holds, Cond.value]), lw_limb limb_1_2 (fun args s t => Cond.after_iff.mpr (by
  first | (rw [show limb_1_2 = Cond.eq .result (.int 1) from rfl, Cond.eq_ints (x := 1) (y := 1) rfl rfl]; simp; done) | (simp [limb_1_2, Cond.value, Term.eval]; done)))⟩
end
