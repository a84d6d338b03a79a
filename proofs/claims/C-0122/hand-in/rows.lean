section
/-! rows of the kit (PURE-ROWS) that serve here -/
theorem pk_us {f : Nat → Int32} {k : Nat} {x : Int32} : upd f k x k = x := if_pos rfl
theorem pk_un {f : Nat → Int32} {k j : Nat} {x : Int32} (h : j ≠ k) : upd f k x j = f j := if_neg h
theorem pk_mul (a b : Nat) : nI a * nI b = nI (a * b) := (Int32.ofNat_mul a b).symm
theorem pk_tn {n : Nat} (h : n < 2 ^ 32) : (nI n).toBitVec.toNat = n := Nat.mod_eq_of_lt h
theorem pk_and (x : Int32) {m : Int32} (k : Nat) (hm : m.toBitVec.toNat = 2 ^ k - 1) : x &&& m = nI (x.toBitVec.toNat % 2 ^ k) := by
  apply Int32.toBitVec_inj.mp
  apply BitVec.eq_of_toNat_eq
  rw [Int32.toBitVec_and, BitVec.toNat_and, hm, Nat.and_two_pow_sub_one_eq_mod]
  show _ = (BitVec.ofNat 32 _).toNat
  rw [BitVec.toNat_ofNat]
  exact (Nat.mod_eq_of_lt (Nat.lt_of_le_of_lt (Nat.mod_le _ _) x.toBitVec.isLt)).symm
theorem pk_andN {n : Nat} (h : n < 2 ^ 32) {m : Int32} (k : Nat) (hm : m.toBitVec.toNat = 2 ^ k - 1) : nI n &&& m = nI (n % 2 ^ k) := by
  rw [pk_and _ k hm, pk_tn h]
theorem pk_shr (a s : Int32) (k : Nat) (hs : (s.toBitVec.smod 32).toNat = k) : (a >>> s).toInt = a.toInt >>> k := by
  show (a.toBitVec.sshiftRight (s.toBitVec.smod 32).toNat).toInt = _
  rw [hs, BitVec.toInt_sshiftRight]
  rfl
theorem pk_shrN {n : Nat} (h : n < 2 ^ 31) (s : Int32) (k : Nat) (hs : (s.toBitVec.smod 32).toNat = k) : nI n >>> s = nI (n / 2 ^ k) := by
  apply Int32.toInt_inj.mp
  have h2 : n / 2 ^ k ≤ n := Nat.div_le_self _ _
  rw [pk_shr _ _ k hs, nI_toInt h, nI_toInt (by omega), Int.shiftRight_eq_div_pow]
  rfl
/-! numbers of this claim -/
theorem vc_b0 : vp_nar .boolean 0 = 0 := rfl
theorem vc_b1 : vp_nar .boolean 1 = 1 := rfl
theorem vc_bb {x : Int32} (h : x = 0 ∨ x = 1) : vp_nar .boolean x = x := by
  rcases h with rfl | rfl
  · exact vc_b0
  · exact vc_b1
theorem vc_m1 : ¬ (0 : Int32) ≤ -1 := by decide
theorem vc_m2 : ¬ (0 : Int32) ≤ -2 := by decide
theorem vc_m3 : ¬ (0 : Int32) ≤ -3 := by decide
theorem vc_l1 : (-1 : Int32) < 0 := by decide
theorem vc_10 : ¬ (1 : Int32) = 0 := by decide
theorem vc_nm1 {n : Nat} (h : n < 16) : nI n ≠ -1 := fun e => nI_pos (n := n) (by omega) (by rw [e]; exact vc_l1)
theorem vc_nm2 {n : Nat} (h : n < 16) : nI n ≠ -2 := fun e => nI_pos (n := n) (by omega) (by rw [e]; decide)
theorem vc_inj {a b : Nat} (ha : a < 16) (hb : b < 16) (h : nI a = nI b) : a = b := (nI_eq (by omega) (by omega)).mp h
theorem vc_id {f : Nat → Int32} {k : Nat} {x : Int32} (h : f k = x) : upd f k x = f := by
  funext j
  by_cases e : j = k
  · subst e
    rw [pk_us, h]
  · rw [pk_un e]
theorem vc_x2 (a : Nat) : nI a * 2 = nI (a * 2) := pk_mul a 2
theorem vc_x4 (a : Nat) : nI a * 4 = nI (a * 4) := pk_mul a 4
theorem vc_x8 (a : Nat) : nI a * 8 = nI (a * 8) := pk_mul a 8
theorem vc_8x (a : Nat) : 8 * nI a = nI (8 * a) := pk_mul 8 a
theorem vc_a1 {a : Nat} (h : a < 64) : nI a &&& 1 = nI (a % 2) := pk_andN (by omega) 1 (by decide)
theorem vc_a3 {a : Nat} (h : a < 64) : nI a &&& 3 = nI (a % 4) := pk_andN (by omega) 2 (by decide)
theorem vc_s2 {a : Nat} (h : a < 64) : nI a >>> ((2 : Int32) &&& 31) = nI (a / 4) := pk_shrN (by omega) _ 2 (by decide)
theorem vc_cl {a : Nat} (h : a < 64) : (nI a).toNatClampNeg = a := nI_clamp (by omega)
theorem vc_i4 {a : Nat} (h : a < 4) : vp_in (nI a) 4 := vp_in_nI h (by decide)
theorem vc_i16 {a : Nat} (h : a < 16) : vp_in (nI a) 16 := vp_in_nI h (by decide)
theorem vc_i64 {a : Nat} (h : a < 64) : vp_in (nI a) 64 := vp_in_nI h (by decide)
theorem vc_p {a : Nat} (h : a < 64) : ¬ nI a < 0 := nI_pos (by omega)
theorem vc_p' {a : Nat} (h : a < 64) : 0 ≤ nI a := nI_pos' (by omega)
/-! arguments: a page, a number of eight -/
theorem vc_page (x : Int32) : (∃ v, v < 16 ∧ x = nI v) ∨ ((∀ {P : Int32 → Prop} {u : SX}, P 1 → wpX_badPage P u x) ∧ (∀ {P : Int32 → Prop} {u : SY}, P 0 → wpY_isPage P u x)) := by
  by_cases h : x < 0
  · exact Or.inr ⟨fun p => br_t h p, fun p => br_t h p⟩
  · obtain ⟨j, hj, rfl⟩ := nI_of h
    by_cases h2 : j < 16
    · exact Or.inl ⟨j, h2, rfl⟩
    · exact Or.inr ⟨fun p => br_f h (br_f (nI_nlt (a := j) (b := 16) (by omega) hj) p), fun p => br_f h (br_t (nI_lt (a := 15) (b := j) (by omega) hj) p)⟩
theorem vc_pageX {v : Nat} (hv : v < 16) {P : Int32 → Prop} {u : SX} (p : P 0) : wpX_badPage P u (nI v) :=
  br_f (nI_pos (by omega)) (br_t (nI_lt (a := v) (b := 16) hv (by decide)) p)
theorem vc_pageY {v : Nat} (hv : v < 16) {P : Int32 → Prop} {u : SY} (p : P 1) : wpY_isPage P u (nI v) :=
  br_f (nI_pos (by omega)) (br_f (nI_nlt (a := 15) (b := v) (by omega) (by decide)) p)
theorem vc_eight (x : Int32) : (∃ v, v < 8 ∧ x = nI v) ∨ ((∀ {P : Int32 → Prop} {u : SX}, P 1 → wpX_badEight P u x) ∧ (∀ {P : Int32 → Prop} {u : SY}, P 0 → wpY_isNumber P u x)) := by
  by_cases h : x < 0
  · exact Or.inr ⟨fun p => br_t h p, fun p => br_t h p⟩
  · obtain ⟨j, hj, rfl⟩ := nI_of h
    by_cases h2 : j < 8
    · exact Or.inl ⟨j, h2, rfl⟩
    · exact Or.inr ⟨fun p => br_f h (br_f (nI_ge (a := 7) (b := j) (by omega) hj) p), fun p => br_f h (br_t (nI_lt (a := 7) (b := j) (by omega) hj) p)⟩
theorem vc_eightX {v : Nat} (hv : v < 8) {P : Int32 → Prop} {u : SX} (p : P 0) : wpX_badEight P u (nI v) :=
  br_f (nI_pos (by omega)) (br_t (nI_le (a := v) (b := 7) (by omega) (by decide)) p)
theorem vc_eightY {v : Nat} (hv : v < 8) {P : Int32 → Prop} {u : SY} (p : P 1) : wpY_isNumber P u (nI v) :=
  br_f (nI_pos (by omega)) (br_f (nI_nlt (a := 7) (b := v) (by omega) (by decide)) p)
end
section
/-! the cache, with no program in sight. mem: the memory, nm: the lines' names, ch: changed, da: the lines' words, wd: the words as the reference holds them -/
def vc_CI (mem nm ch da wd : Nat → Int32) : Prop :=
  (∀ i, i < 16 → nm i = -1 ∨ ∃ t, t < 16 ∧ nm i = nI t ∧ i / 2 % 2 = t % 2) ∧
  (∀ i j, i < 16 → j < 16 → nm i = nm j → nm i = -1 ∨ i = j) ∧
  (∀ i t w, i < 16 → t < 16 → w < 4 → nm i = nI t → da (i * 4 + w) = wd (t * 4 + w)) ∧
  (∀ t w, t < 16 → w < 4 → (∀ i, i < 16 → nm i = nI t → ch i = 0) → mem (t * 4 + w) = wd (t * 4 + w)) ∧
  (∀ i, i < 16 → ch i = 0 ∨ ch i = 1)
/-- no line has the name t -/
def vc_Ab (nm : Nat → Int32) (t : Nat) : Prop := ∀ i, i < 16 → nm i ≠ nI t
/-- a line with the name t is as the memory is -/
def vc_Cl (nm ch : Nat → Int32) (t : Nat) : Prop := ∀ i, i < 16 → nm i = nI t → ch i = 0
section
variable {mem nm ch da wd mem' da' : Nat → Int32}
theorem vc_chb {i : Nat} {x : Int32} (c5 : ∀ j, j < 16 → ch j = 0 ∨ ch j = 1) (hx : x = 0 ∨ x = 1) : ∀ j, j < 16 → upd ch i x j = 0 ∨ upd ch i x j = 1 := by
  intro j hj
  by_cases e : j = i
  · subst e
    rw [pk_us]
    exact hx
  · rw [pk_un e]
    exact c5 j hj
/-- a line is written back -/
theorem vc_wb {i t : Nat} (C : vc_CI mem nm ch da wd) (hi : i < 16) (ht : t < 16) (hn : nm i = nI t)
    (hm : ∀ w, w < 4 → mem' (t * 4 + w) = da (i * 4 + w))
    (ho : ∀ s w, s < 16 → w < 4 → s ≠ t → mem' (s * 4 + w) = mem (s * 4 + w)) : vc_CI mem' nm (upd ch i 0) da wd := by
  obtain ⟨c1, c2, c3, c4, c5⟩ := C
  refine ⟨c1, c2, c3, ?_, vc_chb c5 (Or.inl rfl)⟩
  intro s w hs hw h
  by_cases e : s = t
  · rw [e, hm w hw]
    exact c3 i t w hi ht hw hn
  · rw [ho s w hs hw e]
    refine c4 s w hs hw fun j hj hjn => ?_
    have g := h j hj hjn
    have z : j ≠ i := by
      intro ej
      subst ej
      exact e (vc_inj hs ht (hjn.symm.trans hn))
    rw [pk_un z] at g
    exact g
/-- a line that is as the memory is leaves the cache -/
theorem vc_drop {i : Nat} (C : vc_CI mem nm ch da wd) (hi : i < 16) (hc : nm i = -1 ∨ ch i = 0) : vc_CI mem (upd nm i (-1)) ch da wd := by
  obtain ⟨c1, c2, c3, c4, c5⟩ := C
  refine ⟨fun j hj => ?_, fun j l hj hl e => ?_, fun j t w hj ht hw e => ?_, fun t w ht hw h => ?_, c5⟩
  · by_cases z : j = i
    · subst z
      exact Or.inl pk_us
    · rw [pk_un z]
      exact c1 j hj
  · by_cases z : j = i
    · subst z
      exact Or.inl pk_us
    · by_cases y : l = i
      · subst y
        rw [pk_us] at e
        exact Or.inl e
      · rw [pk_un z, pk_un y] at e
        rw [pk_un z]
        exact c2 j l hj hl e
  · by_cases z : j = i
    · subst z
      rw [pk_us] at e
      exact absurd e.symm (vc_nm1 ht)
    · rw [pk_un z] at e
      exact c3 j t w hj ht hw e
  · refine c4 t w ht hw fun j hj e => ?_
    by_cases z : j = i
    · subst z
      rcases hc with hc | hc
      · exact absurd (e.symm.trans hc) (vc_nm1 ht)
      · exact hc
    · exact h j hj (by rw [pk_un z]; exact e)
/-- an empty line is filled from the memory -/
theorem vc_fill {i t : Nat} (C : vc_CI mem nm ch da wd) (hi : i < 16) (ht : t < 16) (hp : i / 2 % 2 = t % 2) (hn : nm i = -1) (ha : vc_Ab nm t)
    (hd : ∀ w, w < 4 → da' (i * 4 + w) = mem (t * 4 + w))
    (ho : ∀ j w, j < 16 → w < 4 → j ≠ i → da' (j * 4 + w) = da (j * 4 + w)) : vc_CI mem (upd nm i (nI t)) (upd ch i 0) da' wd := by
  obtain ⟨c1, c2, c3, c4, c5⟩ := C
  refine ⟨fun j hj => ?_, fun j l hj hl e => ?_, fun j s w hj hs hw e => ?_, fun s w hs hw h => ?_, vc_chb c5 (Or.inl rfl)⟩
  · by_cases z : j = i
    · subst z
      exact Or.inr ⟨t, ht, pk_us, hp⟩
    · rw [pk_un z]
      exact c1 j hj
  · by_cases z : j = i
    · by_cases y : l = i
      · exact Or.inr (z.trans y.symm)
      · subst z
        rw [pk_us, pk_un y] at e
        exact absurd e.symm (ha l hl)
    · by_cases y : l = i
      · subst y
        rw [pk_us, pk_un z] at e
        exact absurd e (ha j hj)
      · rw [pk_un z, pk_un y] at e
        rw [pk_un z]
        exact c2 j l hj hl e
  · by_cases z : j = i
    · subst z
      rw [pk_us] at e
      have q := vc_inj ht hs e
      subst q
      rw [hd w hw]
      exact c4 t w ht hw fun l hl el => absurd el (ha l hl)
    · rw [pk_un z] at e
      rw [ho j w hj hw z]
      exact c3 j s w hj hs hw e
  · refine c4 s w hs hw fun j hj e => ?_
    have z : j ≠ i := by
      intro ej
      subst ej
      exact vc_nm1 hs (e.symm.trans hn)
    have g := h j hj (by rw [pk_un z]; exact e)
    rw [pk_un z] at g
    exact g
/-- an empty line takes over the line a -/
theorem vc_move {i a t : Nat} (C : vc_CI mem nm ch da wd) (hi : i < 16) (haa : a < 16) (ht : t < 16) (hp : i / 2 % 2 = t % 2) (hn : nm i = -1) (hna : nm a = nI t) (hai : a ≠ i)
    (hd : ∀ w, w < 4 → da' (i * 4 + w) = da (a * 4 + w))
    (ho : ∀ j w, j < 16 → w < 4 → j ≠ i → da' (j * 4 + w) = da (j * 4 + w)) : vc_CI mem (upd (upd nm a (-1)) i (nI t)) (upd ch i (ch a)) da' wd := by
  obtain ⟨c1, c2, c3, c4, c5⟩ := C
  have ab : ∀ l, l < 16 → l ≠ a → nm l ≠ nI t := by
    intro l hl y e
    rcases c2 l a hl haa (e.trans hna.symm) with g | g
    · exact vc_nm1 ht (e.symm.trans g)
    · exact y g
  refine ⟨fun j hj => ?_, fun j l hj hl e => ?_, fun j s w hj hs hw e => ?_, fun s w hs hw h => ?_, vc_chb c5 (c5 a haa)⟩
  · by_cases z : j = i
    · subst z
      exact Or.inr ⟨t, ht, pk_us, hp⟩
    · rw [pk_un z]
      by_cases y : j = a
      · subst y
        exact Or.inl pk_us
      · rw [pk_un y]
        exact c1 j hj
  · by_cases z : j = i
    · by_cases y : l = i
      · exact Or.inr (z.trans y.symm)
      · subst z
        rw [pk_us, pk_un y] at e
        by_cases x : l = a
        · subst x
          rw [pk_us] at e
          exact absurd e (vc_nm1 ht)
        · rw [pk_un x] at e
          exact absurd e.symm (ab l hl x)
    · by_cases y : l = i
      · subst y
        rw [pk_us, pk_un z] at e
        by_cases x : j = a
        · subst x
          rw [pk_us] at e
          exact absurd e.symm (vc_nm1 ht)
        · rw [pk_un x] at e
          exact absurd e (ab j hj x)
      · rw [pk_un z, pk_un y] at e
        rw [pk_un z]
        by_cases x : j = a
        · subst x
          exact Or.inl pk_us
        · by_cases x' : l = a
          · subst x'
            rw [pk_us] at e
            exact Or.inl e
          · rw [pk_un x, pk_un x'] at e
            rw [pk_un x]
            exact c2 j l hj hl e
  · by_cases z : j = i
    · subst z
      rw [pk_us] at e
      have q := vc_inj ht hs e
      subst q
      rw [hd w hw]
      exact c3 a t w haa ht hw hna
    · rw [pk_un z] at e
      by_cases x : j = a
      · subst x
        rw [pk_us] at e
        exact absurd e.symm (vc_nm1 hs)
      · rw [pk_un x] at e
        rw [ho j w hj hw z]
        exact c3 j s w hj hs hw e
  · refine c4 s w hs hw fun j hj e => ?_
    have z : j ≠ i := by
      intro ej
      subst ej
      exact vc_nm1 hs (e.symm.trans hn)
    by_cases x : j = a
    · subst x
      have g := h i hi (by rw [pk_us, ← hna]; exact e)
      rw [pk_us] at g
      exact g
    · have g := h j hj (by rw [pk_un z, pk_un x]; exact e)
      rw [pk_un z] at g
      exact g
/-- a word is stored into a line -/
theorem vc_put {i t k : Nat} {x : Int32} (C : vc_CI mem nm ch da wd) (hi : i < 16) (ht : t < 16) (hk : k < 4) (hn : nm i = nI t) :
    vc_CI mem nm (upd ch i 1) (upd da (i * 4 + k) x) (upd wd (t * 4 + k) x) := by
  obtain ⟨c1, c2, c3, c4, c5⟩ := C
  refine ⟨c1, c2, fun j s w hj hs hw e => ?_, fun s w hs hw h => ?_, vc_chb c5 (Or.inr rfl)⟩
  · by_cases z : j = i
    · subst z
      have q := vc_inj hs ht (e.symm.trans hn)
      subst q
      by_cases y : w = k
      · subst y
        rw [pk_us, pk_us]
      · rw [pk_un (by omega), pk_un (by omega)]
        exact c3 j s w hj hs hw e
    · have q : s ≠ t := by
        intro q
        subst q
        rcases c2 j i hj hi (e.trans hn.symm) with g | g
        · exact vc_nm1 hs (e.symm.trans g)
        · exact z g
      rw [pk_un (by omega), pk_un (by omega)]
      exact c3 j s w hj hs hw e
  · by_cases q : s = t
    · subst q
      have g := h i hi hn
      rw [pk_us] at g
      exact absurd g vc_10
    · rw [pk_un (by omega)]
      refine c4 s w hs hw fun j hj e => ?_
      have z : j ≠ i := by
        intro z
        subst z
        exact q (vc_inj hs ht (e.symm.trans hn))
      have g := h j hj e
      rw [pk_un z] at g
      exact g
/-- a word is stored into the memory where no line has its name -/
theorem vc_set {t k : Nat} {x : Int32} (C : vc_CI mem nm ch da wd) (ht : t < 16) (hk : k < 4) (ha : vc_Ab nm t) :
    vc_CI (upd mem (t * 4 + k) x) nm ch da (upd wd (t * 4 + k) x) := by
  obtain ⟨c1, c2, c3, c4, c5⟩ := C
  refine ⟨c1, c2, fun j s w hj hs hw e => ?_, fun s w hs hw h => ?_, c5⟩
  · have q : s ≠ t := by
      intro q
      subst q
      exact ha j hj e
    rw [pk_un (by omega)]
    exact c3 j s w hj hs hw e
  · by_cases q : s * 4 + w = t * 4 + k
    · rw [q, pk_us, pk_us]
    · rw [pk_un q, pk_un q]
      exact c4 s w hs hw h
end
end
section
/-! the page table and the table of translations -/
/-- frames: -2 or a number below 8; writable, dirty: 0 or 1 -/
def vc_PT (fr wr di : Nat → Int32) : Prop :=
  (∀ v, v < 16 → fr v = -2 ∨ ∃ f, f < 8 ∧ fr v = nI f) ∧ (∀ v, v < 16 → wr v = 0 ∨ wr v = 1) ∧ (∀ v, v < 16 → di v = 0 ∨ di v = 1)
/-- an entry is empty or says what the page table says -/
def vc_TE (fr wr us di ep ef ew ed : Nat → Int32) (e : Nat) : Prop :=
  ep e = -1 ∨ ∃ v f, v < 16 ∧ f < 8 ∧ ep e = nI v ∧ fr v = nI f ∧ ef e = nI f ∧ (ew e = 0 ↔ wr v = 0) ∧ us v = 1 ∧ (ed e = 0 ∨ di v = 1)
def vc_TI (fr wr us di ep ef ew ed : Nat → Int32) : Prop := ∀ e, e < 4 → vc_TE fr wr us di ep ef ew ed e
/-- ep' is ep without page x -/
def vc_Sh (ep ep' : Nat → Int32) (x : Int32) : Prop := ∀ e, e < 4 → ep' e = -1 ∨ (ep' e = ep e ∧ ep e ≠ x)
section
variable {c o : Int32} {mem fr wr us di nm ch ls da ep ef ew ed es : Nat → Int32}
variable {ep' fr' wr' us' di' : Nat → Int32}
/-- what is behind a shoot-down of page v, if the page table changed at v alone -/
theorem vc_sh {v : Nat} (T : vc_TI fr wr us di ep ef ew ed) (S : vc_Sh ep ep' (nI v))
    (h : ∀ q, q < 16 → q ≠ v → fr' q = fr q ∧ wr' q = wr q ∧ us' q = us q ∧ di' q = di q) : vc_TI fr' wr' us' di' ep' ef ew ed := by
  intro e he
  rcases S e he with g | ⟨g1, g2⟩
  · exact Or.inl g
  · rcases T e he with k | ⟨q, f, hq, hf, k1, k2, k3, k4, k5, k6⟩
    · exact Or.inl (g1.trans k)
    · have z : q ≠ v := by
        intro z
        subst z
        exact g2 k1
      obtain ⟨h1, h2, h3, h4⟩ := h q hq z
      exact Or.inr ⟨q, f, hq, hf, g1.trans k1, h1.trans k2, k3, by rw [h2]; exact k4, h3.trans k5, by rw [h4]; exact k6⟩
/-! the walks -/
theorem vc_shootL {post : SX → Prop} {x : Int32} {ep0 : Nat → Int32} (K : ∀ ep', vc_Sh ep0 ep' x → post (c, o, mem, fr, wr, us, di, nm, ch, ls, da, ep', ef, ew, ed, es)) :
    ∀ d j ep, j + d = 4 → (∀ e, e < j → ep e = -1 ∨ (ep e = ep0 e ∧ ep0 e ≠ x)) → (∀ e, j ≤ e → ep e = ep0 e) → wX_shoot_2 post x c o (d + 1) (nI j) mem fr wr us di nm ch ls da ep ef ew ed es := by
  intro d
  induction d with
  | zero =>
    intro j ep hj I1 I2
    exact br_t (nI_le (a := 4) (b := j) (by omega) (by omega)) (K ep fun e he => I1 e (by omega))
  | succ d ih =>
    intro j ep hj I1 I2
    have cl : (nI j).toNatClampNeg = j := vc_cl (by omega)
    have hin : vp_in (nI j) 4 := vc_i4 (by omega)
    refine br_f (nI_ge (a := j) (b := 4) (by omega) (by decide)) ⟨hin, br_c (fun h => ⟨hin, nm_r (e' := upd ep j (-1)) (by rw [cl]) (nm_r (nI_1 j) (ih (j + 1) _ (by omega) ?_ ?_))⟩) (fun h => nm_r (nI_1 j) (ih (j + 1) ep (by omega) ?_ ?_))⟩
    · intro e he
      by_cases z : e = j
      · subst z
        exact Or.inl pk_us
      · rw [pk_un z]
        exact I1 e (by omega)
    · intro e he
      rw [pk_un (by omega)]
      exact I2 e (by omega)
    · intro e he
      by_cases z : e = j
      · subst z
        rw [cl, I2 e (by omega)] at h
        exact Or.inr ⟨I2 e (by omega), h⟩
      · exact I1 e (by omega)
    · intro e he
      exact I2 e (by omega)
theorem vc_shoot {post : SX → Prop} {x : Int32} (K : ∀ ep', vc_Sh ep ep' x → post (c, o, mem, fr, wr, us, di, nm, ch, ls, da, ep', ef, ew, ed, es)) : wpX_shoot post (c, o, mem, fr, wr, us, di, nm, ch, ls, da, ep, ef, ew, ed, es) x := by
  unfold wpX_shoot
  dsimp only
  exact ⟨5, vc_shootL (post := post) K 4 0 ep rfl (fun e he => absurd he (by omega)) (fun e _ => rfl)⟩
theorem vc_entL {post : Int32 → Prop} {x : Int32} (K0 : (∀ e, e < 4 → ep e ≠ x) → post (-1)) (K1 : ∀ e, e < 4 → ep e = x → post (nI e)) :
    ∀ d j r, j + d = 4 → ((r = -1 ∧ ∀ e, e < j → ep e ≠ x) ∨ ∃ e, e < 4 ∧ ep e = x ∧ r = nI e) → wX_entryOf_4 post x c o mem fr wr us di nm ch ls da ep ef ew ed es (d + 1) r (nI j) := by
  intro d
  induction d with
  | zero =>
    intro j r hj I
    refine br_t (nI_le (a := 4) (b := j) (by omega) (by omega)) ?_
    rcases I with ⟨rfl, h⟩ | ⟨e, he, hx, rfl⟩
    · exact K0 fun e he => h e (by omega)
    · exact K1 e he hx
  | succ d ih =>
    intro j r hj I
    have cl : (nI j).toNatClampNeg = j := vc_cl (by omega)
    refine br_f (nI_ge (a := j) (b := 4) (by omega) (by decide)) ⟨vc_i4 (by omega), br_c (fun h => nm_r (nI_1 j) (ih (j + 1) (nI j) (by omega) (Or.inr ⟨j, by omega, ?_, rfl⟩))) (fun h => nm_r (nI_1 j) (ih (j + 1) r (by omega) ?_))⟩
    · rw [cl] at h
      exact h
    · rw [cl] at h
      rcases I with ⟨g1, g2⟩ | g
      · refine Or.inl ⟨g1, fun e he => ?_⟩
        by_cases z : e = j
        · subst z
          exact h
        · exact g2 e (by omega)
      · exact Or.inr g
theorem vc_ent {post : Int32 → Prop} {x : Int32} (K0 : (∀ e, e < 4 → ep e ≠ x) → post (-1)) (K1 : ∀ e, e < 4 → ep e = x → post (nI e)) : wpX_entryOf post (c, o, mem, fr, wr, us, di, nm, ch, ls, da, ep, ef, ew, ed, es) x := by
  unfold wpX_entryOf
  dsimp only
  exact ⟨5, vc_entL (post := post) K0 K1 4 0 (-1) rfl (Or.inl ⟨rfl, fun e he => absurd he (by omega)⟩)⟩
theorem vc_oldL {post : Int32 → Prop} (K : ∀ e, e < 4 → post (nI e)) :
    ∀ d j q, j + d = 4 → q < 4 → wX_oldestEntry_4 post c o mem fr wr us di nm ch ls da ep ef ew ed es (d + 1) (nI q) (nI j) := by
  intro d
  induction d with
  | zero =>
    intro j q hj hq
    exact br_t (nI_le (a := 4) (b := j) (by omega) (by omega)) (K q hq)
  | succ d ih =>
    intro j q hj hq
    have hin : vp_in (nI j) 4 := vc_i4 (by omega)
    exact br_f (nI_ge (a := j) (b := 4) (by omega) (by decide)) ⟨hin, br_c (fun _ => ⟨hin, vc_i4 hq, br_c (fun _ => nm_r (nI_1 j) (ih (j + 1) q (by omega) hq)) (fun _ => nm_r (nI_1 j) (ih (j + 1) j (by omega) (by omega)))⟩) (fun _ => K j (by omega))⟩
theorem vc_old {post : Int32 → Prop} (K : ∀ e, e < 4 → post (nI e)) : wpX_oldestEntry post (c, o, mem, fr, wr, us, di, nm, ch, ls, da, ep, ef, ew, ed, es) := by
  unfold wpX_oldestEntry
  dsimp only
  exact ⟨5, vc_oldL (post := post) K 4 0 0 rfl (by decide)⟩
/-! translate -/
theorem vc_t103r {post : Int32 → SX → Prop} {v e : Nat} (he : e < 4) (K : ∀ es', post (nI e) (c, o, mem, fr, wr, us, di, nm, ch, ls, da, ep, ef, ew, ed, es')) : wX_translate_103 post (nI v) 0 (nI e) c o mem fr wr us di nm ch ls da ep ef ew ed es := by
  unfold wX_translate_103
  exact ⟨vc_i4 he, nm_e (br_t rfl (K _))⟩
theorem vc_t103w {post : Int32 → SX → Prop} {v e : Nat} (hv : v < 16) (he : e < 4) (T : vc_TI fr wr us di ep ef ew ed) (hE : ep e = nI v)
    (K : wr v ≠ 0 → ∀ ed' es', vc_TI fr wr us (upd di v 1) ep ef ew ed' → post (nI e) (c, o, mem, fr, wr, us, upd di v 1, nm, ch, ls, da, ep, ef, ew, ed', es'))
    (Kr : wr v = 0 → ∀ es', post (-3) (c, o, mem, fr, wr, us, di, nm, ch, ls, da, ep, ef, ew, ed, es')) : wX_translate_103 post (nI v) 1 (nI e) c o mem fr wr us di nm ch ls da ep ef ew ed es := by
  have cle : (nI e).toNatClampNeg = e := vc_cl (by omega)
  have clv : (nI v).toNatClampNeg = v := vc_cl (by omega)
  rcases T e he with k | ⟨q, f, hq, hf, k1, k2, k3, k4, k5, k6⟩
  · exact absurd (hE.symm.trans k) (vc_nm1 hv)
  · have z := vc_inj hv hq (hE.symm.trans k1)
    subst z
    unfold wX_translate_103
    refine ⟨vc_i4 he, nm_e (br_f vc_10 ⟨vc_i4 he, br_c (fun h => Kr (k4.mp (by rw [cle] at h; exact h)) _) (fun h => ⟨vc_i4 he, br_c (fun g => ⟨vc_i4 he, nm_r (e' := upd ed e 1) (by rw [cle, vc_b1]) ⟨vc_i16 hv, nm_r (e' := upd di v 1) (by rw [clv, vc_b1]) (K (fun y => h ?_) _ _ ?_)⟩⟩) (fun g => ?_)⟩)⟩)⟩
    · rw [cle]
      exact k4.mpr y
    · intro e' he'
      rcases T e' he' with l | ⟨p, f', hp, hf', l1, l2, l3, l4, l5, l6⟩
      · exact Or.inl l
      · refine Or.inr ⟨p, f', hp, hf', l1, l2, l3, l4, l5, ?_⟩
        by_cases y : p = v
        · subst y
          exact Or.inr pk_us
        · have y' : e' ≠ e := by
            intro y'
            subst y'
            exact y (vc_inj hp hv (l1.symm.trans hE))
          rw [pk_un y, pk_un y']
          exact l6
    · rw [cle] at g h
      have y : upd di v 1 = di := vc_id (k6.resolve_left g)
      have r := K (fun y => h (k4.mpr y)) ed (upd es (nI e).toNatClampNeg c) (by rw [y]; exact T)
      rw [y] at r
      exact r
theorem vc_t48 {post : Int32 → SX → Prop} {v f : Nat} {b : Int32} (hv : v < 16) (hf : f < 8) (P : vc_PT fr wr di) (T : vc_TI fr wr us di ep ef ew ed) (hF : fr v = nI f)
    (K : ∀ q, q < 4 → ∀ ep' ef' ew' ed', vc_TI fr wr (upd us v 1) di ep' ef' ew' ed' → ep' q = nI v → ef' q = nI f →
      wX_translate_103 post (nI v) b (nI q) c o mem fr wr (upd us v 1) di nm ch ls da ep' ef' ew' ed' es) : wX_translate_48 post (nI v) b c o mem fr wr us di nm ch ls da ep ef ew ed es := by
  have clv : (nI v).toNatClampNeg = v := vc_cl (by omega)
  unfold wX_translate_48
  refine vc_old fun q hq => ?_
  have clq : (nI q).toNatClampNeg = q := vc_cl (by omega)
  have h4 : vp_in (nI q) 4 := vc_i4 hq
  have h16 : vp_in (nI v) 16 := vc_i16 hv
  refine ⟨h4, nm_r (e' := upd ep q (nI v)) (by rw [clq]) ⟨h16, h4, nm_r (e' := upd ef q (nI f)) (by rw [clq, clv, hF]) ⟨h16, h4, nm_r (e' := upd ew q (wr v)) (by rw [clq, clv, vc_bb (P.2.1 v hv)]) ⟨h16, h4, nm_r (e' := upd ed q (di v)) (by rw [clq, clv, vc_bb (P.2.2 v hv)]) ⟨h16, nm_r (e' := upd us v 1) (by rw [clv, vc_b1]) (K q hq _ _ _ _ ?_ pk_us pk_us)⟩⟩⟩⟩⟩
  intro e he
  by_cases z : e = q
  · subst z
    exact Or.inr ⟨v, f, hv, hf, pk_us, hF, pk_us, by rw [pk_us], pk_us, by rw [pk_us]; exact P.2.2 v hv⟩
  · rcases T e he with l | ⟨p, f', hp, hf', l1, l2, l3, l4, l5, l6⟩
    · exact Or.inl (by rw [pk_un z]; exact l)
    · refine Or.inr ⟨p, f', hp, hf', by rw [pk_un z]; exact l1, l2, by rw [pk_un z]; exact l3, by rw [pk_un z]; exact l4, ?_, by rw [pk_un z]; exact l6⟩
      by_cases y : p = v
      · subst y
        exact pk_us
      · rw [pk_un y]
        exact l5
theorem vc_trR {post : Int32 → SX → Prop} {v : Nat} (hv : v < 16) (P : vc_PT fr wr di) (T : vc_TI fr wr us di ep ef ew ed)
    (Ku : fr v = -2 → ∀ c', post (-2) (c', o, mem, fr, wr, us, di, nm, ch, ls, da, ep, ef, ew, ed, es))
    (K : ∀ f e, f < 8 → e < 4 → fr v = nI f → ∀ c' ep' ef' ew' ed' es', ef' e = nI f → vc_TI fr wr (upd us v 1) di ep' ef' ew' ed' → post (nI e) (c', o, mem, fr, wr, upd us v 1, di, nm, ch, ls, da, ep', ef', ew', ed', es')) :
    wpX_translate post (c, o, mem, fr, wr, us, di, nm, ch, ls, da, ep, ef, ew, ed, es) (nI v) 0 := by
  have clv : (nI v).toNatClampNeg = v := vc_cl (by omega)
  unfold wpX_translate
  dsimp only
  refine nm_e (vc_ent (fun h => br_f vc_m1 ⟨vc_i16 hv, ?_⟩) (fun e he hE => br_t (vc_p' (by omega)) ?_))
  · rw [clv]
    rcases P.1 v hv with g | ⟨f, hf, g⟩
    · exact br_f (by rw [g]; exact vc_m2) (Ku g _)
    · refine br_t (by rw [g]; exact vc_p' (by omega)) (br_t rfl (vc_t48 hv hf P T g fun q hq ep' ef' ew' ed' T' h1 h2 => vc_t103r hq fun es' => K f q hf hq g _ _ _ _ _ _ h2 T'))
  · rcases T e he with k | ⟨q, f, hq, hf, k1, k2, k3, k4, k5, k6⟩
    · exact absurd (hE.symm.trans k) (vc_nm1 hv)
    · have z := vc_inj hv hq (hE.symm.trans k1)
      subst z
      have y : upd us v 1 = us := vc_id k5
      refine vc_t103r he fun es' => ?_
      have r := K f e hf he k2 (c + 1) ep ef ew ed es' k3 (by rw [y]; exact T)
      rw [y] at r
      exact r
theorem vc_trW {post : Int32 → SX → Prop} {v : Nat} (hv : v < 16) (P : vc_PT fr wr di) (T : vc_TI fr wr us di ep ef ew ed)
    (Ku : fr v = -2 → ∀ c', post (-2) (c', o, mem, fr, wr, us, di, nm, ch, ls, da, ep, ef, ew, ed, es))
    (Kr : ∀ f, f < 8 → fr v = nI f → wr v = 0 → ∀ c' es', post (-3) (c', o, mem, fr, wr, us, di, nm, ch, ls, da, ep, ef, ew, ed, es'))
    (K : ∀ f e, f < 8 → e < 4 → fr v = nI f → wr v ≠ 0 → ∀ c' ep' ef' ew' ed' es', ef' e = nI f → vc_TI fr wr (upd us v 1) (upd di v 1) ep' ef' ew' ed' → post (nI e) (c', o, mem, fr, wr, upd us v 1, upd di v 1, nm, ch, ls, da, ep', ef', ew', ed', es')) :
    wpX_translate post (c, o, mem, fr, wr, us, di, nm, ch, ls, da, ep, ef, ew, ed, es) (nI v) 1 := by
  have clv : (nI v).toNatClampNeg = v := vc_cl (by omega)
  unfold wpX_translate
  dsimp only
  refine nm_e (vc_ent (fun h => br_f vc_m1 ⟨vc_i16 hv, ?_⟩) (fun e he hE => br_t (vc_p' (by omega)) ?_))
  · rw [clv]
    rcases P.1 v hv with g | ⟨f, hf, g⟩
    · exact br_f (by rw [g]; exact vc_m2) (Ku g _)
    · refine br_t (by rw [g]; exact vc_p' (by omega)) (br_f vc_10 ⟨vc_i16 hv, br_c (fun w => Kr f hf g w _ _) (fun w => vc_t48 hv hf P T g fun q hq ep' ef' ew' ed' T' h1 h2 => vc_t103w hv hq T' h1 (fun w' ed'' es' T'' => K f q hf hq g w' _ _ _ _ _ _ h2 T'') (fun w' => absurd w' w))⟩)
  · rcases T e he with k | ⟨q, f, hq, hf, k1, k2, k3, k4, k5, k6⟩
    · exact absurd (hE.symm.trans k) (vc_nm1 hv)
    · have z := vc_inj hv hq (hE.symm.trans k1)
      subst z
      have y : upd us v 1 = us := vc_id k5
      refine vc_t103w hv he T hE (fun w ed' es' T' => ?_) (fun w es' => Kr f hf k2 w _ _)
      have r := K f e hf he k2 w (c + 1) ep ef ew ed' es' k3 (by rw [y]; exact T')
      rw [y] at r
      exact r
end
end
section
/-! the walks of the cache: write back, search, make room -/
section
variable {c o : Int32} {mem fr wr us di nm ch ls da ep ef ew ed es wd : Nat → Int32}
theorem vc_wbL {post : SX → Prop} {i t : Nat} {mem0 : Nat → Int32} (hi : i < 16) (ht : t < 16) (hn : nm i = nI t)
    (K : ∀ mem', (∀ w, w < 4 → mem' (t * 4 + w) = da (i * 4 + w)) → (∀ s w, s < 16 → w < 4 → s ≠ t → mem' (s * 4 + w) = mem0 (s * 4 + w)) → post (c, o, mem', fr, wr, us, di, nm, upd ch i 0, ls, da, ep, ef, ew, ed, es)) :
    ∀ d j mem, j + d = 4 → (∀ w, w < j → mem (t * 4 + w) = da (i * 4 + w)) → (∀ s w, s < 16 → w < 4 → s ≠ t → mem (s * 4 + w) = mem0 (s * 4 + w)) →
      wX_writeBack_20 post (nI i) c o (d + 1) (nI j) mem fr wr us di nm ch ls da ep ef ew ed es := by
  have cl : (nI i).toNatClampNeg = i := vc_cl (by omega)
  intro d
  induction d with
  | zero =>
    intro j mem hj I1 I2
    exact br_t (nI_le (a := 4) (b := j) (by omega) (by omega)) ⟨vc_i16 hi, nm_r (e' := upd ch i 0) (by rw [cl, vc_b0]) (K mem (fun w hw => I1 w (by omega)) I2)⟩
  | succ d ih =>
    intro j mem hj I1 I2
    have e1 : nm (nI i).toNatClampNeg * 4 + nI j = nI (t * 4 + j) := by rw [cl, hn, vc_x4, nI_add]
    have e2 : nI i * 4 + nI j = nI (i * 4 + j) := by rw [vc_x4, nI_add]
    have c1 : (nI (t * 4 + j)).toNatClampNeg = t * 4 + j := vc_cl (by omega)
    have c2 : (nI (i * 4 + j)).toNatClampNeg = i * 4 + j := vc_cl (by omega)
    have i1 : vp_in (nm (nI i).toNatClampNeg * 4 + nI j) 64 := by rw [e1]; exact vc_i64 (by omega)
    have i2 : vp_in (nI i * 4 + nI j) 64 := by rw [e2]; exact vc_i64 (by omega)
    refine br_f (nI_ge (a := j) (b := 4) (by omega) (by decide)) ⟨vc_i16 hi, i2, i1, nm_r (e' := upd mem (t * 4 + j) (da (i * 4 + j))) (by rw [e1, e2, c1, c2]) (nm_r (nI_1 j) (ih (j + 1) _ (by omega) ?_ ?_))⟩
    · intro w hw
      by_cases z : w = j
      · subst z
        exact pk_us
      · rw [pk_un (by omega)]
        exact I1 w (by omega)
    · intro s w hs hw z
      rw [pk_un (by omega)]
      exact I2 s w hs hw z
theorem vc_wback {post : SX → Prop} {i : Nat} (C : vc_CI mem nm ch da wd) (hi : i < 16)
    (K : ∀ mem' ch', vc_CI mem' nm ch' da wd → (nm i = -1 ∨ ch' i = 0) → (∀ j, ch j = 0 → ch' j = 0) → post (c, o, mem', fr, wr, us, di, nm, ch', ls, da, ep, ef, ew, ed, es)) : wpX_writeBack post (c, o, mem, fr, wr, us, di, nm, ch, ls, da, ep, ef, ew, ed, es) (nI i) := by
  have cl : (nI i).toNatClampNeg = i := vc_cl (by omega)
  unfold wpX_writeBack
  dsimp only
  rw [cl]
  refine ⟨vc_i16 hi, ?_⟩
  rcases C.1 i hi with g | ⟨t, ht, g, _⟩
  · exact br_t (by rw [g]; exact vc_l1) (K _ _ C (Or.inl g) (fun _ h => h))
  · refine br_f (by rw [g]; exact vc_p (by omega)) ⟨vc_i16 hi, br_c (fun h => K _ _ C (Or.inr h) (fun _ h => h)) (fun h => ⟨5, vc_wbL (post := post) (mem0 := mem) hi ht g ?_ 4 0 mem rfl (fun w hw => absurd hw (by omega)) (fun s w _ _ _ => rfl)⟩)⟩
    intro mem' h1 h2
    refine K _ _ (vc_wb C hi ht g h1 h2) (Or.inr pk_us) ?_
    intro j hj
    by_cases z : j = i
    · subst z
      exact pk_us
    · rw [pk_un z]
      exact hj
theorem vc_lineIn {post : Int32 → Prop} {s : Nat} {x : Int32} (hs : s < 8) (K0 : nm (s * 2) ≠ x → nm (s * 2 + 1) ≠ x → post (-1)) (K1 : ∀ i, i < 16 → i / 2 = s → nm i = x → post (nI i)) :
    wpX_lineIn post (c, o, mem, fr, wr, us, di, nm, ch, ls, da, ep, ef, ew, ed, es) (nI s) x := by
  have c1 : (nI (s * 2)).toNatClampNeg = s * 2 := vc_cl (by omega)
  have c2 : (nI (s * 2 + 1)).toNatClampNeg = s * 2 + 1 := vc_cl (by omega)
  unfold wpX_lineIn
  dsimp only
  rw [vc_x2, nI_1, c1, c2]
  exact ⟨vc_i16 (by omega), br_c (fun h => K1 (s * 2) (by omega) (by omega) h) (fun h => ⟨vc_i16 (by omega), br_c (fun g => K1 (s * 2 + 1) (by omega) (by omega) g) (fun g => K0 h g)⟩)⟩
theorem vc_anyL {post : Int32 → Prop} {t : Nat} (ht : t < 16) (K0 : (∀ i, i < 16 → i / 2 % 2 = t % 2 → nm i ≠ nI t) → post (-1)) (K1 : ∀ i, i < 16 → nm i = nI t → post (nI i)) :
    ∀ d j r, j + d = 4 → ((r = -1 ∧ ∀ i, i < 4 * j → i / 2 % 2 = t % 2 → nm i ≠ nI t) ∨ ∃ i, i < 16 ∧ nm i = nI t ∧ r = nI i) → wX_lineAnywhere_4 post (nI t) c o mem fr wr us di nm ch ls da ep ef ew ed es (d + 1) r (nI j) := by
  intro d
  induction d with
  | zero =>
    intro j r hj I
    refine br_t (nI_le (a := 4) (b := j) (by omega) (by omega)) ?_
    rcases I with ⟨rfl, h⟩ | ⟨i, hi, hx, rfl⟩
    · exact K0 fun i hi => h i (by omega)
    · exact K1 i hi hx
  | succ d ih =>
    intro j r hj I
    have e : nI j * 2 + (nI t &&& 1) = nI (j * 2 + t % 2) := by rw [vc_x2, vc_a1 (by omega), nI_add]
    refine br_f (nI_ge (a := j) (b := 4) (by omega) (by decide)) ?_
    rw [e]
    refine vc_lineIn (by omega) (fun h1 h2 => br_t vc_l1 (nm_r (nI_1 j) (ih (j + 1) r (by omega) ?_))) (fun i hi _ h => br_f (vc_p (by omega)) (nm_r (nI_1 j) (ih (j + 1) (nI i) (by omega) (Or.inr ⟨i, hi, h, rfl⟩))))
    rcases I with ⟨g1, g2⟩ | g
    · refine Or.inl ⟨g1, fun i hi hp => ?_⟩
      by_cases z : i < 4 * j
      · exact g2 i z hp
      · have y : i = (j * 2 + t % 2) * 2 ∨ i = (j * 2 + t % 2) * 2 + 1 := by omega
        rcases y with y | y
        · rw [y]
          exact h1
        · rw [y]
          exact h2
    · exact Or.inr g
theorem vc_any {post : Int32 → Prop} {t : Nat} (C : vc_CI mem nm ch da wd) (ht : t < 16) (K0 : vc_Ab nm t → post (-1)) (K1 : ∀ i, i < 16 → nm i = nI t → post (nI i)) : wpX_lineAnywhere post (c, o, mem, fr, wr, us, di, nm, ch, ls, da, ep, ef, ew, ed, es) (nI t) := by
  unfold wpX_lineAnywhere
  dsimp only
  refine ⟨5, vc_anyL (post := post) ht (fun h => K0 fun i hi e => ?_) K1 4 0 (-1) rfl (Or.inl ⟨rfl, fun i hi => absurd hi (by omega)⟩)⟩
  rcases C.1 i hi with g | ⟨s, hs, g, p⟩
  · exact vc_nm1 ht (e.symm.trans g)
  · have z := vc_inj ht hs (e.symm.trans g)
    exact h i hi (by rw [z]; exact p) e
theorem vc_vic47 {post : Int32 → SX → Prop} {i : Nat} (C : vc_CI mem nm ch da wd) (hi : i < 16)
    (K : ∀ mem' ch', vc_CI mem' (upd nm i (-1)) ch' da wd → post (nI i) (c, o, mem', fr, wr, us, di, upd nm i (-1), ch', ls, da, ep, ef, ew, ed, es)) : wX_victim_47 post (nI i) c o mem fr wr us di nm ch ls da ep ef ew ed es := by
  have cl : (nI i).toNatClampNeg = i := vc_cl (by omega)
  unfold wX_victim_47
  exact vc_wback C hi fun mem' ch' C' hc _ => ⟨vc_i16 hi, nm_r (e' := upd nm i (-1)) (by rw [cl]) (K _ _ (vc_drop C' hi hc))⟩
theorem vc_victim {post : Int32 → SX → Prop} {s : Nat} (C : vc_CI mem nm ch da wd) (hs : s < 8)
    (K : ∀ i mem' ch', i < 16 → i / 2 = s → vc_CI mem' (upd nm i (-1)) ch' da wd → post (nI i) (c, o, mem', fr, wr, us, di, upd nm i (-1), ch', ls, da, ep, ef, ew, ed, es)) : wpX_victim post (c, o, mem, fr, wr, us, di, nm, ch, ls, da, ep, ef, ew, ed, es) (nI s) := by
  have k1 := vc_vic47 (post := post) C (i := s * 2) (by omega) (fun m h => K _ m h (by omega) (by omega)) (c := c) (o := o) (fr := fr) (wr := wr) (us := us) (di := di) (ls := ls) (ep := ep) (ef := ef) (ew := ew) (ed := ed) (es := es)
  have k2 := vc_vic47 (post := post) C (i := s * 2 + 1) (by omega) (fun m h => K _ m h (by omega) (by omega)) (c := c) (o := o) (fr := fr) (wr := wr) (us := us) (di := di) (ls := ls) (ep := ep) (ef := ef) (ew := ew) (ed := ed) (es := es)
  have i1 : vp_in (nI (s * 2)) 16 := vc_i16 (by omega)
  have i2 : vp_in (nI (s * 2 + 1)) 16 := vc_i16 (by omega)
  unfold wpX_victim
  dsimp only
  refine nm_r (vc_x2 s) (nm_r (nI_1 _) ⟨i1, br_c (fun _ => k1) (fun _ => ⟨i2, br_c (fun _ => ?_) (fun _ => ⟨i2, i1, br_c (fun _ => k1) (fun _ => ?_)⟩)⟩)⟩)
  · unfold wX_victim_44
    exact k2
  · unfold wX_victim_44
    exact k2
end
end
section
/-! the walks of the cache: bring, reach, snoop -/
section
variable {c o : Int32} {mem fr wr us di nm ch ls da ep ef ew ed es wd : Nat → Int32}
theorem vc_b152 {post : Int32 → SX → Prop} {i : Nat} (hi : i < 16) (K : ∀ ls', post (nI i) (c, o, mem, fr, wr, us, di, nm, ch, ls', da, ep, ef, ew, ed, es)) : wX_bring_152 post (nI i) c o mem fr wr us di nm ch ls da ep ef ew ed es := by
  unfold wX_bring_152
  exact ⟨vc_i16 hi, nm_e (K _)⟩
theorem vc_b145 {post : Int32 → SX → Prop} {i t : Nat} (hi : i < 16) (K : ∀ ls', post (nI i) (c, o, mem, fr, wr, us, di, upd nm i (nI t), ch, ls', da, ep, ef, ew, ed, es)) : wX_bring_145 post (nI t) (nI i) c o mem fr wr us di nm ch ls da ep ef ew ed es := by
  unfold wX_bring_145
  exact ⟨vc_i16 hi, nm_r (e' := upd nm i (nI t)) (by rw [vc_cl (by omega)]) (vc_b152 hi K)⟩
theorem vc_b111L {post : Int32 → SX → Prop} {i t : Nat} {da0 : Nat → Int32} (hi : i < 16) (ht : t < 16)
    (K : ∀ da', (∀ w, w < 4 → da' (i * 4 + w) = mem (t * 4 + w)) → (∀ q w, q < 16 → w < 4 → q ≠ i → da' (q * 4 + w) = da0 (q * 4 + w)) → wX_bring_145 post (nI t) (nI i) c o mem fr wr us di nm ch ls da' ep ef ew ed es) :
    ∀ d j da, j + d = 4 → (∀ w, w < j → da (i * 4 + w) = mem (t * 4 + w)) → (∀ q w, q < 16 → w < 4 → q ≠ i → da (q * 4 + w) = da0 (q * 4 + w)) →
      wX_bring_111 post (nI t) (nI i) c o (d + 1) (nI j) mem fr wr us di nm ch ls da ep ef ew ed es := by
  intro d
  induction d with
  | zero =>
    intro j da hj I1 I2
    exact br_t (nI_le (a := 4) (b := j) (by omega) (by omega)) (K da (fun w hw => I1 w (by omega)) I2)
  | succ d ih =>
    intro j da hj I1 I2
    have e1 : nI t * 4 + nI j = nI (t * 4 + j) := by rw [vc_x4, nI_add]
    have e2 : nI i * 4 + nI j = nI (i * 4 + j) := by rw [vc_x4, nI_add]
    have c1 : (nI (t * 4 + j)).toNatClampNeg = t * 4 + j := vc_cl (by omega)
    have c2 : (nI (i * 4 + j)).toNatClampNeg = i * 4 + j := vc_cl (by omega)
    have i1 : vp_in (nI t * 4 + nI j) 64 := by rw [e1]; exact vc_i64 (by omega)
    have i2 : vp_in (nI i * 4 + nI j) 64 := by rw [e2]; exact vc_i64 (by omega)
    refine br_f (nI_ge (a := j) (b := 4) (by omega) (by decide)) ⟨i1, i2, nm_r (e' := upd da (i * 4 + j) (mem (t * 4 + j))) (by rw [e1, e2, c1, c2]) (nm_r (nI_1 j) (ih (j + 1) _ (by omega) ?_ ?_))⟩
    · intro w hw
      by_cases z : w = j
      · subst z
        exact pk_us
      · rw [pk_un (by omega)]
        exact I1 w (by omega)
    · intro q w hq hw z
      rw [pk_un (by omega)]
      exact I2 q w hq hw z
theorem vc_b55L {post : Int32 → SX → Prop} {i a t : Nat} {da0 : Nat → Int32} (hi : i < 16) (ha : a < 16) (hai : a ≠ i)
    (K : ∀ da', (∀ w, w < 4 → da' (i * 4 + w) = da0 (a * 4 + w)) → (∀ q w, q < 16 → w < 4 → q ≠ i → da' (q * 4 + w) = da0 (q * 4 + w)) → wX_bring_145 post (nI t) (nI i) c o mem fr wr us di (upd nm a (-1)) ch ls da' ep ef ew ed es) :
    ∀ d j da, j + d = 4 → (∀ w, w < j → da (i * 4 + w) = da0 (a * 4 + w)) → (∀ q w, q < 16 → w < 4 → q ≠ i → da (q * 4 + w) = da0 (q * 4 + w)) →
      wX_bring_55 post (nI t) (nI i) (nI a) c o (d + 1) (nI j) mem fr wr us di nm ch ls da ep ef ew ed es := by
  have cl : (nI a).toNatClampNeg = a := vc_cl (by omega)
  intro d
  induction d with
  | zero =>
    intro j da hj I1 I2
    exact br_t (nI_le (a := 4) (b := j) (by omega) (by omega)) ⟨vc_i16 ha, nm_r (e' := upd nm a (-1)) (by rw [cl]) (K da (fun w hw => I1 w (by omega)) I2)⟩
  | succ d ih =>
    intro j da hj I1 I2
    have e1 : nI a * 4 + nI j = nI (a * 4 + j) := by rw [vc_x4, nI_add]
    have e2 : nI i * 4 + nI j = nI (i * 4 + j) := by rw [vc_x4, nI_add]
    have c1 : (nI (a * 4 + j)).toNatClampNeg = a * 4 + j := vc_cl (by omega)
    have c2 : (nI (i * 4 + j)).toNatClampNeg = i * 4 + j := vc_cl (by omega)
    have i1 : vp_in (nI a * 4 + nI j) 64 := by rw [e1]; exact vc_i64 (by omega)
    have i2 : vp_in (nI i * 4 + nI j) 64 := by rw [e2]; exact vc_i64 (by omega)
    refine br_f (nI_ge (a := j) (b := 4) (by omega) (by decide)) ⟨i1, i2, nm_r (e' := upd da (i * 4 + j) (da (a * 4 + j))) (by rw [e1, e2, c1, c2]) (nm_r (nI_1 j) (ih (j + 1) _ (by omega) ?_ ?_))⟩
    · intro w hw
      by_cases z : w = j
      · subst z
        rw [pk_us]
        exact I2 a w ha (by omega) hai
      · rw [pk_un (by omega)]
        exact I1 w (by omega)
    · intro q w hq hw z
      rw [pk_un (by omega)]
      exact I2 q w hq hw z
theorem vc_bring {post : Int32 → SX → Prop} {s t : Nat} (C : vc_CI mem nm ch da wd) (hs : s < 8) (ht : t < 16) (hp : s % 2 = t % 2)
    (K : ∀ i c' mem' nm' ch' ls' da', i < 16 → nm' i = nI t → vc_CI mem' nm' ch' da' wd → post (nI i) (c', o, mem', fr, wr, us, di, nm', ch', ls', da', ep, ef, ew, ed, es)) :
    wpX_bring post (c, o, mem, fr, wr, us, di, nm, ch, ls, da, ep, ef, ew, ed, es) (nI s) (nI t) := by
  unfold wpX_bring
  dsimp only
  refine nm_e (vc_lineIn hs (fun h1 h2 => br_f vc_m1 ?_) (fun i hi _ h => br_t (vc_p' (by omega)) (vc_b152 hi fun ls' => K i _ _ _ _ _ _ hi h C)))
  refine vc_any C ht (fun ab => ?_) (fun a ha hna => ?_)
  · refine vc_victim C hs fun i mem' ch' hi his C' => ?_
    dsimp only
    have cl : (nI i).toNatClampNeg = i := vc_cl (by omega)
    refine br_t vc_l1 ⟨vc_i16 hi, nm_r (e' := upd ch' i 0) (by rw [cl, vc_b0]) ⟨5, vc_b111L (post := post) (da0 := da) hi ht ?_ 4 0 da rfl (fun w hw => absurd hw (by omega)) (fun q w _ _ _ => rfl)⟩⟩
    intro da' g1 g2
    refine vc_b145 hi fun ls' => K i _ _ _ _ _ _ hi pk_us (vc_fill C' hi ht (by rw [his]; exact hp) pk_us ?_ g1 g2)
    intro j hj e
    by_cases z : j = i
    · subst z
      rw [pk_us] at e
      exact vc_nm1 ht e.symm
    · rw [pk_un z] at e
      exact ab j hj e
  · refine vc_victim C hs fun i mem' ch' hi his C' => ?_
    dsimp only
    have cl : (nI i).toNatClampNeg = i := vc_cl (by omega)
    have cla : (nI a).toNatClampNeg = a := vc_cl (by omega)
    have hai : a ≠ i := by
      intro z
      subst z
      have y : a = s * 2 ∨ a = s * 2 + 1 := by omega
      rcases y with y | y
      · rw [y] at hna
        exact h1 hna
      · rw [y] at hna
        exact h2 hna
    refine br_f (vc_p (by omega)) ⟨vc_i16 ha, vc_i16 hi, nm_r (e' := upd ch' i (ch' a)) (by rw [cl, cla, vc_bb (C'.2.2.2.2 a ha)]) ⟨5, vc_b55L (post := post) (da0 := da) hi ha hai ?_ 4 0 da rfl (fun w hw => absurd hw (by omega)) (fun q w _ _ _ => rfl)⟩⟩
    intro da' g1 g2
    exact vc_b145 hi fun ls' => K i _ _ _ _ _ _ hi pk_us (vc_move C' hi ha ht (by rw [his]; exact hp) pk_us (by rw [pk_un hai]; exact hna) hai g1 g2)
theorem vc_reach {post : Int32 → SX → Prop} {v f w : Nat} (C : vc_CI mem nm ch da wd) (hv : v < 16) (hf : f < 8) (hw : w < 8)
    (K : ∀ i c' mem' nm' ch' ls' da', i < 16 → nm' i = nI (f * 2 + w / 4) → vc_CI mem' nm' ch' da' wd → post (nI (i * 4 + w % 4)) (c', o, mem', fr, wr, us, di, nm', ch', ls', da', ep, ef, ew, ed, es)) :
    wpX_reach post (c, o, mem, fr, wr, us, di, nm, ch, ls, da, ep, ef, ew, ed, es) (nI v) (nI f) (nI w) := by
  have e1 : (nI v &&& 3) * 2 + nI (w / 4) = nI (v % 4 * 2 + w / 4) := by rw [vc_a3 (by omega), vc_x2, nI_add]
  have e2 : nI f * 2 + nI (w / 4) = nI (f * 2 + w / 4) := by rw [vc_x2, nI_add]
  unfold wpX_reach
  dsimp only
  refine nm_r (vc_s2 (by omega)) ?_
  rw [e1, e2]
  refine vc_bring C (by omega) (by omega) (by omega) fun i c' mem' nm' ch' ls' da' hi hn C' => ?_
  have e3 : nI i * 4 + (nI w &&& 3) = nI (i * 4 + w % 4) := by rw [vc_x4, vc_a3 (by omega), nI_add]
  dsimp only
  rw [e3]
  exact K i c' mem' nm' ch' ls' da' hi hn C'
theorem vc_snoop {post : SX → Prop} {t : Nat} {b : Int32} (C : vc_CI mem nm ch da wd) (ht : t < 16)
    (K : ∀ mem' nm' ch', vc_CI mem' nm' ch' da wd → vc_Cl nm' ch' t → (b ≠ 0 → vc_Ab nm' t) → (∀ s, s < 16 → vc_Cl nm ch s → vc_Cl nm' ch' s) → (∀ s, s < 16 → vc_Ab nm s → vc_Ab nm' s) → post (c, o, mem', fr, wr, us, di, nm', ch', ls, da, ep, ef, ew, ed, es)) :
    wpX_snoop post (c, o, mem, fr, wr, us, di, nm, ch, ls, da, ep, ef, ew, ed, es) (nI t) b := by
  unfold wpX_snoop
  dsimp only
  refine vc_any C ht (fun ab => br_t vc_l1 (K _ _ _ C (fun i hi e => absurd e (ab i hi)) (fun _ => ab) (fun _ _ h => h) (fun _ _ h => h))) (fun i hi hn => br_f (vc_p (by omega)) ?_)
  have cl : (nI i).toNatClampNeg = i := vc_cl (by omega)
  refine vc_wback C hi fun mem' ch' C' hc h0 => ?_
  have un : ∀ j, j < 16 → nm j = nI t → j = i := by
    intro j hj e
    rcases C.2.1 j i hj hi (e.trans hn.symm) with g | g
    · exact absurd (e.symm.trans g) (vc_nm1 ht)
    · exact g
  have hc0 : ch' i = 0 := by
    rcases hc with g | g
    · exact absurd (hn.symm.trans g) (vc_nm1 ht)
    · exact g
  have ne : ∀ j s, s < 16 → upd nm i (-1) j = nI s → j ≠ i ∧ nm j = nI s := by
    intro j s hs e
    by_cases z : j = i
    · subst z
      rw [pk_us] at e
      exact absurd e.symm (vc_nm1 hs)
    · rw [pk_un z] at e
      exact ⟨z, e⟩
  refine br_c (fun hb => K _ _ _ C' ?_ (fun g => absurd hb g) ?_ (fun _ _ h => h)) (fun hb => ⟨vc_i16 hi, nm_r (e' := upd nm i (-1)) (by rw [cl]) (K _ _ _ (vc_drop C' hi (Or.inr hc0)) ?_ ?_ ?_ ?_)⟩)
  · intro j hj e
    rw [un j hj e]
    exact hc0
  · intro s hs h j hj e
    exact h0 j (h j hj e)
  · intro j hj e
    obtain ⟨z, y⟩ := ne j t ht e
    exact absurd (un j hj y) z
  · intro _ j hj e
    obtain ⟨z, y⟩ := ne j t ht e
    exact absurd (un j hj y) z
  · intro s hs h j hj e
    obtain ⟨z, y⟩ := ne j s hs e
    exact h0 j (h j hj y)
  · intro s hs h j hj e
    obtain ⟨z, y⟩ := ne j s hs e
    exact h j hj y
end
end
section
/-! the relation -/
/-- writable is the same on every page that shows a frame -/
def vc_Wr (fr wr yw : Nat → Int32) : Prop := ∀ p, p < 16 → fr p ≠ -2 → wr p = yw p
def i_Rel (k : Nat) (u : SX) (v : SY) : Prop := match u, v with
  | (c, o, mem, fr, wr, us, di, nm, ch, ls, da, ep, ef, ew, ed, es), (ft, wd, fs, yw, yu, yd) => o = ft ∧ fr = fs ∧ us = yu ∧ di = yd ∧ vc_Wr fr wr yw ∧ vc_PT fr wr di ∧ vc_TI fr wr us di ep ef ew ed ∧ vc_CI mem nm ch da wd
theorem vc_el {k : Nat} {Q : SX → SY → Prop}
    (h : ∀ (c o : Int32) (mem fr wr us di nm ch ls da ep ef ew ed es wd yw : Nat → Int32), vc_Wr fr wr yw → vc_PT fr wr di → vc_TI fr wr us di ep ef ew ed → vc_CI mem nm ch da wd → Q (c, o, mem, fr, wr, us, di, nm, ch, ls, da, ep, ef, ew, ed, es) (o, wd, fr, yw, us, di))
    {u : SX} {v : SY} (I : i_Rel k u v) : Q u v := by
  obtain ⟨c, o, mem, fr, wr, us, di, nm, ch, ls, da, ep, ef, ew, ed, es⟩ := u
  obtain ⟨ft, wd, fs, yw, yu, yd⟩ := v
  obtain ⟨h1, h2, h3, h4, hw, P, T, C⟩ := I
  subst h1 h2 h3 h4
  exact h c o mem fr wr us di nm ch ls da ep ef ew ed es wd yw hw P T C
section
variable {c o : Int32} {mem fr wr us di nm ch ls da ep ef ew ed es wd yw : Nat → Int32}
theorem vc_rel {k : Nat} (hw : vc_Wr fr wr yw) (P : vc_PT fr wr di) (T : vc_TI fr wr us di ep ef ew ed) (C : vc_CI mem nm ch da wd) : i_Rel k (c, o, mem, fr, wr, us, di, nm, ch, ls, da, ep, ef, ew, ed, es) (o, wd, fr, yw, us, di) :=
  show o = o ∧ fr = fr ∧ us = us ∧ di = di ∧ vc_Wr fr wr yw ∧ vc_PT fr wr di ∧ vc_TI fr wr us di ep ef ew ed ∧ vc_CI mem nm ch da wd from ⟨rfl, rfl, rfl, rfl, hw, P, T, C⟩
theorem vc_ptF {v : Nat} {x : Int32} (P : vc_PT fr wr di) (hx : x = -2 ∨ ∃ f, f < 8 ∧ x = nI f) : vc_PT (upd fr v x) wr di := by
  refine ⟨fun q hq => ?_, P.2⟩
  by_cases z : q = v
  · subst z
    rw [pk_us]
    exact hx
  · rw [pk_un z]
    exact P.1 q hq
theorem vc_ptW {v : Nat} {x : Int32} (P : vc_PT fr wr di) (hx : x = 0 ∨ x = 1) : vc_PT fr (upd wr v x) di := ⟨P.1, vc_chb P.2.1 hx, P.2.2⟩
theorem vc_ptD {v : Nat} {x : Int32} (P : vc_PT fr wr di) (hx : x = 0 ∨ x = 1) : vc_PT fr wr (upd di v x) := ⟨P.1, P.2.1, vc_chb P.2.2 hx⟩
/-! map, unmap, allow, forget: X's walks -/
theorem vc_map47 {post : Int32 → SX → Prop} {v : Nat} {x z : Int32} (hv : v < 16) (hz : z = 0 ∨ z = 1)
    (K : ∀ ep', vc_Sh ep ep' (nI v) → post x (c, o, mem, fr, upd wr v z, upd us v 0, upd di v 0, nm, ch, ls, da, ep', ef, ew, ed, es)) : wX_map_47 post (nI v) x z (nI v) c o mem fr wr us di nm ch ls da ep ef ew ed es := by
  have clv : (nI v).toNatClampNeg = v := vc_cl (by omega)
  have h16 : vp_in (nI v) 16 := vc_i16 hv
  unfold wX_map_47
  refine ⟨h16, nm_r (e' := upd wr v z) (by rw [clv, vc_bb hz]) ⟨h16, nm_r (e' := upd us v 0) (by rw [clv, vc_b0]) ⟨h16, nm_r (e' := upd di v 0) (by rw [clv, vc_b0]) ?_⟩⟩⟩
  exact vc_shoot fun ep' S => K ep' S
theorem vc_allow51 {post : Int32 → SX → Prop} {v : Nat} {x z : Int32} (hv : v < 16) (hz : z = 0 ∨ z = 1)
    (K : ∀ ep', vc_Sh ep ep' (nI v) → post x (c, o, mem, fr, upd wr v z, us, di, nm, ch, ls, da, ep', ef, ew, ed, es)) : wX_allow_51 post (nI v) x z (nI v) c o mem fr wr us di nm ch ls da ep ef ew ed es := by
  have clv : (nI v).toNatClampNeg = v := vc_cl (by omega)
  have h16 : vp_in (nI v) 16 := vc_i16 hv
  unfold wX_allow_51
  refine ⟨h16, nm_r (e' := upd wr v z) (by rw [clv, vc_bb hz]) ?_⟩
  exact vc_shoot fun ep' S => K ep' S
theorem vc_show {post : SY → Prop} {v : Nat} {p q : Int32} (hv : v < 16) (hq : q = 0 ∨ q = 1)
    (K : post (o, wd, upd fr v p, upd yw v q, upd us v 0, upd di v 0)) : wpY_show post (o, wd, fr, yw, us, di) (nI v) p q := by
  have clv : (nI v).toNatClampNeg = v := vc_cl (by omega)
  have h16 : vp_in (nI v) 16 := vc_i16 hv
  unfold wpY_show
  dsimp only
  exact ⟨h16, nm_r (e' := upd fr v p) (by rw [clv]) ⟨h16, nm_r (e' := upd yw v q) (by rw [clv, vc_bb hq]) ⟨h16, nm_r (e' := upd us v 0) (by rw [clv, vc_b0]) ⟨h16, nm_r (e' := upd di v 0) (by rw [clv, vc_b0]) K⟩⟩⟩⟩
/-! marks -/
def vc_mk (a b : Int32) : Int32 := if b = 0 then (if a = 0 then 0 else 1) else (if a = 0 then 2 else 3)
theorem vc_mk0 (a b : Int32) : ¬ vc_mk a b < 0 := by
  unfold vc_mk
  by_cases h : b = 0
  · rw [if_pos h]
    by_cases g : a = 0
    · rw [if_pos g]
      decide
    · rw [if_neg g]
      decide
  · rw [if_neg h]
    by_cases g : a = 0
    · rw [if_pos g]
      decide
    · rw [if_neg g]
      decide
theorem vc_marksX {post : Int32 → Prop} {v : Nat} (hv : v < 16) (K : post (vc_mk (us v) (di v))) : wpX_marks post (c, o, mem, fr, wr, us, di, nm, ch, ls, da, ep, ef, ew, ed, es) (nI v) := by
  have clv : (nI v).toNatClampNeg = v := vc_cl (by omega)
  have h16 : vp_in (nI v) 16 := vc_i16 hv
  unfold wpX_marks
  dsimp only
  refine vc_pageX hv (br_t rfl ⟨h16, ?_⟩)
  unfold wX_marks_24
  rw [clv]
  unfold vc_mk at K
  by_cases h : di v = 0
  · rw [if_pos h] at K
    by_cases g : us v = 0
    · rw [if_pos g] at K
      exact br_t g ⟨h16, br_t h K⟩
    · rw [if_neg g] at K
      exact br_f g ⟨h16, br_t h K⟩
  · rw [if_neg h] at K
    by_cases g : us v = 0
    · rw [if_pos g] at K
      exact br_t g ⟨h16, br_f h K⟩
    · rw [if_neg g] at K
      exact br_f g ⟨h16, br_f h K⟩
theorem vc_marksY {post : Int32 → Prop} {v : Nat} (hv : v < 16) (K : post (vc_mk (us v) (di v))) : wpY_marks post (o, wd, fr, yw, us, di) (nI v) := by
  have clv : (nI v).toNatClampNeg = v := vc_cl (by omega)
  have h16 : vp_in (nI v) 16 := vc_i16 hv
  unfold wpY_marks
  dsimp only
  refine vc_pageY hv (br_f vc_10 ⟨h16, ?_⟩)
  unfold wY_marks_22
  rw [clv]
  unfold vc_mk at K
  by_cases h : di v = 0
  · rw [if_pos h] at K
    by_cases g : us v = 0
    · rw [if_pos g] at K
      exact br_t g ⟨h16, br_t h K⟩
    · rw [if_neg g] at K
      exact br_f g ⟨h16, br_t h K⟩
  · rw [if_neg h] at K
    by_cases g : us v = 0
    · rw [if_pos g] at K
      exact br_t g ⟨h16, br_f h K⟩
    · rw [if_neg g] at K
      exact br_f g ⟨h16, br_f h K⟩
/-! shown, dirtyPages -/
def vc_ns (fr : Nat → Int32) (x : Int32) : Nat → Int32
  | 0 => 0
  | j + 1 => if fr j = x then vc_ns fr x j + 1 else vc_ns fr x j
theorem vc_shownX {post : Int32 → Prop} {x : Int32} (K : post (vc_ns fr x 16)) : ∀ d j, j + d = 16 → wX_shown_14 post x c o mem fr wr us di nm ch ls da ep ef ew ed es (d + 1) (vc_ns fr x j) (nI j) := by
  intro d
  induction d with
  | zero =>
    intro j hj
    have e : j = 16 := by omega
    subst e
    exact br_t (nI_le (a := 16) (b := 16) (by omega) (by decide)) K
  | succ d ih =>
    intro j hj
    have cl : (nI j).toNatClampNeg = j := vc_cl (by omega)
    have r := ih (j + 1) (by omega)
    rw [vc_ns] at r
    refine br_f (nI_ge (a := j) (b := 16) (by omega) (by decide)) ⟨vc_i16 (by omega), br_c (fun h => nm_e (nm_r (nI_1 j) ?_)) (fun h => nm_r (nI_1 j) ?_)⟩
    · rw [cl] at h
      rw [if_pos h] at r
      exact r
    · rw [cl] at h
      rw [if_neg h] at r
      exact r
theorem vc_shownY {post : Int32 → Prop} {x : Int32} (K : post (vc_ns fr x 16)) : ∀ d j, j + d = 16 → wY_shown_14 post x o wd fr yw us di (d + 1) (vc_ns fr x j) (nI j) := by
  intro d
  induction d with
  | zero =>
    intro j hj
    have e : j = 16 := by omega
    subst e
    exact br_t (nI_le (a := 16) (b := 16) (by omega) (by decide)) K
  | succ d ih =>
    intro j hj
    have cl : (nI j).toNatClampNeg = j := vc_cl (by omega)
    have r := ih (j + 1) (by omega)
    rw [vc_ns] at r
    refine br_f (nI_ge (a := j) (b := 16) (by omega) (by decide)) ⟨vc_i16 (by omega), br_c (fun h => nm_e (nm_r (nI_1 j) ?_)) (fun h => nm_r (nI_1 j) ?_)⟩
    · rw [cl] at h
      rw [if_pos h] at r
      exact r
    · rw [cl] at h
      rw [if_neg h] at r
      exact r
def vc_nd (di : Nat → Int32) : Nat → Int32
  | 0 => 0
  | j + 1 => if di j = 0 then vc_nd di j else vc_nd di j + 1
theorem vc_dirtyX {post : Int32 → Prop} (K : post (vc_nd di 16)) : ∀ d j, j + d = 16 → wX_dirtyPages_4 post c o mem fr wr us di nm ch ls da ep ef ew ed es (d + 1) (vc_nd di j) (nI j) := by
  intro d
  induction d with
  | zero =>
    intro j hj
    have e : j = 16 := by omega
    subst e
    exact br_t (nI_le (a := 16) (b := 16) (by omega) (by decide)) K
  | succ d ih =>
    intro j hj
    have cl : (nI j).toNatClampNeg = j := vc_cl (by omega)
    have r := ih (j + 1) (by omega)
    rw [vc_nd] at r
    refine br_f (nI_ge (a := j) (b := 16) (by omega) (by decide)) ⟨vc_i16 (by omega), br_c (fun h => nm_r (nI_1 j) ?_) (fun h => nm_e (nm_r (nI_1 j) ?_))⟩
    · rw [cl] at h
      rw [if_pos h] at r
      exact r
    · rw [cl] at h
      rw [if_neg h] at r
      exact r
theorem vc_dirtyY {post : Int32 → Prop} (K : post (vc_nd di 16)) : ∀ d j, j + d = 16 → wY_dirtyPages_4 post o wd fr yw us di (d + 1) (vc_nd di j) (nI j) := by
  intro d
  induction d with
  | zero =>
    intro j hj
    have e : j = 16 := by omega
    subst e
    exact br_t (nI_le (a := 16) (b := 16) (by omega) (by decide)) K
  | succ d ih =>
    intro j hj
    have cl : (nI j).toNatClampNeg = j := vc_cl (by omega)
    have r := ih (j + 1) (by omega)
    rw [vc_nd] at r
    refine br_f (nI_ge (a := j) (b := 16) (by omega) (by decide)) ⟨vc_i16 (by omega), br_c (fun h => nm_r (nI_1 j) ?_) (fun h => nm_e (nm_r (nI_1 j) ?_))⟩
    · rw [cl] at h
      rw [if_pos h] at r
      exact r
    · rw [cl] at h
      rw [if_neg h] at r
      exact r
/-! flush -/
theorem vc_flL {post : SX → Prop} (K : ∀ mem' nm' ch', vc_CI mem' nm' ch' da wd → post (c, o, mem', fr, wr, us, di, nm', ch', ls, da, ep, ef, ew, ed, es)) :
    ∀ d j mem nm ch, j + d = 16 → vc_CI mem nm ch da wd → wX_flush_2 post (d + 1) (nI j) c o mem fr wr us di nm ch ls da ep ef ew ed es := by
  intro d
  induction d with
  | zero =>
    intro j mem nm ch hj C
    exact br_t (nI_le (a := 16) (b := j) (by omega) (by omega)) (K mem nm ch C)
  | succ d ih =>
    intro j mem nm ch hj C
    have cl : (nI j).toNatClampNeg = j := vc_cl (by omega)
    refine br_f (nI_ge (a := j) (b := 16) (by omega) (by decide)) ?_
    exact vc_wback C (by omega) fun mem' ch' C' hc _ => ⟨vc_i16 (by omega), nm_r (e' := upd nm j (-1)) (by rw [cl]) (nm_r (nI_1 j) (ih (j + 1) mem' _ ch' (by omega) (vc_drop C' (by omega) hc)))⟩
/-! a store's place: X's and Y's -/
theorem vc_op {post : Int32 → SX → Prop} {v w : Nat} (hv : v < 16) (hw : w < 8) (P : vc_PT fr wr di) (T : vc_TI fr wr us di ep ef ew ed) (C : vc_CI mem nm ch da wd)
    (Ku : fr v = -2 → ∀ c', post (-2) (c', -2, mem, fr, wr, us, di, nm, ch, ls, da, ep, ef, ew, ed, es))
    (Kr : ∀ f, f < 8 → fr v = nI f → wr v = 0 → ∀ c' es', post (-3) (c', -3, mem, fr, wr, us, di, nm, ch, ls, da, ep, ef, ew, ed, es'))
    (K : ∀ f i, f < 8 → i < 16 → fr v = nI f → wr v ≠ 0 → ∀ c' mem' nm' ch' ls' da' ep' ef' ew' ed' es', nm' i = nI (f * 2 + w / 4) → vc_CI mem' nm' ch' da' wd →
      vc_TI fr wr (upd us v 1) (upd di v 1) ep' ef' ew' ed' →
      post (nI (i * 4 + w % 4)) (c', 0, mem', fr, wr, upd us v 1, upd di v 1, nm', upd ch' i 1, ls', da', ep', ef', ew', ed', es')) :
    wpX_open post (c, o, mem, fr, wr, us, di, nm, ch, ls, da, ep, ef, ew, ed, es) (nI v) (nI w) := by
  unfold wpX_open
  dsimp only
  refine vc_pageX hv (br_t rfl (vc_eightX hw (br_t rfl ?_)))
  refine vc_trW hv P T (fun h c' => br_f vc_m2 (Ku h c')) (fun f hf h1 h2 c' es' => br_f vc_m3 (Kr f hf h1 h2 c' es')) (fun f e hf he hF hW c' ep' ef' ew' ed' es' hE T' => br_t (vc_p' (by omega)) ⟨vc_i4 he, ?_⟩)
  have cle : (nI e).toNatClampNeg = e := vc_cl (by omega)
  dsimp only
  rw [cle, hE]
  refine vc_reach C hv hf hw fun i c'' mem' nm' ch' ls' da' hi hn C' => ?_
  have e1 : nI (i * 4 + w % 4) >>> ((2 : Int32) &&& 31) = nI i := by
    rw [vc_s2 (by omega)]
    exact congrArg nI (by omega)
  have cli : (nI i).toNatClampNeg = i := vc_cl (by omega)
  dsimp only
  rw [e1]
  exact ⟨vc_i16 hi, nm_r (e' := upd ch' i 1) (by rw [cli, vc_b1]) (K f i hf hi hF hW c'' mem' nm' ch' ls' da' ep' ef' ew' ed' es' hn C' T')⟩
theorem vc_msK {post : Int32 → SY → Prop} {v w f : Nat} (hv : v < 16) (hw : w < 8) (hf : f < 8) (hF : fr v = nI f) (hW : yw v ≠ 0) (K : post 1 (0, wd, fr, yw, upd us v 1, upd di v 1)) :
    wpY_mayStore post (o, wd, fr, yw, us, di) (nI v) (nI w) := by
  have clv : (nI v).toNatClampNeg = v := vc_cl (by omega)
  have h16 : vp_in (nI v) 16 := vc_i16 hv
  unfold wpY_mayStore
  dsimp only
  refine vc_pageY hv (br_f vc_10 (vc_eightY hw (br_f vc_10 ⟨h16, ?_⟩)))
  rw [clv]
  refine br_f (by rw [hF]; exact vc_nm2 (by omega)) ⟨h16, br_f hW ?_⟩
  unfold wY_mayStore_52
  exact br_t rfl ⟨h16, nm_r (e' := upd us v 1) (by rw [clv, vc_b1]) ⟨h16, nm_r (e' := upd di v 1) (by rw [clv, vc_b1]) (br_t rfl K)⟩⟩
theorem vc_msR {post : Int32 → SY → Prop} {v w f : Nat} (hv : v < 16) (hw : w < 8) (hf : f < 8) (hF : fr v = nI f) (hW : yw v = 0) (K : post 0 (-3, wd, fr, yw, us, di)) :
    wpY_mayStore post (o, wd, fr, yw, us, di) (nI v) (nI w) := by
  have clv : (nI v).toNatClampNeg = v := vc_cl (by omega)
  have h16 : vp_in (nI v) 16 := vc_i16 hv
  have h3 : ¬ (-3 : Int32) = 0 := by decide
  unfold wpY_mayStore
  dsimp only
  refine vc_pageY hv (br_f vc_10 (vc_eightY hw (br_f vc_10 ⟨h16, ?_⟩)))
  rw [clv]
  refine br_f (by rw [hF]; exact vc_nm2 (by omega)) ⟨h16, br_t hW ?_⟩
  unfold wY_mayStore_52
  exact br_f h3 (br_f h3 K)
theorem vc_msU {post : Int32 → SY → Prop} {v w : Nat} (hv : v < 16) (hw : w < 8) (hF : fr v = -2) (K : post 0 (-2, wd, fr, yw, us, di)) :
    wpY_mayStore post (o, wd, fr, yw, us, di) (nI v) (nI w) := by
  have clv : (nI v).toNatClampNeg = v := vc_cl (by omega)
  have h16 : vp_in (nI v) 16 := vc_i16 hv
  have h2 : ¬ (-2 : Int32) = 0 := by decide
  unfold wpY_mayStore
  dsimp only
  refine vc_pageY hv (br_f vc_10 (vc_eightY hw (br_f vc_10 ⟨h16, ?_⟩)))
  rw [clv]
  refine br_t hF ?_
  unfold wY_mayStore_52
  exact br_f h2 (br_f h2 K)
theorem vc_ms17 {post : Int32 → SY → Prop} {x : Int32} (K : post 0 (-1, wd, fr, yw, us, di)) : wY_mayStore_17 post x o wd fr yw us di := by
  have h1 : ¬ (-1 : Int32) = 0 := by decide
  unfold wY_mayStore_17 wY_mayStore_52
  exact br_f h1 (br_f h1 K)
/-- bad arguments: X's refusal and Y's at once -/
theorem vc_opB (x y : Int32) : (∃ v w, v < 16 ∧ w < 8 ∧ x = nI v ∧ y = nI w) ∨
    ((∀ {post : Int32 → SX → Prop}, post (-1) (c, -1, mem, fr, wr, us, di, nm, ch, ls, da, ep, ef, ew, ed, es) → wpX_open post (c, o, mem, fr, wr, us, di, nm, ch, ls, da, ep, ef, ew, ed, es) x y) ∧ (∀ {post : Int32 → SY → Prop}, post 0 (-1, wd, fr, yw, us, di) → wpY_mayStore post (o, wd, fr, yw, us, di) x y)) := by
  rcases vc_page x with ⟨v, hv, rfl⟩ | ⟨gx, gy⟩
  · rcases vc_eight y with ⟨w, hw, rfl⟩ | ⟨gx, gy⟩
    · exact Or.inl ⟨v, w, hv, hw, rfl, rfl⟩
    · refine Or.inr ⟨fun {post} K => ?_, fun {post} K => ?_⟩
      · unfold wpX_open
        dsimp only
        exact vc_pageX hv (br_t rfl (gx (br_f vc_10 K)))
      · unfold wpY_mayStore
        dsimp only
        exact vc_pageY hv (br_f vc_10 (gy (br_t rfl (vc_ms17 K))))
  · refine Or.inr ⟨fun {post} K => ?_, fun {post} K => ?_⟩
    · unfold wpX_open
      dsimp only
      exact gx (br_f vc_10 K)
    · unfold wpY_mayStore
      dsimp only
      exact gy (br_t rfl (vc_ms17 K))
/-! copyFrame -/
/-- the words after j words of frame g went to frame f; how many differed -/
def vc_cw (f g : Nat) (wd : Nat → Int32) : Nat → Nat → Int32
  | 0 => wd
  | j + 1 => upd (vc_cw f g wd j) (f * 8 + j) (vc_cw f g wd j (g * 8 + j))
def vc_cn (f g : Nat) (wd : Nat → Int32) : Nat → Int32
  | 0 => 0
  | j + 1 => if vc_cw f g wd j (f * 8 + j) = vc_cw f g wd j (g * 8 + j) then vc_cn f g wd j else vc_cn f g wd j + 1
theorem vc_ix (f j : Nat) (hj : j < 8) : (f * 2 + j / 4) * 4 + j % 4 = f * 8 + j := by omega
theorem vc_c56 {post : Int32 → SX → Prop} {f g : Nat} (hf : f < 8) (hg : g < 8) (A : ∀ h, h < 2 → vc_Ab nm (f * 2 + h)) (L : ∀ h, h < 2 → vc_Cl nm ch (g * 2 + h))
    (K : ∀ mem', vc_CI mem' nm ch da (vc_cw f g wd 8) → post (vc_cn f g wd 8) (c, o, mem', fr, wr, us, di, nm, ch, ls, da, ep, ef, ew, ed, es)) :
    ∀ d j mem, j + d = 8 → vc_CI mem nm ch da (vc_cw f g wd j) → wX_copyFrame_56 post (nI f) (nI g) c o (d + 1) (vc_cn f g wd j) (nI j) mem fr wr us di nm ch ls da ep ef ew ed es := by
  intro d
  induction d with
  | zero =>
    intro j mem hj C
    have e : j = 8 := by omega
    subst e
    exact br_t (nI_le (a := 8) (b := 8) (by omega) (by decide)) (K mem C)
  | succ d ih =>
    intro j mem hj C
    have e1 : nI f * 8 + nI j = nI (f * 8 + j) := by rw [vc_x8, nI_add]
    have e2 : nI g * 8 + nI j = nI (g * 8 + j) := by rw [vc_x8, nI_add]
    have c1 : (nI (f * 8 + j)).toNatClampNeg = f * 8 + j := vc_cl (by omega)
    have c2 : (nI (g * 8 + j)).toNatClampNeg = g * 8 + j := vc_cl (by omega)
    have i1 : vp_in (nI (f * 8 + j)) 64 := vc_i64 (by omega)
    have i2 : vp_in (nI (g * 8 + j)) 64 := vc_i64 (by omega)
    have m1 : mem (f * 8 + j) = vc_cw f g wd j (f * 8 + j) := by
      have r := C.2.2.2.1 (f * 2 + j / 4) (j % 4) (by omega) (by omega) (fun i hi e => absurd e (A (j / 4) (by omega) i hi))
      rw [vc_ix f j (by omega)] at r
      exact r
    have m2 : mem (g * 8 + j) = vc_cw f g wd j (g * 8 + j) := by
      have r := C.2.2.2.1 (g * 2 + j / 4) (j % 4) (by omega) (by omega) (L (j / 4) (by omega))
      rw [vc_ix g j (by omega)] at r
      exact r
    have C' : vc_CI (upd mem (f * 8 + j) (mem (g * 8 + j))) nm ch da (vc_cw f g wd (j + 1)) := by
      have r := vc_set (t := f * 2 + j / 4) (k := j % 4) (x := mem (g * 8 + j)) C (by omega) (by omega) (A (j / 4) (by omega))
      rw [vc_ix f j (by omega)] at r
      rw [vc_cw, ← m2]
      exact r
    have r := ih (j + 1) _ (by omega) C'
    rw [vc_cn, ← m1, ← m2] at r
    refine br_f (nI_ge (a := j) (b := 8) (by omega) (by decide)) ?_
    unfold wX_copyFrame_93
    rw [e1, e2, c1, c2]
    refine ⟨i1, i2, br_c (fun h => ⟨i2, i1, nm_e (nm_r (nI_1 j) ?_)⟩) (fun h => nm_e ⟨i2, i1, nm_e (nm_r (nI_1 j) ?_)⟩)⟩
    · rw [if_pos h] at r
      exact r
    · rw [if_neg h] at r
      exact r
theorem vc_c23 {post : Int32 → SY → Prop} {f g : Nat} (hf : f < 8) (hg : g < 8) (K : post (vc_cn f g wd 8) (o, vc_cw f g wd 8, fr, yw, us, di)) :
    ∀ d j, j + d = 8 → wY_copyFrame_23 post (nI f) (nI g) o (d + 1) (vc_cn f g wd j) (nI j) (vc_cw f g wd j) fr yw us di := by
  intro d
  induction d with
  | zero =>
    intro j hj
    have e : j = 8 := by omega
    subst e
    exact br_t (nI_le (a := 8) (b := 8) (by omega) (by decide)) K
  | succ d ih =>
    intro j hj
    have e1 : 8 * nI f + nI j = nI (f * 8 + j) := by rw [vc_8x, nI_add, Nat.mul_comm]
    have e2 : 8 * nI g + nI j = nI (g * 8 + j) := by rw [vc_8x, nI_add, Nat.mul_comm]
    have c1 : (nI (f * 8 + j)).toNatClampNeg = f * 8 + j := vc_cl (by omega)
    have c2 : (nI (g * 8 + j)).toNatClampNeg = g * 8 + j := vc_cl (by omega)
    have i1 : vp_in (nI (f * 8 + j)) 64 := vc_i64 (by omega)
    have i2 : vp_in (nI (g * 8 + j)) 64 := vc_i64 (by omega)
    have r := ih (j + 1) (by omega)
    rw [vc_cn, vc_cw] at r
    refine br_f (nI_ge (a := j) (b := 8) (by omega) (by decide)) ?_
    rw [e1, e2, c1, c2]
    refine ⟨i1, i2, br_c (fun h => nm_r (nI_1 j) ?_) (fun h => ⟨i2, i1, nm_e (nm_e (nm_r (nI_1 j) ?_))⟩)⟩
    · rw [if_pos h, vc_id h] at r
      exact r
    · rw [if_neg h] at r
      exact r
theorem vc_c20 {post : Int32 → SX → Prop} {f g : Nat} (hf : f < 8) (hg : g < 8)
    (K : ∀ mem' nm' ch', vc_CI mem' nm' ch' da wd → (∀ h, h < 2 → vc_Ab nm' (f * 2 + h)) → (∀ h, h < 2 → vc_Cl nm' ch' (g * 2 + h)) → ∃ n, wX_copyFrame_56 post (nI f) (nI g) c o n 0 0 mem' fr wr us di nm' ch' ls da ep ef ew ed es) :
    ∀ d j mem nm ch, j + d = 2 → vc_CI mem nm ch da wd → (∀ h, h < j → vc_Ab nm (f * 2 + h)) → (∀ h, h < j → vc_Cl nm ch (g * 2 + h)) → wX_copyFrame_20 post (nI f) (nI g) (d + 1) (nI j) c o mem fr wr us di nm ch ls da ep ef ew ed es := by
  intro d
  induction d with
  | zero =>
    intro j mem nm ch hj C A L
    have e : j = 2 := by omega
    subst e
    exact br_t (nI_le (a := 2) (b := 2) (by omega) (by decide)) (K mem nm ch C A L)
  | succ d ih =>
    intro j mem nm ch hj C A L
    have e1 : nI f * 2 + nI j = nI (f * 2 + j) := by rw [vc_x2, nI_add]
    have e2 : nI g * 2 + nI j = nI (g * 2 + j) := by rw [vc_x2, nI_add]
    refine br_f (nI_ge (a := j) (b := 2) (by omega) (by decide)) ?_
    rw [e1, e2]
    refine vc_snoop C (by omega) fun mem1 nm1 ch1 C1 l1 _ pc1 pa1 => ?_
    dsimp only
    refine vc_snoop C1 (by omega) fun mem2 nm2 ch2 C2 _ a2 pc2 pa2 => ?_
    dsimp only
    refine nm_r (nI_1 j) (ih (j + 1) mem2 nm2 ch2 (by omega) C2 (fun h hh => ?_) (fun h hh => ?_))
    · by_cases z : h = j
      · rw [z]
        exact a2 vc_10
      · exact pa2 _ (by omega) (pa1 _ (by omega) (A h (by omega)))
    · by_cases z : h = j
      · rw [z]
        exact pc2 _ (by omega) l1
      · exact pc2 _ (by omega) (pc1 _ (by omega) (L h (by omega)))
end
end
section
/-! what is owed -/
def vc_ini (x : Int32) (j : Nat) : Nat → Int32 := fun q => if q < j then x else 0
theorem vc_ini0 (x : Int32) : vc_ini x 0 = fun _ => 0 := funext fun q => if_neg (Nat.not_lt_zero q)
theorem vc_iniS (x : Int32) (j : Nat) : upd (vc_ini x j) j x = vc_ini x (j + 1) := by
  funext q
  by_cases z : q = j
  · subst z
    rw [pk_us]
    exact (if_pos (Nat.lt_succ_self q)).symm
  · rw [pk_un z]
    by_cases y : q < j
    · exact (if_pos y).trans (if_pos (by omega)).symm
    · exact (if_neg y).trans (if_neg (by omega)).symm
theorem vc_iniL {x : Int32} {j q : Nat} (h : q < j) : vc_ini x j q = x := if_pos h
section
variable {c o : Int32} {mem fr wr us di nm ch ls da ep ef ew ed es wd yw : Nat → Int32}
theorem vc_i156 {post : SX → Prop} (K : post (c, o, mem, fr, wr, us, di, nm, ch, ls, da, vc_ini (-1) 4, ef, ew, ed, es)) :
    ∀ d j, j + d = 4 → wX_init_156 post c o (d + 1) (nI j) mem fr wr us di nm ch ls da (vc_ini (-1) j) ef ew ed es := by
  intro d
  induction d with
  | zero =>
    intro j hj
    have e : j = 4 := by omega
    subst e
    exact br_t (nI_le (a := 4) (b := 4) (by omega) (by decide)) K
  | succ d ih =>
    intro j hj
    have cl : (nI j).toNatClampNeg = j := vc_cl (by omega)
    exact br_f (nI_ge (a := j) (b := 4) (by omega) (by decide)) ⟨vc_i4 (by omega), nm_r (e' := vc_ini (-1) (j + 1)) (by rw [cl]; exact vc_iniS _ _) (nm_r (nI_1 j) (ih (j + 1) (by omega)))⟩
theorem vc_i135 {post : SX → Prop} (K : ∃ n, wX_init_156 post c o n 0 mem fr wr us di (vc_ini (-1) 16) ch ls da ep ef ew ed es) :
    ∀ d j, j + d = 16 → wX_init_135 post c o (d + 1) (nI j) mem fr wr us di (vc_ini (-1) j) ch ls da ep ef ew ed es := by
  intro d
  induction d with
  | zero =>
    intro j hj
    have e : j = 16 := by omega
    subst e
    exact br_t (nI_le (a := 16) (b := 16) (by omega) (by decide)) K
  | succ d ih =>
    intro j hj
    have cl : (nI j).toNatClampNeg = j := vc_cl (by omega)
    exact br_f (nI_ge (a := j) (b := 16) (by omega) (by decide)) ⟨vc_i16 (by omega), nm_r (e' := vc_ini (-1) (j + 1)) (by rw [cl]; exact vc_iniS _ _) (nm_r (nI_1 j) (ih (j + 1) (by omega)))⟩
theorem vc_i113 {post : SX → Prop} (K : ∃ n, wX_init_135 post c o n 0 mem (vc_ini (-2) 16) wr us di nm ch ls da ep ef ew ed es) :
    ∀ d j, j + d = 16 → wX_init_113 post c o (d + 1) (nI j) mem (vc_ini (-2) j) wr us di nm ch ls da ep ef ew ed es := by
  intro d
  induction d with
  | zero =>
    intro j hj
    have e : j = 16 := by omega
    subst e
    exact br_t (nI_le (a := 16) (b := 16) (by omega) (by decide)) K
  | succ d ih =>
    intro j hj
    have cl : (nI j).toNatClampNeg = j := vc_cl (by omega)
    exact br_f (nI_ge (a := j) (b := 16) (by omega) (by decide)) ⟨vc_i16 (by omega), nm_r (e' := vc_ini (-2) (j + 1)) (by rw [cl]; exact vc_iniS _ _) (nm_r (nI_1 j) (ih (j + 1) (by omega)))⟩
theorem vc_i46 {post : SY → Prop} (K : post (o, wd, vc_ini (-2) 16, yw, us, di)) :
    ∀ d j, j + d = 16 → wY_init_46 post o (d + 1) (nI j) wd (vc_ini (-2) j) yw us di := by
  intro d
  induction d with
  | zero =>
    intro j hj
    have e : j = 16 := by omega
    subst e
    exact br_t (nI_le (a := 16) (b := 16) (by omega) (by decide)) K
  | succ d ih =>
    intro j hj
    have cl : (nI j).toNatClampNeg = j := vc_cl (by omega)
    exact br_f (nI_ge (a := j) (b := 16) (by omega) (by decide)) ⟨vc_i16 (by omega), nm_r (e' := vc_ini (-2) (j + 1)) (by rw [cl]; exact vc_iniS _ _) (nm_r (nI_1 j) (ih (j + 1) (by omega)))⟩
end
theorem i_up {k : Nat} {u : SX} {v : SY} (h : i_Rel k u v) : i_Rel (k + 4) u v := by
  refine vc_el (Q := fun u v => i_Rel (k + 4) u v) ?_ h
  intro c o mem fr wr us di nm ch ls da ep ef ew ed es wd yw hw P T C
  exact vc_rel hw P T C
theorem i_vc0 : wpX_init (fun u => wpY_init (fun v => i_Rel 0 u v)) := by
  unfold wpX_init
  refine ⟨17, ?_⟩
  have r := vc_i113 (post := fun u => wpY_init (fun v => i_Rel 0 u v)) (c := 0) (o := 0) (mem := fun _ => 0) (wr := fun _ => 0) (us := fun _ => 0) (di := fun _ => 0) (nm := fun _ => 0) (ch := fun _ => 0) (ls := fun _ => 0) (da := fun _ => 0) (ep := fun _ => 0) (ef := fun _ => 0) (ew := fun _ => 0) (ed := fun _ => 0) (es := fun _ => 0) ?_ 16 0 rfl
  · rw [vc_ini0] at r
    exact r
  · refine ⟨17, ?_⟩
    have r := vc_i135 (post := fun u => wpY_init (fun v => i_Rel 0 u v)) (c := 0) (o := 0) (mem := fun _ => 0) (fr := vc_ini (-2) 16) (wr := fun _ => 0) (us := fun _ => 0) (di := fun _ => 0) (ch := fun _ => 0) (ls := fun _ => 0) (da := fun _ => 0) (ep := fun _ => 0) (ef := fun _ => 0) (ew := fun _ => 0) (ed := fun _ => 0) (es := fun _ => 0) ?_ 16 0 rfl
    · rw [vc_ini0] at r
      exact r
    · refine ⟨5, ?_⟩
      have r := vc_i156 (post := fun u => wpY_init (fun v => i_Rel 0 u v)) (c := 0) (o := 0) (mem := fun _ => 0) (fr := vc_ini (-2) 16) (wr := fun _ => 0) (us := fun _ => 0) (di := fun _ => 0) (nm := vc_ini (-1) 16) (ch := fun _ => 0) (ls := fun _ => 0) (da := fun _ => 0) (ef := fun _ => 0) (ew := fun _ => 0) (ed := fun _ => 0) (es := fun _ => 0) ?_ 4 0 rfl
      · rw [vc_ini0] at r
        exact r
      · unfold wpY_init
        refine ⟨17, ?_⟩
        have r := vc_i46 (post := fun v => i_Rel 0 (0, 0, fun _ => 0, vc_ini (-2) 16, fun _ => 0, fun _ => 0, fun _ => 0, vc_ini (-1) 16, fun _ => 0, fun _ => 0, fun _ => 0, vc_ini (-1) 4, fun _ => 0, fun _ => 0, fun _ => 0, fun _ => 0) v) (o := 0) (wd := fun _ => 0) (yw := fun _ => 0) (us := fun _ => 0) (di := fun _ => 0) ?_ 16 0 rfl
        · rw [vc_ini0] at r
          exact r
        · exact vc_rel (fun _ _ _ => rfl) ⟨fun v hv => Or.inl (vc_iniL hv), fun _ _ => Or.inl rfl, fun _ _ => Or.inl rfl⟩ (fun e he => Or.inl (vc_iniL he)) ⟨fun i hi => Or.inl (vc_iniL hi), fun i j hi _ _ => Or.inl (vc_iniL hi), fun _ _ _ _ _ _ _ => rfl, fun _ _ _ _ _ => rfl, fun _ _ => Or.inl rfl⟩
theorem i_vc_map {k : Nat} {u : SX} {v : SY} (I : i_Rel k u v) (hk : k + 4 ≤ 2048) (v1 : Int32) (v2 : Int32) (v3 : Int32) : wpX_map (fun r u' => wpY_map (fun r' v' => r' = r ∧ i_Rel (k + 4) u' v') v v1 v2 v3) u v1 v2 v3 := by
  refine vc_el (Q := fun u v => wpX_map (fun r u' => wpY_map (fun r' v' => r' = r ∧ i_Rel (k + 4) u' v') v v1 v2 v3) u v1 v2 v3) ?_ I
  intro c o mem fr wr us di nm ch ls da ep ef ew ed es wd yw hw P T C
  unfold wpX_map wpY_map
  dsimp only
  rcases vc_page v1 with ⟨v, hv, rfl⟩ | ⟨gx, gy⟩
  · rcases vc_eight v2 with ⟨f, hf, rfl⟩ | ⟨gx, gy⟩
    · have clv : (nI v).toNatClampNeg = v := vc_cl (by omega)
      have h16 : vp_in (nI v) 16 := vc_i16 hv
      have key : ∀ (z : Int32) (ep' : Nat → Int32), (z = 0 ∨ z = 1) → vc_Sh ep ep' (nI v) → i_Rel (k + 4) (c, o, mem, upd fr v (nI f), upd wr v z, upd us v 0, upd di v 0, nm, ch, ls, da, ep', ef, ew, ed, es) (o, wd, upd fr v (nI f), upd yw v z, upd us v 0, upd di v 0) := by
        intro z ep' hz S
        refine vc_rel (fun p hp h => ?_) (vc_ptF (vc_ptW (vc_ptD P (Or.inl rfl)) hz) (Or.inr ⟨f, hf, rfl⟩)) (vc_sh T S fun q _ y => ⟨pk_un y, pk_un y, pk_un y, pk_un y⟩) C
        by_cases y : p = v
        · subst y
          rw [pk_us, pk_us]
        · rw [pk_un y] at h
          rw [pk_un y, pk_un y]
          exact hw p hp h
      refine vc_pageX hv (br_t rfl (vc_eightX hf (br_t rfl ⟨h16, nm_r (e' := fr v) (by rw [clv]) ⟨h16, nm_r (e' := upd fr v (nI f)) (by rw [clv]) ?_⟩⟩)))
      refine br_c (fun z => vc_map47 hv (Or.inl rfl) fun ep' S => ?_) (fun z => vc_map47 hv (Or.inr rfl) fun ep' S => ?_)
      · refine vc_pageY hv (br_f vc_10 (vc_eightY hf (br_f vc_10 ⟨h16, nm_r (e' := fr v) (by rw [clv]) (br_t z ?_)⟩)))
        unfold wY_map_38
        exact vc_show hv (Or.inl rfl) ⟨rfl, key 0 ep' (Or.inl rfl) S⟩
      · refine vc_pageY hv (br_f vc_10 (vc_eightY hf (br_f vc_10 ⟨h16, nm_r (e' := fr v) (by rw [clv]) (br_f z ?_)⟩)))
        unfold wY_map_38
        exact vc_show hv (Or.inr rfl) ⟨rfl, key 1 ep' (Or.inr rfl) S⟩
    · exact vc_pageX hv (br_t rfl (gx (br_f vc_10 (vc_pageY hv (br_f vc_10 (gy (br_t rfl ⟨rfl, vc_rel hw P T C⟩)))))))
  · exact gx (br_f vc_10 (gy (br_t rfl ⟨rfl, vc_rel hw P T C⟩)))
theorem i_vc_unmap {k : Nat} {u : SX} {v : SY} (I : i_Rel k u v) (hk : k + 4 ≤ 2048) (v1 : Int32) : wpX_unmap (fun r u' => wpY_unmap (fun r' v' => r' = r ∧ i_Rel (k + 4) u' v') v v1) u v1 := by
  refine vc_el (Q := fun u v => wpX_unmap (fun r u' => wpY_unmap (fun r' v' => r' = r ∧ i_Rel (k + 4) u' v') v v1) u v1) ?_ I
  intro c o mem fr wr us di nm ch ls da ep ef ew ed es wd yw hw P T C
  unfold wpX_unmap wpY_unmap
  dsimp only
  rcases vc_page v1 with ⟨v, hv, rfl⟩ | ⟨gx, gy⟩
  · have clv : (nI v).toNatClampNeg = v := vc_cl (by omega)
    have h16 : vp_in (nI v) 16 := vc_i16 hv
    refine vc_pageX hv (br_t rfl ⟨h16, nm_r (e' := fr v) (by rw [clv]) ⟨h16, nm_r (e' := upd fr v (-2)) (by rw [clv]) ⟨h16, nm_r (e' := upd us v 0) (by rw [clv, vc_b0]) ⟨h16, nm_r (e' := upd di v 0) (by rw [clv, vc_b0]) ?_⟩⟩⟩⟩)
    refine vc_shoot fun ep' S => ?_
    dsimp only
    refine vc_pageY hv (br_f vc_10 ⟨h16, nm_r (e' := fr v) (by rw [clv]) ?_⟩)
    refine vc_show hv (Or.inl rfl) ?_
    dsimp only
    refine ⟨rfl, vc_rel (fun p hp h => ?_) (vc_ptF (vc_ptD P (Or.inl rfl)) (Or.inl rfl)) (vc_sh T S fun q _ y => ⟨pk_un y, rfl, pk_un y, pk_un y⟩) C⟩
    by_cases y : p = v
    · subst y
      rw [pk_us] at h
      exact absurd rfl h
    · rw [pk_un y] at h
      rw [pk_un y]
      exact hw p hp h
  · exact gx (br_f vc_10 (gy (br_t rfl ⟨rfl, vc_rel hw P T C⟩)))
theorem i_vc_frameOf {k : Nat} {u : SX} {v : SY} (I : i_Rel k u v) (hk : k + 4 ≤ 2048) (v1 : Int32) : wpX_frameOf (fun r => wpY_frameOf (fun r' => r' = r ∧ i_Rel (k + 4) u v) v v1) u v1 := by
  refine vc_el (Q := fun u v => wpX_frameOf (fun r => wpY_frameOf (fun r' => r' = r ∧ i_Rel (k + 4) u v) v v1) u v1) ?_ I
  intro c o mem fr wr us di nm ch ls da ep ef ew ed es wd yw hw P T C
  unfold wpX_frameOf wpY_frameOf
  dsimp only
  rcases vc_page v1 with ⟨v, hv, rfl⟩ | ⟨gx, gy⟩
  · have h16 : vp_in (nI v) 16 := vc_i16 hv
    exact vc_pageX hv (br_t rfl ⟨h16, vc_pageY hv (br_f vc_10 ⟨h16, rfl, vc_rel hw P T C⟩)⟩)
  · exact gx (br_f vc_10 (gy (br_t rfl ⟨rfl, vc_rel hw P T C⟩)))
theorem i_vc_allow {k : Nat} {u : SX} {v : SY} (I : i_Rel k u v) (hk : k + 4 ≤ 2048) (v1 : Int32) (v2 : Int32) : wpX_allow (fun r u' => wpY_allow (fun r' v' => r' = r ∧ i_Rel (k + 4) u' v') v v1 v2) u v1 v2 := by
  refine vc_el (Q := fun u v => wpX_allow (fun r u' => wpY_allow (fun r' v' => r' = r ∧ i_Rel (k + 4) u' v') v v1 v2) u v1 v2) ?_ I
  intro c o mem fr wr us di nm ch ls da ep ef ew ed es wd yw hw P T C
  unfold wpX_allow wpY_allow
  dsimp only
  rcases vc_page v1 with ⟨v, hv, rfl⟩ | ⟨gx, gy⟩
  · have clv : (nI v).toNatClampNeg = v := vc_cl (by omega)
    have h16 : vp_in (nI v) 16 := vc_i16 hv
    rcases P.1 v hv with g | ⟨f, hf, g⟩
    · refine vc_pageX hv (br_t rfl ⟨h16, ?_⟩)
      rw [clv]
      refine br_f (by rw [g]; exact vc_m2) ?_
      refine vc_pageY hv (br_f vc_10 ⟨h16, ?_⟩)
      exact br_t g ⟨rfl, vc_rel hw P T C⟩
    · have key : ∀ (z : Int32) (ep' : Nat → Int32), (z = 0 ∨ z = 1) → vc_Sh ep ep' (nI v) → i_Rel (k + 4) (c, o, mem, fr, upd wr v z, us, di, nm, ch, ls, da, ep', ef, ew, ed, es) (o, wd, fr, upd yw v z, us, di) := by
        intro z ep' hz S
        refine vc_rel (fun p hp h => ?_) (vc_ptW P hz) (vc_sh T S fun q _ y => ⟨rfl, pk_un y, rfl, rfl⟩) C
        by_cases y : p = v
        · subst y
          rw [pk_us, pk_us]
        · rw [pk_un y, pk_un y]
          exact hw p hp h
      have hn : fr v ≠ -2 := by
        rw [g]
        exact vc_nm2 (by omega)
      have e := hw v hv hn
      refine vc_pageX hv (br_t rfl ⟨h16, ?_⟩)
      rw [clv]
      refine br_t (by rw [g]; exact vc_p' (by omega)) ⟨h16, ?_⟩
      rw [e]
      unfold wX_allow_36
      refine br_c (fun a => br_c (fun z => vc_allow51 hv (Or.inl rfl) fun ep' S => ?_) (fun z => vc_allow51 hv (Or.inr rfl) fun ep' S => ?_)) (fun a => br_c (fun z => vc_allow51 hv (Or.inl rfl) fun ep' S => ?_) (fun z => vc_allow51 hv (Or.inr rfl) fun ep' S => ?_))
      · exact vc_pageY hv (br_f vc_10 ⟨h16, br_f hn ⟨h16, br_t a (br_t z ⟨h16, nm_r (e' := upd yw v 0) (by rw [clv, vc_b0]) ⟨rfl, key 0 ep' (Or.inl rfl) S⟩⟩)⟩⟩)
      · exact vc_pageY hv (br_f vc_10 ⟨h16, br_f hn ⟨h16, br_t a (br_f z ⟨h16, nm_r (e' := upd yw v 1) (by rw [clv, vc_b1]) ⟨rfl, key 1 ep' (Or.inr rfl) S⟩⟩)⟩⟩)
      · exact vc_pageY hv (br_f vc_10 ⟨h16, br_f hn ⟨h16, br_f a (br_t z ⟨h16, nm_r (e' := upd yw v 0) (by rw [clv, vc_b0]) ⟨rfl, key 0 ep' (Or.inl rfl) S⟩⟩)⟩⟩)
      · exact vc_pageY hv (br_f vc_10 ⟨h16, br_f hn ⟨h16, br_f a (br_f z ⟨h16, nm_r (e' := upd yw v 1) (by rw [clv, vc_b1]) ⟨rfl, key 1 ep' (Or.inr rfl) S⟩⟩)⟩⟩)
  · exact gx (br_f vc_10 (gy (br_t rfl ⟨rfl, vc_rel hw P T C⟩)))
theorem i_vc_load {k : Nat} {u : SX} {v : SY} (I : i_Rel k u v) (hk : k + 4 ≤ 2048) (v1 : Int32) (v2 : Int32) : wpX_load (fun r u' => wpY_load (fun r' v' => r' = r ∧ i_Rel (k + 4) u' v') v v1 v2) u v1 v2 := by
  refine vc_el (Q := fun u v => wpX_load (fun r u' => wpY_load (fun r' v' => r' = r ∧ i_Rel (k + 4) u' v') v v1 v2) u v1 v2) ?_ I
  intro c o mem fr wr us di nm ch ls da ep ef ew ed es wd yw hw P T C
  unfold wpX_load wpY_load
  dsimp only
  have n1 : ¬ (-1 : Int32) = 0 := by decide
  have n2 : ¬ (-2 : Int32) = 0 := by decide
  rcases vc_page v1 with ⟨v, hv, rfl⟩ | ⟨gx, gy⟩
  · rcases vc_eight v2 with ⟨w, hw8, rfl⟩ | ⟨gx, gy⟩
    · have clv : (nI v).toNatClampNeg = v := vc_cl (by omega)
      have h16 : vp_in (nI v) 16 := vc_i16 hv
      refine vc_pageX hv (br_t rfl (vc_eightX hw8 (br_t rfl ?_)))
      refine vc_trR hv P T (fun g c' => br_f vc_m2 ?_) (fun f e hf he hF c' ep' ef' ew' ed' es' hE T' => br_t (vc_p' (by omega)) ⟨vc_i4 he, ?_⟩)
      · refine vc_pageY hv (br_f vc_10 (vc_eightY hw8 (br_f vc_10 ⟨h16, ?_⟩)))
        rw [clv]
        refine br_t g ?_
        unfold wY_load_38
        exact br_f n2 ⟨rfl, vc_rel hw P T C⟩
      · have cle : (nI e).toNatClampNeg = e := vc_cl (by omega)
        dsimp only
        rw [cle, hE]
        refine vc_reach C hv hf hw8 fun i c'' mem' nm' ch' ls' da' hi hn C' => ?_
        have cli : (nI (i * 4 + w % 4)).toNatClampNeg = i * 4 + w % 4 := vc_cl (by omega)
        dsimp only
        refine ⟨vc_i64 (by omega), ?_⟩
        refine vc_pageY hv (br_f vc_10 (vc_eightY hw8 (br_f vc_10 ⟨h16, ?_⟩)))
        have e1 : 8 * nI f + nI w = nI (8 * f + w) := by rw [vc_8x, nI_add]
        have cl8 : (nI (8 * f + w)).toNatClampNeg = 8 * f + w := vc_cl (by omega)
        have i8 : vp_in (nI (8 * f + w)) 64 := vc_i64 (by omega)
        unfold wY_load_38
        rw [clv, hF, e1, cl8, cli, vc_b1]
        refine br_f (vc_nm2 (by omega)) (br_t rfl ⟨h16, nm_e ⟨h16, i8, ?_, vc_rel hw P T' C'⟩⟩)
        have r := C'.2.2.1 i (f * 2 + w / 4) (w % 4) hi (by omega) (by omega) hn
        rw [r]
        exact congrArg wd (by omega)
    · refine vc_pageX hv (br_t rfl (gx (br_f vc_10 (vc_pageY hv (br_f vc_10 (gy (br_t rfl ?_)))))))
      unfold wY_load_17 wY_load_38
      exact br_f n1 ⟨rfl, vc_rel hw P T C⟩
  · refine gx (br_f vc_10 (gy (br_t rfl ?_)))
    unfold wY_load_17 wY_load_38
    exact br_f n1 ⟨rfl, vc_rel hw P T C⟩
theorem i_vc_store {k : Nat} {u : SX} {v : SY} (I : i_Rel k u v) (hk : k + 4 ≤ 2048) (v1 : Int32) (v2 : Int32) (v3 : Int32) : wpX_store (fun r u' => wpY_store (fun r' v' => r' = r ∧ i_Rel (k + 4) u' v') v v1 v2 v3) u v1 v2 v3 := by
  refine vc_el (Q := fun u v => wpX_store (fun r u' => wpY_store (fun r' v' => r' = r ∧ i_Rel (k + 4) u' v') v v1 v2 v3) u v1 v2 v3) ?_ I
  intro c o mem fr wr us di nm ch ls da ep ef ew ed es wd yw hw P T C
  unfold wpX_store wpY_store
  dsimp only
  rcases vc_opB (c := c) (o := o) (mem := mem) (fr := fr) (wr := wr) (us := us) (di := di) (nm := nm) (ch := ch) (ls := ls) (da := da) (ep := ep) (ef := ef) (ew := ew) (ed := ed) (es := es) (wd := wd) (yw := yw) v1 v2 with ⟨v, w, hv, hw8, rfl, rfl⟩ | ⟨gx, gy⟩
  · have clv : (nI v).toNatClampNeg = v := vc_cl (by omega)
    have h16 : vp_in (nI v) 16 := vc_i16 hv
    refine vc_op hv hw8 P T C (fun g c' => br_f vc_m2 (vc_msU hv hw8 g (br_t rfl ⟨rfl, vc_rel hw P T C⟩))) (fun f hf g a c' es' => br_f vc_m3 (vc_msR hv hw8 hf g ?_ (br_t rfl ⟨rfl, vc_rel hw P T C⟩))) (fun f i hf hi g a c' mem' nm' ch' ls' da' ep' ef' ew' ed' es' hn C' T' => br_t (vc_p' (by omega)) ?_)
    · rw [← hw v hv (by rw [g]; exact vc_nm2 (by omega))]
      exact a
    · have cli : (nI (i * 4 + w % 4)).toNatClampNeg = i * 4 + w % 4 := vc_cl (by omega)
      have e1 : 8 * nI f + nI w = nI (8 * f + w) := by rw [vc_8x, nI_add]
      have cl8 : (nI (8 * f + w)).toNatClampNeg = 8 * f + w := vc_cl (by omega)
      have i8 : vp_in (nI (8 * f + w)) 64 := vc_i64 (by omega)
      have i64 : vp_in (nI (i * 4 + w % 4)) 64 := vc_i64 (by omega)
      have ex : (f * 2 + w / 4) * 4 + w % 4 = 8 * f + w := by omega
      have C2 := vc_put (x := v3) C' hi (by omega) (by omega) hn (k := w % 4)
      rw [ex] at C2
      have a' : yw v ≠ 0 := by
        rw [← hw v hv (by rw [g]; exact vc_nm2 (by omega))]
        exact a
      refine ⟨i64, nm_r (e' := upd da' (i * 4 + w % 4) v3) (by rw [cli]) (vc_msK hv hw8 hf g a' (br_f vc_10 ⟨h16, ?_⟩))⟩
      dsimp only
      rw [clv, g, e1, cl8]
      exact ⟨i8, nm_e ⟨rfl, vc_rel hw (vc_ptD P (Or.inr rfl)) T' C2⟩⟩
  · exact gx (br_f vc_m1 (gy (br_t rfl ⟨rfl, vc_rel hw P T C⟩)))
theorem i_vc_trade {k : Nat} {u : SX} {v : SY} (I : i_Rel k u v) (hk : k + 4 ≤ 2048) (v1 : Int32) (v2 : Int32) (v3 : Int32) : wpX_trade (fun r u' => wpY_trade (fun r' v' => r' = r ∧ i_Rel (k + 4) u' v') v v1 v2 v3) u v1 v2 v3 := by
  refine vc_el (Q := fun u v => wpX_trade (fun r u' => wpY_trade (fun r' v' => r' = r ∧ i_Rel (k + 4) u' v') v v1 v2 v3) u v1 v2 v3) ?_ I
  intro c o mem fr wr us di nm ch ls da ep ef ew ed es wd yw hw P T C
  unfold wpX_trade wpY_trade
  dsimp only
  rcases vc_opB (c := c) (o := o) (mem := mem) (fr := fr) (wr := wr) (us := us) (di := di) (nm := nm) (ch := ch) (ls := ls) (da := da) (ep := ep) (ef := ef) (ew := ew) (ed := ed) (es := es) (wd := wd) (yw := yw) v1 v2 with ⟨v, w, hv, hw8, rfl, rfl⟩ | ⟨gx, gy⟩
  · have clv : (nI v).toNatClampNeg = v := vc_cl (by omega)
    have h16 : vp_in (nI v) 16 := vc_i16 hv
    refine vc_op hv hw8 P T C (fun g c' => br_f vc_m2 (vc_msU hv hw8 g (br_t rfl ⟨rfl, vc_rel hw P T C⟩))) (fun f hf g a c' es' => br_f vc_m3 (vc_msR hv hw8 hf g ?_ (br_t rfl ⟨rfl, vc_rel hw P T C⟩))) (fun f i hf hi g a c' mem' nm' ch' ls' da' ep' ef' ew' ed' es' hn C' T' => br_t (vc_p' (by omega)) ?_)
    · rw [← hw v hv (by rw [g]; exact vc_nm2 (by omega))]
      exact a
    · have cli : (nI (i * 4 + w % 4)).toNatClampNeg = i * 4 + w % 4 := vc_cl (by omega)
      have e1 : 8 * nI f + nI w = nI (8 * f + w) := by rw [vc_8x, nI_add]
      have cl8 : (nI (8 * f + w)).toNatClampNeg = 8 * f + w := vc_cl (by omega)
      have i8 : vp_in (nI (8 * f + w)) 64 := vc_i64 (by omega)
      have i64 : vp_in (nI (i * 4 + w % 4)) 64 := vc_i64 (by omega)
      have ex : (f * 2 + w / 4) * 4 + w % 4 = 8 * f + w := by omega
      have C2 := vc_put (x := v3) C' hi (by omega) (by omega) hn (k := w % 4)
      rw [ex] at C2
      have a' : yw v ≠ 0 := by
        rw [← hw v hv (by rw [g]; exact vc_nm2 (by omega))]
        exact a
      have r := C'.2.2.1 i (f * 2 + w / 4) (w % 4) hi (by omega) (by omega) hn
      rw [ex] at r
      refine ⟨i64, nm_r (e' := da' (i * 4 + w % 4)) (by rw [cli]) ⟨i64, nm_r (e' := upd da' (i * 4 + w % 4) v3) (by rw [cli]) (vc_msK hv hw8 hf g a' (br_f vc_10 ⟨h16, ?_⟩))⟩⟩
      dsimp only
      rw [clv, g, e1, cl8]
      exact ⟨i8, nm_e ⟨h16, i8, nm_e ⟨r.symm, vc_rel hw (vc_ptD P (Or.inr rfl)) T' C2⟩⟩⟩
  · exact gx (br_f vc_m1 (gy (br_t rfl ⟨rfl, vc_rel hw P T C⟩)))
theorem i_vc_fault {k : Nat} {u : SX} {v : SY} (I : i_Rel k u v) (hk : k + 4 ≤ 2048) : wpX_fault (fun r => wpY_fault (fun r' => r' = r ∧ i_Rel (k + 4) u v) v) u := by
  refine vc_el (Q := fun u v => wpX_fault (fun r => wpY_fault (fun r' => r' = r ∧ i_Rel (k + 4) u v) v) u) ?_ I
  intro c o mem fr wr us di nm ch ls da ep ef ew ed es wd yw hw P T C
  unfold wpX_fault wpY_fault
  dsimp only
  exact ⟨rfl, vc_rel hw P T C⟩
theorem i_vc_word {k : Nat} {u : SX} {v : SY} (I : i_Rel k u v) (hk : k + 4 ≤ 2048) (v1 : Int32) (v2 : Int32) : wpX_word (fun r u' => wpY_word (fun r' => r' = r ∧ i_Rel (k + 4) u' v) v v1 v2) u v1 v2 := by
  refine vc_el (Q := fun u v => wpX_word (fun r u' => wpY_word (fun r' => r' = r ∧ i_Rel (k + 4) u' v) v v1 v2) u v1 v2) ?_ I
  intro c o mem fr wr us di nm ch ls da ep ef ew ed es wd yw hw P T C
  unfold wpX_word wpY_word
  dsimp only
  rcases vc_eight v1 with ⟨f, hf, rfl⟩ | ⟨gx, gy⟩
  · rcases vc_eight v2 with ⟨w, hw8, rfl⟩ | ⟨gx, gy⟩
    · have e1 : nI f * 2 + nI (w / 4) = nI (f * 2 + w / 4) := by rw [vc_x2, nI_add]
      have e2 : nI f * 8 + nI w = nI (f * 8 + w) := by rw [vc_x8, nI_add]
      have e3 : 8 * nI f + nI w = nI (f * 8 + w) := by rw [vc_8x, nI_add, Nat.mul_comm]
      have cl8 : (nI (f * 8 + w)).toNatClampNeg = f * 8 + w := vc_cl (by omega)
      have i8 : vp_in (nI (f * 8 + w)) 64 := vc_i64 (by omega)
      refine vc_eightX hf (br_t rfl (vc_eightX hw8 (br_t rfl ?_)))
      rw [vc_s2 (by omega), e1, e2, e3, cl8]
      refine vc_snoop C (by omega) fun mem' nm' ch' C' l _ _ _ => ?_
      refine ⟨i8, vc_eightY hf (br_f vc_10 (vc_eightY hw8 (br_f vc_10 ⟨i8, ?_, vc_rel hw P T C'⟩)))⟩
      have r := C'.2.2.2.1 (f * 2 + w / 4) (w % 4) (by omega) (by omega) l
      rw [vc_ix f w hw8] at r
      exact r.symm
    · exact vc_eightX hf (br_t rfl (gx (br_f vc_10 (vc_eightY hf (br_f vc_10 (gy (br_t rfl ⟨rfl, vc_rel hw P T C⟩)))))))
  · exact gx (br_f vc_10 (gy (br_t rfl ⟨rfl, vc_rel hw P T C⟩)))
theorem i_vc_setWord {k : Nat} {u : SX} {v : SY} (I : i_Rel k u v) (hk : k + 4 ≤ 2048) (v1 : Int32) (v2 : Int32) (v3 : Int32) : wpX_setWord (fun r u' => wpY_setWord (fun r' v' => r' = r ∧ i_Rel (k + 4) u' v') v v1 v2 v3) u v1 v2 v3 := by
  refine vc_el (Q := fun u v => wpX_setWord (fun r u' => wpY_setWord (fun r' v' => r' = r ∧ i_Rel (k + 4) u' v') v v1 v2 v3) u v1 v2 v3) ?_ I
  intro c o mem fr wr us di nm ch ls da ep ef ew ed es wd yw hw P T C
  unfold wpX_setWord wpY_setWord
  dsimp only
  rcases vc_eight v1 with ⟨f, hf, rfl⟩ | ⟨gx, gy⟩
  · rcases vc_eight v2 with ⟨w, hw8, rfl⟩ | ⟨gx, gy⟩
    · have e1 : nI f * 2 + nI (w / 4) = nI (f * 2 + w / 4) := by rw [vc_x2, nI_add]
      have e2 : nI f * 8 + nI w = nI (f * 8 + w) := by rw [vc_x8, nI_add]
      have e3 : 8 * nI f + nI w = nI (f * 8 + w) := by rw [vc_8x, nI_add, Nat.mul_comm]
      have cl8 : (nI (f * 8 + w)).toNatClampNeg = f * 8 + w := vc_cl (by omega)
      have i8 : vp_in (nI (f * 8 + w)) 64 := vc_i64 (by omega)
      refine vc_eightX hf (br_t rfl (vc_eightX hw8 (br_t rfl ?_)))
      rw [vc_s2 (by omega), e1, e2, e3, cl8]
      refine vc_snoop C (by omega) fun mem' nm' ch' C' _ a _ _ => ?_
      have r := vc_set (x := v3) (k := w % 4) C' (by omega) (by omega) (a vc_10)
      rw [vc_ix f w hw8] at r
      exact ⟨i8, nm_e (vc_eightY hf (br_f vc_10 (vc_eightY hw8 (br_f vc_10 ⟨i8, nm_e ⟨rfl, vc_rel hw P T r⟩⟩))))⟩
    · exact vc_eightX hf (br_t rfl (gx (br_f vc_10 (vc_eightY hf (br_f vc_10 (gy (br_t rfl ⟨rfl, vc_rel hw P T C⟩)))))))
  · exact gx (br_f vc_10 (gy (br_t rfl ⟨rfl, vc_rel hw P T C⟩)))
theorem i_vc_copyFrame {k : Nat} {u : SX} {v : SY} (I : i_Rel k u v) (hk : k + 4 ≤ 2048) (v1 : Int32) (v2 : Int32) : wpX_copyFrame (fun r u' => wpY_copyFrame (fun r' v' => r' = r ∧ i_Rel (k + 4) u' v') v v1 v2) u v1 v2 := by
  refine vc_el (Q := fun u v => wpX_copyFrame (fun r u' => wpY_copyFrame (fun r' v' => r' = r ∧ i_Rel (k + 4) u' v') v v1 v2) u v1 v2) ?_ I
  intro c o mem fr wr us di nm ch ls da ep ef ew ed es wd yw hw P T C
  unfold wpX_copyFrame wpY_copyFrame
  dsimp only
  rcases vc_eight v1 with ⟨f, hf, rfl⟩ | ⟨gx, gy⟩
  · rcases vc_eight v2 with ⟨g, hg, rfl⟩ | ⟨gx, gy⟩
    · refine vc_eightX hf (br_t rfl (vc_eightX hg (br_t rfl ⟨3, vc_c20 hf hg ?_ 2 0 mem nm ch rfl C (fun h hh => absurd hh (by omega)) (fun h hh => absurd hh (by omega))⟩)))
      intro mem' nm' ch' C' A L
      refine ⟨9, vc_c56 (wd := wd) hf hg A L ?_ 8 0 mem' rfl C'⟩
      intro mem'' C''
      refine vc_eightY hf (br_f vc_10 (vc_eightY hg (br_f vc_10 ⟨9, vc_c23 (wd := wd) hf hg ?_ 8 0 rfl⟩)))
      exact ⟨rfl, vc_rel hw P T C''⟩
    · exact vc_eightX hf (br_t rfl (gx (br_f vc_10 (vc_eightY hf (br_f vc_10 (gy (br_t rfl ⟨rfl, vc_rel hw P T C⟩)))))))
  · exact gx (br_f vc_10 (gy (br_t rfl ⟨rfl, vc_rel hw P T C⟩)))
theorem i_vc_marks {k : Nat} {u : SX} {v : SY} (I : i_Rel k u v) (hk : k + 4 ≤ 2048) (v1 : Int32) : wpX_marks (fun r => wpY_marks (fun r' => r' = r ∧ i_Rel (k + 4) u v) v v1) u v1 := by
  refine vc_el (Q := fun u v => wpX_marks (fun r => wpY_marks (fun r' => r' = r ∧ i_Rel (k + 4) u v) v v1) u v1) ?_ I
  intro c o mem fr wr us di nm ch ls da ep ef ew ed es wd yw hw P T C
  rcases vc_page v1 with ⟨v, hv, rfl⟩ | ⟨gx, gy⟩
  · refine vc_marksX hv ?_
    refine vc_marksY hv ?_
    exact ⟨rfl, vc_rel hw P T C⟩
  · unfold wpX_marks wpY_marks
    dsimp only
    exact gx (br_f vc_10 (gy (br_t rfl ⟨rfl, vc_rel hw P T C⟩)))
theorem i_vc_clearMarks {k : Nat} {u : SX} {v : SY} (I : i_Rel k u v) (hk : k + 4 ≤ 2048) (v1 : Int32) : wpX_clearMarks (fun r u' => wpY_clearMarks (fun r' v' => r' = r ∧ i_Rel (k + 4) u' v') v v1) u v1 := by
  refine vc_el (Q := fun u v => wpX_clearMarks (fun r u' => wpY_clearMarks (fun r' v' => r' = r ∧ i_Rel (k + 4) u' v') v v1) u v1) ?_ I
  intro c o mem fr wr us di nm ch ls da ep ef ew ed es wd yw hw P T C
  unfold wpX_clearMarks wpY_clearMarks
  dsimp only
  rcases vc_page v1 with ⟨v, hv, rfl⟩ | ⟨gx, gy⟩
  · have clv : (nI v).toNatClampNeg = v := vc_cl (by omega)
    have h16 : vp_in (nI v) 16 := vc_i16 hv
    refine vc_marksX hv (br_f (vc_mk0 _ _) ⟨h16, nm_r (e' := upd us v 0) (by rw [clv, vc_b0]) ⟨h16, nm_r (e' := upd di v 0) (by rw [clv, vc_b0]) ?_⟩⟩)
    refine vc_shoot fun ep' S => ?_
    dsimp only
    refine vc_marksY hv ?_
    refine vc_pageY hv (br_f vc_10 ⟨h16, nm_r (e' := upd us v 0) (by rw [clv, vc_b0]) ⟨h16, nm_r (e' := upd di v 0) (by rw [clv, vc_b0]) ⟨rfl, ?_⟩⟩⟩)
    exact vc_rel hw (vc_ptD P (Or.inl rfl)) (vc_sh T S fun q _ y => ⟨rfl, rfl, pk_un y, pk_un y⟩) C
  · unfold wpX_marks wpY_marks
    dsimp only
    exact gx (br_f vc_10 (br_t vc_l1 (gy (br_t rfl (gy (br_t rfl ⟨rfl, vc_rel hw P T C⟩))))))
theorem i_vc_shown {k : Nat} {u : SX} {v : SY} (I : i_Rel k u v) (hk : k + 4 ≤ 2048) (v1 : Int32) : wpX_shown (fun r => wpY_shown (fun r' => r' = r ∧ i_Rel (k + 4) u v) v v1) u v1 := by
  refine vc_el (Q := fun u v => wpX_shown (fun r => wpY_shown (fun r' => r' = r ∧ i_Rel (k + 4) u v) v v1) u v1) ?_ I
  intro c o mem fr wr us di nm ch ls da ep ef ew ed es wd yw hw P T C
  unfold wpX_shown wpY_shown
  dsimp only
  rcases vc_eight v1 with ⟨f, hf, rfl⟩ | ⟨gx, gy⟩
  · refine vc_eightX hf (br_t rfl ⟨17, vc_shownX ?_ 16 0 rfl⟩)
    refine vc_eightY hf (br_f vc_10 ⟨17, vc_shownY ?_ 16 0 rfl⟩)
    exact ⟨rfl, vc_rel hw P T C⟩
  · exact gx (br_f vc_10 (gy (br_t rfl ⟨rfl, vc_rel hw P T C⟩)))
theorem i_vc_dirtyPages {k : Nat} {u : SX} {v : SY} (I : i_Rel k u v) (hk : k + 4 ≤ 2048) : wpX_dirtyPages (fun r => wpY_dirtyPages (fun r' => r' = r ∧ i_Rel (k + 4) u v) v) u := by
  refine vc_el (Q := fun u v => wpX_dirtyPages (fun r => wpY_dirtyPages (fun r' => r' = r ∧ i_Rel (k + 4) u v) v) u) ?_ I
  intro c o mem fr wr us di nm ch ls da ep ef ew ed es wd yw hw P T C
  unfold wpX_dirtyPages wpY_dirtyPages
  dsimp only
  refine ⟨17, vc_dirtyX ?_ 16 0 rfl⟩
  refine ⟨17, vc_dirtyY ?_ 16 0 rfl⟩
  exact ⟨rfl, vc_rel hw P T C⟩
theorem i_vc_flush {k : Nat} {u : SX} {v : SY} (I : i_Rel k u v) (hk : k + 4 ≤ 2048) : wpX_flush (fun u' => wpY_flush (fun v' => i_Rel (k + 4) u' v') v) u := by
  refine vc_el (Q := fun u v => wpX_flush (fun u' => wpY_flush (fun v' => i_Rel (k + 4) u' v') v) u) ?_ I
  intro c o mem fr wr us di nm ch ls da ep ef ew ed es wd yw hw P T C
  unfold wpX_flush wpY_flush
  dsimp only
  refine ⟨17, vc_flL ?_ 16 0 mem nm ch rfl C⟩
  intro mem' nm' ch' C1
  exact vc_rel hw P T C1
theorem i_vc_forget {k : Nat} {u : SX} {v : SY} (I : i_Rel k u v) (hk : k + 4 ≤ 2048) (v1 : Int32) : wpX_forget (fun r u' => wpY_forget (fun r' => r' = r ∧ i_Rel (k + 4) u' v) v v1) u v1 := by
  refine vc_el (Q := fun u v => wpX_forget (fun r u' => wpY_forget (fun r' => r' = r ∧ i_Rel (k + 4) u' v) v v1) u v1) ?_ I
  intro c o mem fr wr us di nm ch ls da ep ef ew ed es wd yw hw P T C
  unfold wpX_forget wpY_forget
  dsimp only
  rcases vc_page v1 with ⟨v, hv, rfl⟩ | ⟨gx, gy⟩
  · refine vc_pageX hv (br_t rfl ?_)
    refine vc_shoot fun ep' S => ?_
    dsimp only
    exact vc_pageY hv (br_f vc_10 ⟨rfl, vc_rel hw P (vc_sh T S fun q _ y => ⟨rfl, rfl, rfl, rfl⟩) C⟩)
  · exact gx (br_f vc_10 (gy (br_t rfl ⟨rfl, vc_rel hw P T C⟩)))
theorem i_vc_warm {k : Nat} {u : SX} {v : SY} (I : i_Rel k u v) (hk : k + 4 ≤ 2048) (v1 : Int32) : wpX_warm (fun r u' => wpY_warm (fun r' => r' = r ∧ i_Rel (k + 4) u' v) v v1) u v1 := by
  refine vc_el (Q := fun u v => wpX_warm (fun r u' => wpY_warm (fun r' => r' = r ∧ i_Rel (k + 4) u' v) v v1) u v1) ?_ I
  intro c o mem fr wr us di nm ch ls da ep ef ew ed es wd yw hw P T C
  unfold wpX_warm wpY_warm
  dsimp only
  rcases vc_eight v1 with ⟨f, hf, rfl⟩ | ⟨gx, gy⟩
  · have e1 : (nI f &&& 3) * 2 = nI (f % 4 * 2) := by rw [vc_a3 (by omega), vc_x2]
    refine vc_eightX hf (br_t rfl ?_)
    rw [e1, vc_x2, nI_1, nI_1]
    refine vc_bring C (by omega) (by omega) (by omega) fun i c1 mem1 nm1 ch1 ls1 da1 _ _ C1 => ?_
    refine vc_bring C1 (by omega) (by omega) (by omega) fun i c2 mem2 nm2 ch2 ls2 da2 _ _ C2 => ?_
    exact vc_eightY hf (br_f vc_10 ⟨rfl, vc_rel hw P T C2⟩)
  · exact gx (br_f vc_10 (gy (br_t rfl ⟨rfl, vc_rel hw P T C⟩)))
end
