section
/-! journeys over a ride relation R (board at u at x, be at v at y) and a walk relation W -/
/-- at b by y, out of a at x, with at most k rides: one ride more is put behind -/
def jn_J (R : Nat → Int → Nat → Int → Prop) (W : Nat → Nat → Int → Prop) (a : Nat) (x : Int) : Nat → Nat → Int → Prop
  | 0 => fun b y => ∃ w : Int, W a b w ∧ x + w ≤ y
  | k + 1 => fun b y => jn_J R W a x k b y ∨ ∃ (u : Nat) (z : Int) (v : Nat) (y' w : Int), jn_J R W a x k u z ∧ R u z v y' ∧ W v b w ∧ y' + w ≤ y
/-- the same journeys, one ride more put ahead -/
def jn_K (R : Nat → Int → Nat → Int → Prop) (W : Nat → Nat → Int → Prop) (b : Nat) (y : Int) : Nat → Nat → Int → Prop
  | 0 => fun a x => ∃ w : Int, W a b w ∧ x + w ≤ y
  | k + 1 => fun a x => jn_K R W b y k a x ∨ ∃ (w : Int) (u v : Nat) (y' : Int), W a u w ∧ R u (x + w) v y' ∧ jn_K R W b y k v y'
/-- what a ride relation and a walk relation must be -/
def jn_ok (R : Nat → Int → Nat → Int → Prop) (W : Nat → Nat → Int → Prop) : Prop :=
  (∀ u x x' v y, x' ≤ x → R u x v y → R u x' v y) ∧ (∀ u x v y, R u x v y → x < y) ∧ (∀ u v w, W u v w → 0 ≤ w ∧ (u ≠ v → 0 < w)) ∧ (∀ u, u < 8 → W u u 0)
  ∧ (∀ u x v y, R u x v y → x < 1000000) ∧ (∀ u x v y, R u x v y → -1000000 < y) ∧ (∀ u x v y, R u x v y → u < 8 ∧ v < 8) ∧ (∀ u v w, W u v w → u < 8 ∧ v < 8)
section
variable {R R' : Nat → Int → Nat → Int → Prop} {W W' : Nat → Nat → Int → Prop}
theorem jn_Js {a b k : Nat} {x y : Int} (h : jn_J R W a x k b y) : jn_J R W a x (k + 1) b y := Or.inl h
theorem jn_Jle {a b k m : Nat} {x y : Int} (hk : k ≤ m) (h : jn_J R W a x k b y) : jn_J R W a x m b y := by
  induction hk with
  | refl => exact h
  | step _ ih => exact Or.inl ih
theorem jn_Jy {a k : Nat} {x : Int} : ∀ {b : Nat} {y y' : Int}, y ≤ y' → jn_J R W a x k b y → jn_J R W a x k b y' := by
  induction k with
  | zero =>
    intro b y y' hy h
    obtain ⟨w, h1, h2⟩ := h
    exact ⟨w, h1, by omega⟩
  | succ k ih =>
    intro b y y' hy h
    rcases h with h | ⟨u, z, v, y1, w, h1, h2, h3, h4⟩
    · exact Or.inl (ih hy h)
    · exact Or.inr ⟨u, z, v, y1, w, h1, h2, h3, by omega⟩
theorem jn_Jx {a k : Nat} {x x' : Int} (hx : x' ≤ x) : ∀ {b : Nat} {y : Int}, jn_J R W a x k b y → jn_J R W a x' k b y := by
  induction k with
  | zero =>
    intro b y h
    obtain ⟨w, h1, h2⟩ := h
    exact ⟨w, h1, by omega⟩
  | succ k ih =>
    intro b y h
    rcases h with h | ⟨u, z, v, y1, w, h1, h2, h3, h4⟩
    · exact Or.inl (ih h)
    · exact Or.inr ⟨u, z, v, y1, w, ih h1, h2, h3, h4⟩
theorem jn_ge (ok : jn_ok R W) {a k : Nat} {x : Int} : ∀ {b : Nat} {y : Int}, jn_J R W a x k b y → x ≤ y ∧ (a ≠ b → x < y) := by
  induction k with
  | zero =>
    intro b y h
    obtain ⟨w, h1, h2⟩ := h
    have hw := ok.2.2.1 _ _ _ h1
    exact ⟨by omega, fun n => by have := hw.2 n; omega⟩
  | succ k ih =>
    intro b y h
    rcases h with h | ⟨u, z, v, y1, w, h1, h2, h3, h4⟩
    · exact ih h
    · have e1 := (ih h1).1
      have e2 := ok.2.1 _ _ _ _ h2
      have e3 := (ok.2.2.1 _ _ _ h3).1
      exact ⟨by omega, fun _ => by omega⟩
theorem jn_refl (ok : jn_ok R W) {a k : Nat} {x y : Int} (ha : a < 8) (h : x ≤ y) : jn_J R W a x k a y :=
  jn_Jle (Nat.zero_le k) ⟨0, ok.2.2.2.1 a ha, by omega⟩
theorem jn_grow (hR : ∀ u x v y, R u x v y → R' u x v y) (hW : ∀ u v w, W u v w → W' u v w) {a k : Nat} {x : Int} : ∀ {b : Nat} {y : Int}, jn_J R W a x k b y → jn_J R' W' a x k b y := by
  induction k with
  | zero =>
    intro b y h
    obtain ⟨w, h1, h2⟩ := h
    exact ⟨w, hW _ _ _ h1, h2⟩
  | succ k ih =>
    intro b y h
    rcases h with h | ⟨u, z, v, y1, w, h1, h2, h3, h4⟩
    · exact Or.inl (ih h)
    · exact Or.inr ⟨u, z, v, y1, w, ih h1, hR _ _ _ _ h2, hW _ _ _ h3, h4⟩
/-- nothing new comes of a ride that starts at s: all that it leads to is in round k -/
def jn_cl (R : Nat → Int → Nat → Int → Prop) (W : Nat → Nat → Int → Prop) (a : Nat) (x : Int) (k s : Nat) : Prop :=
  ∀ z v y' w b y, jn_J R W a x k s z → R s z v y' → W v b w → y' + w ≤ y → jn_J R W a x k b y
theorem jn_stop (ok : jn_ok R W) {a k : Nat} {x : Int} (h : ∀ s, s < 8 → jn_cl R W a x k s) {m : Nat} : ∀ {b : Nat} {y : Int}, jn_J R W a x m b y → jn_J R W a x k b y := by
  induction m with
  | zero => intro b y g; exact jn_Jle (Nat.zero_le k) g
  | succ m ih =>
    intro b y g
    rcases g with g | ⟨u, z, v, y1, w, h1, h2, h3, h4⟩
    · exact ih g
    · exact h u (ok.2.2.2.2.2.2.1 _ _ _ _ h2).1 z v y1 w b y (ih h1) h2 h3 h4
/-! backwards -/
theorem jn_Ks {a b k : Nat} {x y : Int} (h : jn_K R W b y k a x) : jn_K R W b y (k + 1) a x := Or.inl h
theorem jn_Kle {a b k m : Nat} {x y : Int} (hk : k ≤ m) (h : jn_K R W b y k a x) : jn_K R W b y m a x := by
  induction hk with
  | refl => exact h
  | step _ ih => exact Or.inl ih
theorem jn_Kx (ok : jn_ok R W) {b k : Nat} {y : Int} : ∀ {a : Nat} {x x' : Int}, x' ≤ x → jn_K R W b y k a x → jn_K R W b y k a x' := by
  induction k with
  | zero =>
    intro a x x' hx h
    obtain ⟨w, h1, h2⟩ := h
    exact ⟨w, h1, by omega⟩
  | succ k ih =>
    intro a x x' hx h
    rcases h with h | ⟨w, u, v, y1, h1, h2, h3⟩
    · exact Or.inl (ih hx h)
    · exact Or.inr ⟨w, u, v, y1, h1, ok.1 _ _ _ _ _ (by omega) h2, h3⟩
def jn_dl (R : Nat → Int → Nat → Int → Prop) (W : Nat → Nat → Int → Prop) (b : Nat) (y : Int) (k s : Nat) : Prop :=
  ∀ z u x w a, jn_K R W b y k s z → R u (x + w) s z → W a u w → jn_K R W b y k a x
theorem jn_stopK (ok : jn_ok R W) {b k : Nat} {y : Int} (h : ∀ s, s < 8 → jn_dl R W b y k s) {m : Nat} : ∀ {a : Nat} {x : Int}, jn_K R W b y m a x → jn_K R W b y k a x := by
  induction m with
  | zero => intro a x g; exact jn_Kle (Nat.zero_le k) g
  | succ m ih =>
    intro a x g
    rcases g with g | ⟨w, u, v, y1, h1, h2, h3⟩
    · exact ih g
    · exact h v (ok.2.2.2.2.2.2.1 _ _ _ _ h2).2 y1 u x w a (ih h3) h2 h1
/-! the two are one -/
theorem jn_front {a b u v k : Nat} {x y' w : Int} (h1 : W a u w) (h2 : R u (x + w) v y') : ∀ {b : Nat} {y : Int}, jn_J R W v y' k b y → jn_J R W a x (k + 1) b y := by
  induction k with
  | zero =>
    intro b y h
    obtain ⟨w', g1, g2⟩ := h
    exact Or.inr ⟨u, x + w, v, y', w', ⟨w, h1, Int.le_refl _⟩, h2, g1, g2⟩
  | succ k ih =>
    intro b y h
    rcases h with h | ⟨u2, z2, v2, y2, w2, g1, g2, g3, g4⟩
    · exact Or.inl (ih h)
    · exact Or.inr ⟨u2, z2, v2, y2, w2, ih g1, g2, g3, g4⟩
theorem jn_KJ {b k : Nat} {y : Int} : ∀ {a : Nat} {x : Int}, jn_K R W b y k a x → jn_J R W a x k b y := by
  induction k with
  | zero => intro a x h; exact h
  | succ k ih =>
    intro a x h
    rcases h with h | ⟨w, u, v, y1, h1, h2, h3⟩
    · exact Or.inl (ih h)
    · exact jn_front (b := b) h1 h2 (ih h3)
theorem jn_back (ok : jn_ok R W) {u v b k : Nat} {z y' w y : Int} (h1 : R u z v y') (h2 : W v b w) (h3 : y' + w ≤ y) : ∀ {a : Nat} {x : Int}, jn_K R W u z k a x → jn_K R W b y (k + 1) a x := by
  induction k with
  | zero =>
    intro a x h
    obtain ⟨w0, g1, g2⟩ := h
    exact Or.inr ⟨w0, u, v, y', g1, ok.1 _ _ _ _ _ g2 h1, ⟨w, h2, h3⟩⟩
  | succ k ih =>
    intro a x h
    rcases h with h | ⟨w0, u0, v0, y0, g1, g2, g3⟩
    · exact Or.inl (ih h)
    · exact Or.inr ⟨w0, u0, v0, y0, g1, g2, ih g3⟩
theorem jn_JK (ok : jn_ok R W) {a k : Nat} {x : Int} : ∀ {b : Nat} {y : Int}, jn_J R W a x k b y → jn_K R W b y k a x := by
  induction k with
  | zero => intro b y h; exact h
  | succ k ih =>
    intro b y h
    rcases h with h | ⟨u, z, v, y1, w, h1, h2, h3, h4⟩
    · exact Or.inl (ih h)
    · exact jn_back ok h2 h3 h4 (ih h1)
/-! one round forward and back, in thresholds: f reached before, m the marks, g reached after -/
theorem jn_round (ok : jn_ok R W) {a k : Nat} {x : Int} {f g : Nat → Int} {m : Nat → Prop}
    (hf : ∀ s, s < 8 → ∀ y, y < 1000000 → (f s ≤ y ↔ jn_J R W a x k s y))
    (hm : ∀ s, s < 8 → ¬ m s → jn_cl R W a x k s)
    (hg : ∀ s, s < 8 → ∀ y, y < 1000000 → (g s ≤ y ↔ f s ≤ y ∨ ∃ u v y' w, m u ∧ R u (f u) v y' ∧ W v s w ∧ y' + w ≤ y)) :
    ∀ s, s < 8 → ∀ y, y < 1000000 → (g s ≤ y ↔ jn_J R W a x (k + 1) s y) := by
  intro s hs y hy
  rw [hg s hs y hy, hf s hs y hy]
  constructor
  · rintro (h | ⟨u, v, y', w, h1, h2, h3, h4⟩)
    · exact Or.inl h
    · have hu := (ok.2.2.2.2.2.2.1 _ _ _ _ h2).1
      exact Or.inr ⟨u, f u, v, y', w, (hf u hu (f u) (ok.2.2.2.2.1 _ _ _ _ h2)).mp (Int.le_refl _), h2, h3, h4⟩
  · rintro (h | ⟨u, z, v, y', w, h1, h2, h3, h4⟩)
    · exact Or.inl h
    · have hu := (ok.2.2.2.2.2.2.1 _ _ _ _ h2).1
      by_cases hmu : m u
      · exact Or.inr ⟨u, v, y', w, hmu, ok.1 _ _ _ _ _ ((hf u hu z (ok.2.2.2.2.1 _ _ _ _ h2)).mpr h1) h2, h3, h4⟩
      · exact Or.inl (hm u hu hmu z v y' w s y h1 h2 h3 h4)
/-- a stop that didn't get better in round k + 1 is closed there -/
theorem jn_unm (ok : jn_ok R W) {a k : Nat} {x : Int} {f g : Nat → Int} {s : Nat} (hs : s < 8)
    (hf : ∀ y, y < 1000000 → (f s ≤ y ↔ jn_J R W a x k s y)) (hg : ∀ y, y < 1000000 → (g s ≤ y ↔ jn_J R W a x (k + 1) s y)) (e : f s ≤ g s) : jn_cl R W a x (k + 1) s := by
  intro z v y' w b y h1 h2 h3 h4
  have hz := ok.2.2.2.2.1 _ _ _ _ h2
  have h5 := (hg z hz).mpr h1
  exact Or.inr ⟨s, z, v, y', w, (hf z hz).mp (by omega), h2, h3, h4⟩
theorem jn_roundK (ok : jn_ok R W) {b k : Nat} {y : Int} {f g : Nat → Int} {m : Nat → Prop}
    (hf : ∀ s, s < 8 → ∀ x, -1000000 < x → (x ≤ f s ↔ jn_K R W b y k s x))
    (hm : ∀ s, s < 8 → ¬ m s → jn_dl R W b y k s)
    (hg : ∀ s, s < 8 → ∀ x, -1000000 < x → (x ≤ g s ↔ x ≤ f s ∨ ∃ u v y' w, m v ∧ R u (x + w) v y' ∧ y' ≤ f v ∧ W s u w)) :
    ∀ s, s < 8 → ∀ x, -1000000 < x → (x ≤ g s ↔ jn_K R W b y (k + 1) s x) := by
  intro s hs x hx
  rw [hg s hs x hx, hf s hs x hx]
  constructor
  · rintro (h | ⟨u, v, y', w, h1, h2, h3, h4⟩)
    · exact Or.inl h
    · have hv := (ok.2.2.2.2.2.2.1 _ _ _ _ h2).2
      exact Or.inr ⟨w, u, v, y', h4, h2, (hf v hv y' (ok.2.2.2.2.2.1 _ _ _ _ h2)).mp h3⟩
  · rintro (h | ⟨w, u, v, y', h1, h2, h3⟩)
    · exact Or.inl h
    · have hv := (ok.2.2.2.2.2.2.1 _ _ _ _ h2).2
      by_cases hmv : m v
      · exact Or.inr ⟨u, v, y', w, hmv, h2, (hf v hv y' (ok.2.2.2.2.2.1 _ _ _ _ h2)).mpr h3, h1⟩
      · exact Or.inl (hm v hv hmv y' u x w s h3 h2 h1)
theorem jn_unmK (ok : jn_ok R W) {b k : Nat} {y : Int} {f g : Nat → Int} {s : Nat} (hs : s < 8)
    (hf : ∀ x, -1000000 < x → (x ≤ f s ↔ jn_K R W b y k s x)) (hg : ∀ x, -1000000 < x → (x ≤ g s ↔ jn_K R W b y (k + 1) s x)) (e : g s ≤ f s) : jn_dl R W b y (k + 1) s := by
  intro z u x w a h1 h2 h3
  have hz := ok.2.2.2.2.2.1 _ _ _ _ h2
  have h5 := (hg z hz).mpr h1
  exact Or.inr ⟨w, u, s, z, h3, h2, (hf z hz).mp (by omega)⟩
end
end
section
/-! numbers -/
theorem nu_le {x y : Int32} : x ≤ y ↔ x.toInt ≤ y.toInt := Int32.le_iff_toInt_le
theorem nu_lt {x y : Int32} : x < y ↔ x.toInt < y.toInt := Int32.lt_iff_toInt_lt
theorem nu_eq {x y : Int32} : x = y ↔ x.toInt = y.toInt := Int32.toInt_inj.symm
theorem nu_add {x y : Int32} (h1 : -1000000000 ≤ x.toInt) (h2 : x.toInt ≤ 1000000000) (h3 : -1000000000 ≤ y.toInt) (h4 : y.toInt ≤ 1000000000) : (x + y).toInt = x.toInt + y.toInt := by
  rw [Int32.toInt_add]
  exact Int.bmod_eq_of_le (by omega) (by omega)
theorem nu_sub {x y : Int32} (h1 : -1000000000 ≤ x.toInt) (h2 : x.toInt ≤ 1000000000) (h3 : -1000000000 ≤ y.toInt) (h4 : y.toInt ≤ 1000000000) : (x - y).toInt = x.toInt - y.toInt := by
  rw [Int32.toInt_sub]
  exact Int.bmod_eq_of_le (by omega) (by omega)
theorem nu_far : (1000000 : Int32).toInt = 1000000 := by decide
theorem nu_raf : (-1000000 : Int32).toInt = -1000000 := by decide
theorem nu_0 : (0 : Int32).toInt = 0 := by decide
/-- an index into eight times eight, five times six -/
theorem nu_i8 (i s : Nat) : nI i * 8 + nI s = nI (i * 8 + s) := by
  rw [show (8 : Int32) = nI 8 from rfl, pk_mul, nI_add]
theorem nu_i6 (i s : Nat) : nI i * 6 + nI s = nI (i * 6 + s) := by
  rw [show (6 : Int32) = nI 6 from rfl, pk_mul, nI_add]
/-! the marks -/
theorem mk_or : ∀ q, q < 256 → ∀ i, i < 8 → nI q ||| ((1 : Int32) <<< (nI i &&& 31)) = nI (q ||| 2 ^ i) := by decide +kernel
theorem mk_bit : ∀ q, q < 256 → ∀ s, s < 8 → ((((nI q >>> (nI s &&& 31)) &&& 1) = (1 : Int32)) ↔ q.testBit s = true) := by decide +kernel
theorem mk_lt : ∀ q, q < 256 → ∀ i, i < 8 → q ||| 2 ^ i < 256 := by decide +kernel
theorem mk_0 (j : Nat) : Nat.testBit 0 j = false := Nat.zero_testBit j
def mk_ok (m : Int32) (P : Nat → Prop) : Prop := ∃ q, q < 256 ∧ m = nI q ∧ ∀ j, j < 8 → (q.testBit j = true ↔ P j)
theorem mk_ok_bit {m : Int32} {P : Nat → Prop} (h : mk_ok m P) {s : Nat} (hs : s < 8) : (((m >>> (nI s &&& 31)) &&& 1) = (1 : Int32)) ↔ P s := by
  obtain ⟨q, hq, rfl, hP⟩ := h
  rw [mk_bit q hq s hs, hP s hs]
theorem mk_ok_0 {m : Int32} {P : Nat → Prop} (h : mk_ok m P) (h0 : m = 0) {s : Nat} (hs : s < 8) : ¬ P s := by
  obtain ⟨q, hq, e, hP⟩ := h
  have hq0 : q = 0 := (nI_eq (by omega) (by omega)).mp (e.symm.trans (h0.trans nI_0.symm))
  rw [← hP s hs, hq0, mk_0]
  exact Bool.false_ne_true
theorem mk_ok_nil {P : Nat → Prop} (h : ∀ j, j < 8 → ¬ P j) : mk_ok 0 P :=
  ⟨0, by omega, nI_0.symm, fun j hj => by rw [mk_0]; exact ⟨fun z => absurd z Bool.false_ne_true, fun z => absurd z (h j hj)⟩⟩
theorem mk_ok_add {m : Int32} {P P' : Nat → Prop} {i : Nat} (h : mk_ok m P) (hi : i < 8) (hP : ∀ j, j < 8 → (P' j ↔ P j ∨ j = i)) : mk_ok (m ||| ((1 : Int32) <<< (nI i &&& 31))) P' := by
  obtain ⟨q, hq, rfl, hq2⟩ := h
  refine ⟨q ||| 2 ^ i, mk_lt q hq i hi, mk_or q hq i hi, fun j hj => ?_⟩
  rw [Nat.testBit_or, Nat.testBit_two_pow, Bool.or_eq_true, hq2 j hj, hP j hj, decide_eq_true_iff]
  constructor
  · rintro (h | h)
    · exact Or.inl h
    · exact Or.inr h.symm
  · rintro (h | h)
    · exact Or.inl h
    · exact Or.inr h.symm
theorem mk_ok_iff {m : Int32} {P P' : Nat → Prop} (h : mk_ok m P) (hP : ∀ j, j < 8 → (P' j ↔ P j)) : mk_ok m P' := by
  obtain ⟨q, hq, e, hq2⟩ := h
  exact ⟨q, hq, e, fun j hj => (hq2 j hj).trans (hP j hj).symm⟩
/-! the timetable: nl lines, nt trips; size, stopAt, offset, lineOf, startOf, walk -/
def tt_sz (a1 : Nat → Int32) (l : Nat) : Nat := (a1 l).toNatClampNeg
def tt_st (a2 : Nat → Int32) (l i : Nat) : Nat := (a2 (l * 6 + i)).toNatClampNeg
def tt_of (a3 : Nat → Int32) (l i : Nat) : Int := (a3 (l * 6 + i)).toInt
/-- one line: its size, its stops, their times -/
def tt_ln (a1 a2 a3 : Nat → Int32) (l : Nat) : Prop :=
  1 ≤ tt_sz a1 l ∧ tt_sz a1 l ≤ 6 ∧ a1 l = nI (tt_sz a1 l) ∧ (∀ i, i < tt_sz a1 l → tt_st a2 l i < 8 ∧ a2 (l * 6 + i) = nI (tt_st a2 l i) ∧ 0 ≤ tt_of a3 l i ∧ tt_of a3 l i ≤ 30 * (i : Int)) ∧ (∀ i j, i < j → j < tt_sz a1 l → tt_of a3 l i < tt_of a3 l j)
def tt_ok (nl nt : Nat) (a1 a2 a3 a5 a6 : Nat → Int32) : Prop :=
  nl ≤ 5 ∧ nt ≤ 12 ∧ (∀ l, l < nl → tt_ln a1 a2 a3 l) ∧ (∀ t, t < nt → 0 ≤ (a5 t).toInt ∧ (a5 t).toInt ≤ 500)
  ∧ (∀ j, j < 64 → 0 ≤ (a6 j).toInt ∧ (a6 j).toInt ≤ 30) ∧ (∀ u v, u < 8 → v < 8 → a6 (u * 8 + v) = a6 (v * 8 + u))
/-- a ride: some trip of some line, from its stop number i to a later one j -/
def tt_R (nl nt : Nat) (a1 a2 a3 a4 a5 : Nat → Int32) (u : Nat) (x : Int) (v : Nat) (y : Int) : Prop :=
  ∃ l i j t : Nat, l < nl ∧ i < j ∧ j < tt_sz a1 l ∧ t < nt ∧ tt_st a2 l i = u ∧ tt_st a2 l j = v ∧ a4 t = nI l ∧ x ≤ (a5 t).toInt + tt_of a3 l i ∧ (a5 t).toInt + tt_of a3 l j = y
def tt_W (a6 : Nat → Int32) (u v : Nat) (w : Int) : Prop := u < 8 ∧ v < 8 ∧ ((u = v ∧ w = 0) ∨ ((a6 (u * 8 + v)).toInt = w ∧ 0 < w))
theorem tt_jn {nl nt : Nat} {a1 a2 a3 a4 a5 a6 : Nat → Int32} (T : tt_ok nl nt a1 a2 a3 a5 a6) : jn_ok (tt_R nl nt a1 a2 a3 a4 a5) (tt_W a6) := by
  obtain ⟨T1, T2, T3, T4, T5, T6⟩ := T
  refine ⟨?_, ?_, ?_, ?_, ?_, ?_, ?_, ?_⟩
  · rintro u x x' v y hx ⟨l, i, j, t, h1, h2, h3, h4, h5, h6, h7, h8, h9⟩
    exact ⟨l, i, j, t, h1, h2, h3, h4, h5, h6, h7, by omega, h9⟩
  · rintro u x v y ⟨l, i, j, t, h1, h2, h3, h4, h5, h6, h7, h8, h9⟩
    have := (T3 l h1).2.2.2.2 i j h2 h3
    omega
  · rintro u v w ⟨h1, h2, h3⟩
    rcases h3 with h3 | h3
    · exact ⟨by omega, fun n => absurd h3.1 n⟩
    · exact ⟨by omega, fun _ => h3.2⟩
  · exact fun u hu => ⟨hu, hu, Or.inl ⟨rfl, rfl⟩⟩
  · rintro u x v y ⟨l, i, j, t, h1, h2, h3, h4, h5, h6, h7, h8, h9⟩
    have e1 := T4 t h4
    have e3 := (T3 l h1).2.1
    have e2 := (T3 l h1).2.2.2.1 i (by omega)
    omega
  · rintro u x v y ⟨l, i, j, t, h1, h2, h3, h4, h5, h6, h7, h8, h9⟩
    have e1 := T4 t h4
    have e2 := (T3 l h1).2.2.2.1 j (by omega)
    omega
  · rintro u x v y ⟨l, i, j, t, h1, h2, h3, h4, h5, h6, h7, h8, h9⟩
    have e2 := (T3 l h1).2.2.2.1 i (by omega)
    have e3 := (T3 l h1).2.2.2.1 j (by omega)
    omega
  · rintro u v w ⟨h1, h2, h3⟩
    exact ⟨h1, h2⟩
end
section
section
variable {f0 f1 f2 : Int32} {a1 a2 a3 a4 a5 a6 a7 a8 a9 : Nat → Int32}
/-- what walkOn leaves at stop s: v -/
def fw_S (a6 a7 a8 : Nat → Int32) (s : Nat) (v : Int32) : Prop :=
  0 ≤ v.toInt ∧ v.toInt ≤ (a8 s).toInt ∧ ∀ y : Int, v.toInt ≤ y ↔ (a8 s).toInt ≤ y ∨ ∃ u w, tt_W a6 u s w ∧ (a7 u).toInt + w ≤ y
theorem fw_w22 {post : St1 → Prop} {J7 : Int32 → Int32 → (Nat → Int32) → (Nat → Int32) → (Nat → Int32) → (Nat → Int32) → (Nat → Int32) → (Nat → Int32) → (Nat → Int32) → (Nat → Int32) → (Nat → Int32) → Prop} {s : Nat} (hs : s < 8)
    (h6 : ∀ j, j < 64 → 0 ≤ (a6 j).toInt ∧ (a6 j).toInt ≤ 30) (h7 : ∀ u, u < 8 → 0 ≤ (a7 u).toInt ∧ (a7 u).toInt ≤ 1000000)
    (H : ∀ b : Int32, 0 ≤ b.toInt → b.toInt ≤ (a7 s).toInt → (∀ y, b.toInt ≤ y ↔ ∃ u w, tt_W a6 u s w ∧ (a7 u).toInt + w ≤ y) →
      ((a8 s).toInt ≤ b.toInt → J7 (nI (s + 1)) f2 a1 a2 a3 a4 a5 a6 a7 a8 a9) ∧ (b.toInt < (a8 s).toInt → J7 (nI (s + 1)) (f2 ||| ((1 : Int32) <<< (nI s &&& 31))) a1 a2 a3 a4 a5 a6 a7 (upd a8 s b) a9)) :
    ∃ n, wX_walkOn_22 post J7 (nI s) f0 f1 f2 a1 a2 a3 a4 a5 a6 a7 a8 a9 n (a7 s) 0 := by
  refine pk_loop (σ := Int32) (fun n i b => wX_walkOn_22 post J7 (nI s) f0 f1 f2 a1 a2 a3 a4 a5 a6 a7 a8 a9 n b (nI i))
    (fun i b => 0 ≤ b.toInt ∧ b.toInt ≤ (a7 s).toInt ∧ ∀ y, b.toInt ≤ y ↔ (a7 s).toInt ≤ y ∨ ∃ u, u < i ∧ 0 < (a6 (u * 8 + s)).toInt ∧ (a7 u).toInt + (a6 (u * 8 + s)).toInt ≤ y) 8 0 (a7 s) (by omega) ?_ ?_ ?_
  · refine ⟨(h7 s hs).1, Int.le_refl _, fun y => ⟨Or.inl, ?_⟩⟩
    rintro (h | ⟨u, hu, _⟩)
    · exact h
    · omega
  · intro n b hb
    obtain ⟨b1, b2, b3⟩ := hb
    have hH := H b b1 b2 (fun y => by
      rw [b3 y]
      constructor
      · rintro (h | ⟨u, hu, h1, h2⟩)
        · exact ⟨s, 0, ⟨hs, hs, Or.inl ⟨rfl, rfl⟩⟩, by omega⟩
        · exact ⟨u, (a6 (u * 8 + s)).toInt, ⟨hu, hs, Or.inr ⟨rfl, h1⟩⟩, h2⟩
      · rintro ⟨u, w, ⟨hu, _, hw⟩, h⟩
        rcases hw with ⟨e1, e2⟩ | ⟨e1, e2⟩
        · subst e1
          exact Or.inl (by omega)
        · exact Or.inr ⟨u, hu, by omega, by omega⟩)
    refine pk_le 8 8 (fun _ => ⟨pk_in s 8 hs, ?_⟩) (fun z => absurd z (by omega))
    rw [nI_clamp (show s < 2 ^ 31 by omega)]
    refine br_c (fun z => nm_r (nI_1 s) (hH.1 (nu_le.mp z))) (fun z => ⟨pk_in s 8 hs, nm_e (nm_e (nm_r (nI_1 s) (hH.2 ?_)))⟩)
    rw [nu_le] at z
    omega
  · intro n i b hi hb hw
    obtain ⟨b1, b2, b3⟩ := hb
    have k6 := h6 (i * 8 + s) (by omega)
    have k7 := h7 i hi
    have kadd : ((a7 i) + (a6 (i * 8 + s))).toInt = (a7 i).toInt + (a6 (i * 8 + s)).toInt := nu_add (by omega) (by omega) (by omega) (by omega)
    have same : (∀ y, (0 < (a6 (i * 8 + s)).toInt ∧ (a7 i).toInt + (a6 (i * 8 + s)).toInt ≤ y) → b.toInt ≤ y) → wX_walkOn_22 post J7 (nI s) f0 f1 f2 a1 a2 a3 a4 a5 a6 a7 a8 a9 n b (nI (i + 1)) := by
      intro hy
      refine hw b ⟨b1, b2, fun y => ⟨fun h => ?_, ?_⟩⟩
      · rcases (b3 y).mp h with h | ⟨u, hu, h⟩
        · exact Or.inl h
        · exact Or.inr ⟨u, by omega, h⟩
      · rintro (h | ⟨u, hu, h⟩)
        · exact (b3 y).mpr (Or.inl h)
        · rcases Nat.lt_or_ge u i with z | z
          · exact (b3 y).mpr (Or.inr ⟨u, z, h⟩)
          · have e : u = i := by omega
            subst e
            exact hy y h
    refine pk_le 8 i (fun z => absurd z (by omega)) (fun _ => ⟨pk_in (i * 8 + s) 64 (by omega) (nu_i8 i s), ?_⟩)
    rw [nu_i8, nI_clamp (show i * 8 + s < 2 ^ 31 by omega), nI_clamp (show i < 2 ^ 31 by omega)]
    refine nm_e (br_c (fun z => nm_r (nI_1 i) (same ?_)) (fun z => ⟨pk_in i 8 hi, br_c (fun z2 => nm_r (nI_1 i) (same ?_)) (fun z2 => ⟨pk_in i 8 hi, nm_e (nm_r (nI_1 i) (hw _ ?_))⟩)⟩))
    · intro y hy
      rw [nu_le, nu_0] at z
      omega
    · intro y hy
      rw [nu_le, kadd] at z2
      omega
    · rw [nu_le, nu_0] at z
      rw [nu_le, kadd] at z2
      rw [kadd]
      refine ⟨by omega, by omega, fun y => ⟨fun h => Or.inr ⟨i, by omega, by omega, h⟩, ?_⟩⟩
      rintro (h | ⟨u, hu, h1, h2⟩)
      · omega
      · rcases Nat.lt_or_ge u i with z3 | z3
        · have := (b3 y).mpr (Or.inr ⟨u, z3, h1, h2⟩)
          omega
        · have e : u = i := by omega
          subst e
          exact h2
/-- walkOn -/
theorem fw_walkOn {post : St1 → Prop} (h6 : ∀ j, j < 64 → 0 ≤ (a6 j).toInt ∧ (a6 j).toInt ≤ 30) (h7 : ∀ u, u < 8 → 0 ≤ (a7 u).toInt ∧ (a7 u).toInt ≤ 1000000) (h8 : ∀ u, u < 8 → 0 ≤ (a8 u).toInt ∧ (a8 u).toInt ≤ 1000000)
    (H : ∀ m b8, mk_ok m (fun s => (b8 s).toInt < (a8 s).toInt) → (∀ s, s < 8 → fw_S a6 a7 a8 s (b8 s)) → post (f0, f1, m, a1, a2, a3, a4, a5, a6, a7, b8, a9)) :
    wpX_walkOn post (f0, f1, f2, a1, a2, a3, a4, a5, a6, a7, a8, a9) := by
  refine pk_loop (σ := Int32 × (Nat → Int32)) (fun n i s => wX_walkOn_7 post f0 f1 n (nI i) s.1 a1 a2 a3 a4 a5 a6 a7 s.2 a9)
    (fun i s => mk_ok s.1 (fun j => j < i ∧ (s.2 j).toInt < (a8 j).toInt) ∧ (∀ j, j < i → fw_S a6 a7 a8 j (s.2 j)) ∧ ∀ j, i ≤ j → s.2 j = a8 j) 8 0 (0, a8) (by omega) ?_ ?_ ?_
  · exact ⟨mk_ok_nil (fun j _ h => by omega), fun j hj => by omega, fun j _ => rfl⟩
  · rintro n ⟨m, b8⟩ ⟨k1, k2, k3⟩
    exact pk_le 8 8 (fun _ => H m b8 (mk_ok_iff k1 (fun j hj => ⟨fun h => ⟨hj, h⟩, fun h => h.2⟩)) k2) (fun z => absurd z (by omega))
  · rintro n i ⟨m, b8⟩ hi ⟨k1, k2, k3⟩ hw
    dsimp only at k1 k2 k3
    have e8 : b8 i = a8 i := k3 i (Nat.le_refl _)
    refine pk_le 8 i (fun z => absurd z (by omega)) (fun _ => ⟨pk_in i 8 hi, ?_⟩)
    rw [nI_clamp (show i < 2 ^ 31 by omega)]
    refine nm_e (fw_w22 hi h6 h7 (fun b b1 b2 b3 => ⟨fun z => ?_, fun z => ?_⟩))
    · refine hw (m, b8) ⟨mk_ok_iff k1 (fun j hj => ⟨fun h => ⟨?_, h.2⟩, fun h => ⟨by omega, h.2⟩⟩), fun j hj => ?_, fun j hj => k3 j (by omega)⟩
      · have h1 := h.1
        have h2 := h.2
        dsimp only at h2
        rcases Nat.lt_or_ge j i with q | q
        · exact q
        · rw [k3 j q] at h2
          omega
      · rcases Nat.lt_or_ge j i with q | q
        · exact k2 j q
        · have e : j = i := by omega
          subst e
          dsimp only at z ⊢
          rw [e8] at z
          refine ⟨by rw [e8]; exact (h8 j hi).1, by rw [e8]; exact Int.le_refl _, fun y => ?_⟩
          rw [e8]
          refine ⟨Or.inl, ?_⟩
          rintro (h | h)
          · exact h
          · have := (b3 y).mpr h
            omega
    · dsimp only at z
      rw [e8] at z
      refine hw (_, upd b8 i b) ⟨mk_ok_add k1 hi (fun j hj => ?_), fun j hj => ?_, fun j hj => ?_⟩
      · dsimp only
        by_cases q : j = i
        · subst q
          rw [pk_us]
          exact ⟨fun _ => Or.inr rfl, fun _ => ⟨by omega, z⟩⟩
        · rw [pk_un q]
          exact ⟨fun h => Or.inl ⟨by omega, h.2⟩, fun h => h.elim (fun h => ⟨by omega, h.2⟩) (fun h => absurd h q)⟩
      · dsimp only
        by_cases q : j = i
        · subst q
          rw [pk_us]
          refine ⟨b1, by omega, fun y => ?_⟩
          rw [b3 y]
          refine ⟨Or.inr, ?_⟩
          rintro (h | h)
          · exact (b3 y).mp (by omega)
          · exact h
        · rw [pk_un q]
          exact k2 j (by omega)
      · dsimp only
        rw [pk_un (show j ≠ i by omega)]
        exact k3 j (by omega)
/-- the state of the rounds: k rides out of a at t -/
def fw_I (R : Nat → Int → Nat → Int → Prop) (W : Nat → Nat → Int → Prop) (a : Nat) (t : Int) (k : Nat) (m : Int32) (b8 : Nat → Int32) : Prop :=
  (∀ s, s < 8 → 0 ≤ (b8 s).toInt ∧ (b8 s).toInt ≤ 1000000) ∧ (∀ s, s < 8 → ∀ y, y < 1000000 → ((b8 s).toInt ≤ y ↔ jn_J R W a t k s y)) ∧ ∃ P : Nat → Prop, mk_ok m P ∧ ∀ s, s < 8 → ¬ P s → jn_cl R W a t k s
theorem fw_begin {post : St1 → Prop} {nl nt : Nat} (T : tt_ok nl nt a1 a2 a3 a5 a6) {a : Nat} {t : Int32} (ha : a < 8) (ht : 0 ≤ t.toInt) (ht2 : t.toInt ≤ 1000)
    (H : ∀ m b7 b8, fw_I (tt_R nl nt a1 a2 a3 a4 a5) (tt_W a6) a t.toInt 0 m b8 → post (f0, f1, m, a1, a2, a3, a4, a5, a6, b7, b8, a9)) :
    wpX_begin post (f0, f1, f2, a1, a2, a3, a4, a5, a6, a7, a8, a9) (nI a) t := by
  refine pk_loop (σ := (Nat → Int32) × (Nat → Int32)) (fun n i s => wX_begin_2 post (nI a) t f0 f1 f2 n (nI i) a1 a2 a3 a4 a5 a6 s.1 s.2 a9)
    (fun i s => ∀ j, j < i → s.1 j = 1000000 ∧ s.2 j = 1000000) 8 0 (a7, a8) (by omega) (fun j hj => absurd hj (by omega)) ?_ ?_
  · rintro n ⟨b7, b8⟩ hb
    dsimp only at hb
    have c7 : ∀ u, u < 8 → ((upd b7 a t) u).toInt = if u = a then t.toInt else 1000000 := by
      intro u hu
      by_cases e : u = a
      · rw [if_pos e, e, pk_us]
      · rw [if_neg e, pk_un e, (hb u hu).1, nu_far]
    have c8 : ∀ u, u < 8 → (b8 u).toInt = 1000000 := fun u hu => by rw [(hb u hu).2, nu_far]
    refine pk_le 8 8 (fun _ => ⟨pk_in a 8 ha, ?_⟩) (fun z => absurd z (by omega))
    rw [nI_clamp (show a < 2 ^ 31 by omega)]
    refine nm_e (fw_walkOn T.2.2.2.2.1 (fun u hu => ?_) (fun u hu => ?_) (fun m c8' k1 k2 => H m _ c8' ?_))
    · rw [c7 u hu]
      split <;> omega
    · rw [c8 u hu]
      omega
    · have key : ∀ s, s < 8 → ∀ y, y < 1000000 → ((c8' s).toInt ≤ y ↔ jn_J (tt_R nl nt a1 a2 a3 a4 a5) (tt_W a6) a t.toInt 0 s y) := by
        intro s hs y hy
        rw [(k2 s hs).2.2 y, c8 s hs]
        constructor
        · rintro (h | ⟨u, w, h1, h2⟩)
          · omega
          · rw [c7 u h1.1] at h2
            have hw := ((tt_jn (a4 := a4) T).2.2.1 u s w h1).1
            by_cases e : u = a
            · rw [if_pos e] at h2
              exact ⟨w, e ▸ h1, h2⟩
            · rw [if_neg e] at h2
              omega
        · rintro ⟨w, h1, h2⟩
          exact Or.inr ⟨a, w, h1, by rw [c7 a ha, if_pos rfl]; exact h2⟩
      refine ⟨fun s hs => ?_, key, _, k1, fun s hs hm => ?_⟩
      · have e1 := (k2 s hs).1
        have e2 := (k2 s hs).2.1
        rw [c8 s hs] at e2
        exact ⟨e1, e2⟩
      · intro z v y' w b y h1 h2 h3 h4
        have hz := (tt_jn (a4 := a4) T).2.2.2.2.1 _ _ _ _ h2
        have h5 := (key s hs z hz).mpr h1
        rw [c8 s hs] at hm
        omega
  · rintro n i ⟨b7, b8⟩ hi hb hw
    dsimp only at hb
    refine pk_le 8 i (fun z => absurd z (by omega)) (fun _ => ⟨pk_in i 8 hi, ?_⟩)
    rw [nI_clamp (show i < 2 ^ 31 by omega)]
    refine nm_e ⟨pk_in i 8 hi, nm_e (nm_r (nI_1 i) (hw (upd b7 i 1000000, upd b8 i 1000000) (fun j hj => ?_)))⟩
    dsimp only
    by_cases e : j = i
    · rw [e, pk_us, pk_us]
      exact ⟨rfl, rfl⟩
    · rw [pk_un e, pk_un e]
      exact hb j (by omega)
end
end
section
section
variable {f0 f1 f2 : Int32} {a1 a2 a3 a4 a5 a6 a7 a8 a9 : Nat → Int32}
/-- a trip of line l that can be boarded at its stop i at time bf, and that starts by z -/
def fw_C (nt : Nat) (a3 a4 a5 : Nat → Int32) (l i : Nat) (bf z : Int) : Prop :=
  ∃ t, t < nt ∧ a4 t = nI l ∧ bf ≤ (a5 t).toInt + tt_of a3 l i ∧ (a5 t).toInt ≤ z
theorem fw_catch {post : Int32 → Prop} {nt l i : Nat} {x3 : Int32} (hnt : nt ≤ 12) (h5 : ∀ t, t < nt → 0 ≤ (a5 t).toInt ∧ (a5 t).toInt ≤ 500) (hli : l * 6 + i < 30) (ho : 0 ≤ tt_of a3 l i) (ho2 : tt_of a3 l i ≤ 150)
    (H : ∀ r : Int32, 0 ≤ r.toInt → r.toInt ≤ 1000000 → (∀ z : Int, z < 1000000 → (r.toInt ≤ z ↔ fw_C nt a3 a4 a5 l i x3.toInt z)) → post r) :
    wpX_catchTrip post (f0, nI nt, f2, a1, a2, a3, a4, a5, a6, a7, a8, a9) (nI l) (nI i) x3 := by
  refine pk_loop (σ := Int32) (fun n t r => wX_catchTrip_7 post (nI l) (nI i) x3 f0 (nI nt) f2 a1 a2 a3 a4 a5 a6 a7 a8 a9 n r (nI t))
    (fun t r => 0 ≤ r.toInt ∧ r.toInt ≤ 1000000 ∧ ∀ z : Int, z < 1000000 → (r.toInt ≤ z ↔ fw_C t a3 a4 a5 l i x3.toInt z)) nt 0 1000000 (by omega) ?_ ?_ ?_
  · rw [nu_far]
    refine ⟨by omega, by omega, fun z hz => ⟨fun h => by omega, ?_⟩⟩
    rintro ⟨t, ht, _⟩
    omega
  · rintro n r ⟨r1, r2, r3⟩
    exact pk_le nt nt (fun _ => H r r1 r2 r3) (fun z => absurd z (by omega))
  · rintro n t r ht ⟨r1, r2, r3⟩ hw
    have k5 := h5 t ht
    have kadd : ((a5 t) + (a3 (l * 6 + i))).toInt = (a5 t).toInt + tt_of a3 l i := nu_add (by omega) (by omega) (by unfold tt_of at ho; omega) (by unfold tt_of at ho2; omega)
    have same : (∀ z : Int, a4 t = nI l → x3.toInt ≤ (a5 t).toInt + tt_of a3 l i → (a5 t).toInt ≤ z → r.toInt ≤ z) → wX_catchTrip_7 post (nI l) (nI i) x3 f0 (nI nt) f2 a1 a2 a3 a4 a5 a6 a7 a8 a9 n r (nI (t + 1)) := by
      intro hy
      refine hw r ⟨r1, r2, fun z hz => ⟨fun h => ?_, ?_⟩⟩
      · obtain ⟨t', ht', h⟩ := (r3 z hz).mp h
        exact ⟨t', by omega, h⟩
      · rintro ⟨t', ht', q1, q2, q3⟩
        rcases Nat.lt_or_ge t' t with q | q
        · exact (r3 z hz).mpr ⟨t', q, q1, q2, q3⟩
        · have e : t' = t := by omega
          subst e
          exact hy z q1 q2 q3
    refine pk_le nt t (fun z => absurd z (by omega)) (fun _ => ⟨pk_in t 12 (by omega), ?_⟩)
    rw [nI_clamp (show t < 2 ^ 31 by omega), nu_i6, nI_clamp (show l * 6 + i < 2 ^ 31 by omega)]
    refine br_c (fun g => ⟨pk_in t 12 (by omega), pk_in (l * 6 + i) 30 hli, br_c (fun g2 => nm_r (nI_1 t) (same ?_)) (fun g2 => ⟨pk_in t 12 (by omega), br_c (fun g3 => nm_r (nI_1 t) (same ?_)) (fun g3 => ⟨pk_in t 12 (by omega), nm_e (nm_r (nI_1 t) (hw _ ?_))⟩)⟩)⟩) (fun g => nm_r (nI_1 t) (same (fun z q1 => absurd q1 g)))
    · intro z q1 q2 q3
      rw [nu_lt, kadd] at g2
      omega
    · intro z q1 q2 q3
      rw [nu_le] at g3
      omega
    · rw [nu_lt, kadd] at g2
      rw [nu_le] at g3
      refine ⟨k5.1, by omega, fun z hz => ⟨fun h => ⟨t, by omega, g, by omega, h⟩, ?_⟩⟩
      rintro ⟨t', ht', q1, q2, q3⟩
      rcases Nat.lt_or_ge t' t with q | q
      · have := (r3 z hz).mpr ⟨t', q, q1, q2, q3⟩
        omega
      · have e : t' = t := by omega
        subst e
        exact q3
/-- the end of one stop of a line: perhaps another trip is caught -/
theorem fw_r113 {post : St1 → Prop} {J5 : Int32 → Int32 → (Nat → Int32) → (Nat → Int32) → (Nat → Int32) → (Nat → Int32) → (Nat → Int32) → (Nat → Int32) → (Nat → Int32) → (Nat → Int32) → (Nat → Int32) → Prop} {nt l i s : Nat} {x2 : Int32}
    (hnt : nt ≤ 12) (h5 : ∀ t, t < nt → 0 ≤ (a5 t).toInt ∧ (a5 t).toInt ≤ 500) (hli : l * 6 + i < 30) (ho : 0 ≤ tt_of a3 l i) (ho2 : tt_of a3 l i ≤ 150) (hs : s < 8) (hx : 0 ≤ x2.toInt) (hx2 : x2.toInt ≤ 1000000)
    (H : ∀ r : Int32, 0 ≤ r.toInt → r.toInt ≤ 1000000 → (∀ z : Int, z < 1000000 → (r.toInt ≤ z ↔ x2.toInt ≤ z ∨ fw_C nt a3 a4 a5 l i (a9 s).toInt z)) → J5 r (nI (i + 1)) a1 a2 a3 a4 a5 a6 a7 a8 a9) :
    wX_rideLine_113 post J5 (nI l) x2 (nI i) (nI s) f0 (nI nt) f2 a1 a2 a3 a4 a5 a6 a7 a8 a9 := by
  unfold wX_rideLine_113
  refine ⟨pk_in s 8 hs, ?_⟩
  rw [nI_clamp (show s < 2 ^ 31 by omega)]
  refine fw_catch hnt h5 hli ho ho2 (fun r r1 r2 r3 => br_c (fun g => nm_r (nI_1 i) (H x2 hx hx2 (fun z hz => ⟨Or.inl, ?_⟩))) (fun g => nm_r (nI_1 i) (H r r1 r2 (fun z hz => ⟨fun h => Or.inr ((r3 z hz).mp h), ?_⟩))))
  · rw [nu_le] at g
    rintro (h | h)
    · exact h
    · have := (r3 z hz).mpr h
      omega
  · rw [nu_le] at g
    rintro (h | h)
    · omega
    · exact (r3 z hz).mpr h
theorem fw_r70 {post : St1 → Prop} {J5 : Int32 → Int32 → (Nat → Int32) → (Nat → Int32) → (Nat → Int32) → (Nat → Int32) → (Nat → Int32) → (Nat → Int32) → (Nat → Int32) → (Nat → Int32) → (Nat → Int32) → Prop} {nt l i s : Nat} {x2 x5 : Int32} {P : Nat → Prop}
    (hnt : nt ≤ 12) (h5 : ∀ t, t < nt → 0 ≤ (a5 t).toInt ∧ (a5 t).toInt ≤ 500) (hli : l * 6 + i < 30) (ho : 0 ≤ tt_of a3 l i) (ho2 : tt_of a3 l i ≤ 150) (hs : s < 8) (hx : 0 ≤ x2.toInt) (hx2 : x2.toInt ≤ 1000000)
    (hx5 : x5.toInt = x2.toInt + tt_of a3 l i) (hm : mk_ok f2 P)
    (H : ∀ r : Int32, 0 ≤ r.toInt → r.toInt ≤ 1000000 → (∀ z : Int, z < 1000000 → (r.toInt ≤ z ↔ x2.toInt ≤ z ∨ (P s ∧ fw_C nt a3 a4 a5 l i (a9 s).toInt z))) → J5 r (nI (i + 1)) a1 a2 a3 a4 a5 a6 a7 a8 a9) :
    wX_rideLine_70 post J5 (nI l) x2 (nI i) (nI s) x5 f0 (nI nt) f2 a1 a2 a3 a4 a5 a6 a7 a8 a9 := by
  unfold wX_rideLine_70
  refine br_c (fun g => ?_) (fun g => ?_)
  · have hP : P s := (mk_ok_bit hm hs).mp g
    have h113 : wX_rideLine_113 post J5 (nI l) x2 (nI i) (nI s) f0 (nI nt) f2 a1 a2 a3 a4 a5 a6 a7 a8 a9 :=
      fw_r113 hnt h5 hli ho ho2 hs hx hx2 (fun r r1 r2 r3 => H r r1 r2 (fun z hz => by
        rw [r3 z hz]
        exact ⟨fun h => h.elim Or.inl (fun h => Or.inr ⟨hP, h⟩), fun h => h.elim Or.inl (fun h => Or.inr h.2)⟩))
    unfold wX_rideLine_88
    refine br_f (by decide) (br_c (fun _ => h113) (fun g2 => ⟨pk_in s 8 hs, ?_⟩))
    rw [nI_clamp (show s < 2 ^ 31 by omega)]
    refine br_c (fun g3 => nm_r (nI_1 i) (H x2 hx hx2 (fun z hz => ⟨Or.inl, ?_⟩))) (fun _ => h113)
    rw [nu_le] at g3
    rintro (h | ⟨_, t, ht, q1, q2, q3⟩)
    · exact h
    · omega
  · have hP : ¬ P s := fun h => g ((mk_ok_bit hm hs).mpr h)
    unfold wX_rideLine_88
    exact br_t rfl (nm_r (nI_1 i) (H x2 hx hx2 (fun z hz => ⟨Or.inl, fun h => h.elim id (fun h => absurd h.1 hP)⟩)))
/-- what a ride along line l, boarded at a marked stop at its time before, leads to: at stop s by y -/
def fw_L (nt : Nat) (a1 a2 a3 a4 a5 a9 : Nat → Int32) (P : Nat → Prop) (n l s : Nat) (y : Int) : Prop :=
  ∃ j, j < n ∧ tt_st a2 l j = s ∧ ∃ i, i < j ∧ P (tt_st a2 l i) ∧ fw_C nt a3 a4 a5 l i (a9 (tt_st a2 l i)).toInt (y - tt_of a3 l j)
theorem fw_rideLine {post : St1 → Prop} {nt l : Nat} {P : Nat → Prop} (hl : l < 5) (T : tt_ln a1 a2 a3 l)
    (hnt : nt ≤ 12) (h5 : ∀ t, t < nt → 0 ≤ (a5 t).toInt ∧ (a5 t).toInt ≤ 500) (h7 : ∀ u, u < 8 → 0 ≤ (a7 u).toInt ∧ (a7 u).toInt ≤ 1000000) (hm : mk_ok f2 P)
    (H : ∀ b7 : Nat → Int32, (∀ u, u < 8 → 0 ≤ (b7 u).toInt ∧ (b7 u).toInt ≤ 1000000) → (∀ s, s < 8 → ∀ y : Int, y < 1000000 → ((b7 s).toInt ≤ y ↔ (a7 s).toInt ≤ y ∨ fw_L nt a1 a2 a3 a4 a5 a9 P (tt_sz a1 l) l s y)) → post (f0, nI nt, f2, a1, a2, a3, a4, a5, a6, b7, a8, a9)) :
    wpX_rideLine post (f0, nI nt, f2, a1, a2, a3, a4, a5, a6, a7, a8, a9) (nI l) := by
  obtain ⟨T1, T2, T3, T4, T5⟩ := T
  refine pk_loop (σ := Int32 × (Nat → Int32)) (fun n i s => wX_rideLine_5 post (nI l) f0 (nI nt) f2 n s.1 (nI i) a1 a2 a3 a4 a5 a6 s.2 a8 a9)
    (fun i s => (0 ≤ s.1.toInt ∧ s.1.toInt ≤ 1000000 ∧ ∀ z : Int, z < 1000000 → (s.1.toInt ≤ z ↔ ∃ j, j < i ∧ P (tt_st a2 l j) ∧ fw_C nt a3 a4 a5 l j (a9 (tt_st a2 l j)).toInt z))
      ∧ (∀ u, u < 8 → 0 ≤ (s.2 u).toInt ∧ (s.2 u).toInt ≤ 1000000) ∧ ∀ u, u < 8 → ∀ y : Int, y < 1000000 → ((s.2 u).toInt ≤ y ↔ (a7 u).toInt ≤ y ∨ fw_L nt a1 a2 a3 a4 a5 a9 P i l u y)) (tt_sz a1 l) 0 (1000000, a7) (by omega) ?_ ?_ ?_
  · dsimp only
    rw [nu_far]
    refine ⟨⟨by omega, by omega, fun z hz => ⟨fun h => by omega, ?_⟩⟩, h7, fun u hu y hy => ⟨Or.inl, ?_⟩⟩
    · rintro ⟨j, hj, _⟩
      omega
    · rintro (h | ⟨j, hj, _⟩)
      · exact h
      · omega
  · rintro n ⟨x2, b7⟩ ⟨⟨k1, k2, k3⟩, k4, k5⟩
    refine ⟨pk_in l 5 hl, ?_⟩
    rw [nI_clamp (show l < 2 ^ 31 by omega)]
    exact pk_le (tt_sz a1 l) (tt_sz a1 l) (fun _ => H b7 k4 k5) (fun z => absurd z (by omega)) T3 rfl
  · rintro n i ⟨x2, b7⟩ hi ⟨⟨k1, k2, k3⟩, k4, k5⟩ hw
    dsimp only at k1 k2 k3 k4 k5 ⊢
    obtain ⟨t1, t2, t3, t4⟩ := T4 i hi
    have hli : l * 6 + i < 30 := by omega
    have kadd : (x2 + a3 (l * 6 + i)).toInt = x2.toInt + tt_of a3 l i := nu_add (by omega) (by omega) (by unfold tt_of at t3; omega) (by unfold tt_of at t4; omega)
    refine ⟨pk_in l 5 hl, ?_⟩
    rw [nI_clamp (show l < 2 ^ 31 by omega)]
    refine pk_le (tt_sz a1 l) i (fun z => absurd z (by omega)) (fun _ => ⟨pk_in (l * 6 + i) 30 hli (nu_i6 l i), ?_⟩) T3 rfl
    rw [nu_i6, nI_clamp (show l * 6 + i < 2 ^ 31 by omega)]
    refine nm_r t2 ⟨pk_in (l * 6 + i) 30 hli, nm_e ?_⟩
    rw [nI_clamp (show tt_st a2 l i < 2 ^ 31 by omega)]
    -- the new ridden, whichever it is
    have main : ∀ c7 : Nat → Int32, (∀ u, u < 8 → 0 ≤ (c7 u).toInt ∧ (c7 u).toInt ≤ 1000000) → (∀ u, u < 8 → ∀ y : Int, y < 1000000 → ((c7 u).toInt ≤ y ↔ (b7 u).toInt ≤ y ∨ (u = tt_st a2 l i ∧ x2.toInt + tt_of a3 l i ≤ y))) →
        wX_rideLine_70 post (wX_rideLine_5 post (nI l) f0 (nI nt) f2 n) (nI l) x2 (nI i) (nI (tt_st a2 l i)) (x2 + a3 (l * 6 + i)) f0 (nI nt) f2 a1 a2 a3 a4 a5 a6 c7 a8 a9 := by
      intro c7 c1 c2
      refine fw_r70 (P := P) hnt h5 hli t3 (by omega) t1 k1 k2 kadd hm (fun r r1 r2 r3 => hw (r, c7) ⟨⟨r1, r2, fun z hz => ?_⟩, c1, fun u hu y hy => ?_⟩)
      · dsimp only
        rw [r3 z hz, k3 z hz]
        constructor
        · rintro (⟨j, hj, h⟩ | h)
          · exact ⟨j, by omega, h⟩
          · exact ⟨i, by omega, h⟩
        · rintro ⟨j, hj, h⟩
          rcases Nat.lt_or_ge j i with q | q
          · exact Or.inl ⟨j, q, h⟩
          · have e : j = i := by omega
            subst e
            exact Or.inr h
      · dsimp only
        rw [c2 u hu y hy, k5 u hu y hy]
        constructor
        · rintro ((h | ⟨j, hj, h⟩) | ⟨e, h⟩)
          · exact Or.inl h
          · exact Or.inr ⟨j, by omega, h⟩
          · obtain ⟨i', hi', h⟩ := (k3 (y - tt_of a3 l i) (by omega)).mp (by omega)
            exact Or.inr ⟨i, by omega, e.symm, i', hi', h⟩
        · rintro (h | ⟨j, hj, e, i', hi', h⟩)
          · exact Or.inl (Or.inl h)
          · rcases Nat.lt_or_ge j i with q | q
            · exact Or.inl (Or.inr ⟨j, q, e, i', hi', h⟩)
            · have ej : j = i := by omega
              subst ej
              have := (k3 (y - tt_of a3 l j) (by omega)).mpr ⟨i', hi', h⟩
              exact Or.inr ⟨e.symm, by omega⟩
    refine br_c (fun g => main b7 k4 (fun u hu y hy => ⟨Or.inl, ?_⟩)) (fun g => ⟨pk_in _ 8 t1, br_c (fun g2 => main b7 k4 (fun u hu y hy => ⟨Or.inl, ?_⟩)) (fun g2 => ⟨pk_in _ 8 t1, nm_e (main _ (fun u hu => ?_) (fun u hu y hy => ?_))⟩)⟩)
    · rw [nu_le, nu_far] at g
      rintro (h | ⟨e, h⟩)
      · exact h
      · omega
    · rw [nu_le, kadd] at g2
      rintro (h | ⟨e, h⟩)
      · exact h
      · rw [e]
        omega
    · by_cases e : u = tt_st a2 l i
      · rw [nu_le, kadd] at g2
        have := k4 _ t1
        rw [e, pk_us, kadd]
        omega
      · rw [pk_un e]
        exact k4 u hu
    · by_cases e : u = tt_st a2 l i
      · rw [nu_le, kadd] at g2
        rw [e, pk_us, kadd]
        refine ⟨fun h => Or.inr ⟨rfl, h⟩, ?_⟩
        rintro (h | ⟨_, h⟩)
        · omega
        · exact h
      · rw [pk_un e]
        exact ⟨Or.inl, fun h => h.elim id (fun h => absurd h.1 e)⟩
/-- all lines, then the walks -/
theorem fw_n36 {post : St1 → Prop} {nl nt : Nat} {P : Nat → Prop} (T : tt_ok nl nt a1 a2 a3 a5 a6) (h7 : ∀ u, u < 8 → 0 ≤ (a7 u).toInt ∧ (a7 u).toInt ≤ 1000000) (hm : mk_ok f2 P)
    (H : ∀ b7 : Nat → Int32, (∀ u, u < 8 → 0 ≤ (b7 u).toInt ∧ (b7 u).toInt ≤ 1000000) → (∀ s, s < 8 → ∀ y : Int, y < 1000000 → ((b7 s).toInt ≤ y ↔ (a7 s).toInt ≤ y ∨ ∃ l, l < nl ∧ fw_L nt a1 a2 a3 a4 a5 a9 P (tt_sz a1 l) l s y)) → wpX_walkOn post (nI nl, nI nt, f2, a1, a2, a3, a4, a5, a6, b7, a8, a9)) :
    ∃ n, wX_nextRound_36 post n 0 (nI nl) (nI nt) f2 a1 a2 a3 a4 a5 a6 a7 a8 a9 := by
  obtain ⟨T1, T2, T3, T4, T5, T6⟩ := T
  refine pk_loop (σ := Nat → Int32) (fun n i b7 => wX_nextRound_36 post n (nI i) (nI nl) (nI nt) f2 a1 a2 a3 a4 a5 a6 b7 a8 a9)
    (fun i b7 => (∀ u, u < 8 → 0 ≤ (b7 u).toInt ∧ (b7 u).toInt ≤ 1000000) ∧ ∀ s, s < 8 → ∀ y : Int, y < 1000000 → ((b7 s).toInt ≤ y ↔ (a7 s).toInt ≤ y ∨ ∃ l, l < i ∧ fw_L nt a1 a2 a3 a4 a5 a9 P (tt_sz a1 l) l s y)) nl 0 a7 (by omega) ?_ ?_ ?_
  · refine ⟨h7, fun s hs y hy => ⟨Or.inl, ?_⟩⟩
    rintro (h | ⟨l, hl, _⟩)
    · exact h
    · omega
  · rintro n b7 ⟨k1, k2⟩
    exact pk_le nl nl (fun _ => H b7 k1 k2) (fun z => absurd z (by omega))
  · rintro n i b7 hi ⟨k1, k2⟩ hw
    refine pk_le nl i (fun z => absurd z (by omega)) (fun _ => ?_)
    refine fw_rideLine (P := P) (by omega) (T3 i hi) T2 T4 k1 hm (fun c7 c1 c2 => nm_r (nI_1 i) (hw c7 ⟨c1, fun s hs y hy => ?_⟩))
    rw [c2 s hs y hy, k2 s hs y hy]
    constructor
    · rintro ((h | ⟨l, hl, h⟩) | h)
      · exact Or.inl h
      · exact Or.inr ⟨l, by omega, h⟩
      · exact Or.inr ⟨i, by omega, h⟩
    · rintro (h | ⟨l, hl, h⟩)
      · exact Or.inl (Or.inl h)
      · rcases Nat.lt_or_ge l i with q | q
        · exact Or.inl (Or.inr ⟨l, q, h⟩)
        · have e : l = i := by omega
          subst e
          exact Or.inr h
theorem fw_L_R {nl nt : Nat} {P : Nat → Prop} {s : Nat} {y : Int} :
    (∃ l, l < nl ∧ fw_L nt a1 a2 a3 a4 a5 a9 P (tt_sz a1 l) l s y) ↔ ∃ u y', P u ∧ tt_R nl nt a1 a2 a3 a4 a5 u (a9 u).toInt s y' ∧ y' ≤ y := by
  constructor
  · rintro ⟨l, hl, j, hj, e, i, hi, hP, t, ht, q1, q2, q3⟩
    exact ⟨tt_st a2 l i, (a5 t).toInt + tt_of a3 l j, hP, ⟨l, i, j, t, hl, hi, hj, ht, rfl, e, q1, q2, rfl⟩, by omega⟩
  · rintro ⟨u, y', hP, ⟨l, i, j, t, hl, hi, hj, ht, e1, e2, q1, q2, q3⟩, hy⟩
    subst e1
    exact ⟨l, hl, j, hj, e2, i, hi, hP, t, ht, q1, q2, by omega⟩
theorem fw_nextRound {post : St1 → Prop} {nl nt a k : Nat} {t : Int} (T : tt_ok nl nt a1 a2 a3 a5 a6) (hI : fw_I (tt_R nl nt a1 a2 a3 a4 a5) (tt_W a6) a t k f2 a8)
    (H : ∀ m b7 b8 b9, fw_I (tt_R nl nt a1 a2 a3 a4 a5) (tt_W a6) a t (k + 1) m b8 → post (nI nl, nI nt, m, a1, a2, a3, a4, a5, a6, b7, b8, b9)) :
    wpX_nextRound post (nI nl, nI nt, f2, a1, a2, a3, a4, a5, a6, a7, a8, a9) := by
  have ok : jn_ok (tt_R nl nt a1 a2 a3 a4 a5) (tt_W a6) := tt_jn T
  obtain ⟨I1, I2, P, I3, I4⟩ := hI
  refine pk_loop (σ := (Nat → Int32) × (Nat → Int32)) (fun n i s => wX_nextRound_2 post (nI nl) (nI nt) f2 n (nI i) a1 a2 a3 a4 a5 a6 s.1 a8 s.2)
    (fun i s => ∀ j, j < i → s.1 j = 1000000 ∧ s.2 j = a8 j) 8 0 (a7, a9) (by omega) (fun j hj => absurd hj (by omega)) ?_ ?_
  · rintro n ⟨b7, b9⟩ hb
    dsimp only at hb ⊢
    have c7 : ∀ u, u < 8 → (b7 u).toInt = 1000000 := fun u hu => by rw [(hb u hu).1, nu_far]
    refine pk_le 8 8 (fun _ => ?_) (fun z => absurd z (by omega))
    refine fw_n36 (P := P) T (fun u hu => by rw [c7 u hu]; omega) I3 (fun d7 d1 d2 => ?_)
    refine fw_walkOn T.2.2.2.2.1 d1 I1 (fun m c8 e1 e2 => H m _ c8 _ ?_)
    have key := jn_round ok (f := fun s => (a8 s).toInt) (g := fun s => (c8 s).toInt) (m := P) I2 I4 (fun s hs y hy => by
      rw [(e2 s hs).2.2 y]
      constructor
      · rintro (h | ⟨v, w, h1, h2⟩)
        · exact Or.inl h
        · have hw := (ok.2.2.1 _ _ _ h1).1
          have hv := h1.1
          have h3 := (d2 v hv (y - w) (by omega)).mp (by omega)
          rw [c7 v hv] at h3
          rcases h3 with h3 | h3
          · omega
          · obtain ⟨u, y', q1, q2, q3⟩ := fw_L_R.mp h3
            have hu := (ok.2.2.2.2.2.2.1 _ _ _ _ q2).1
            rw [(hb u hu).2] at q2
            exact Or.inr ⟨u, v, y', w, q1, q2, h1, by omega⟩
      · rintro (h | ⟨u, v, y', w, h1, h2, h3, h4⟩)
        · exact Or.inl h
        · have hw := (ok.2.2.1 _ _ _ h3).1
          have hv := h3.1
          have hu := (ok.2.2.2.2.2.2.1 _ _ _ _ h2).1
          rw [← (hb u hu).2] at h2
          have h5 := (d2 v hv (y - w) (by omega)).mpr (Or.inr (fw_L_R.mpr ⟨u, y', h1, h2, by omega⟩))
          exact Or.inr ⟨v, w, h3, by omega⟩)
    refine ⟨fun s hs => ?_, key, _, e1, fun s hs hm => ?_⟩
    · have q1 := (e2 s hs).1
      have q2 := (e2 s hs).2.1
      have q3 := I1 s hs
      omega
    · exact jn_unm ok (f := fun s => (a8 s).toInt) (g := fun s => (c8 s).toInt) hs (I2 s hs) (key s hs) (by omega)
  · rintro n i ⟨b7, b9⟩ hi hb hw
    dsimp only at hb ⊢
    refine pk_le 8 i (fun z => absurd z (by omega)) (fun _ => ⟨pk_in i 8 hi, pk_in i 8 hi, ?_⟩)
    rw [nI_clamp (show i < 2 ^ 31 by omega)]
    refine nm_e ⟨pk_in i 8 hi, nm_e (nm_r (nI_1 i) (hw (upd b7 i 1000000, upd b9 i (a8 i)) (fun j hj => ?_)))⟩
    dsimp only
    by_cases e : j = i
    · rw [e, pk_us, pk_us]
      exact ⟨rfl, rfl⟩
    · rw [pk_un e, pk_un e]
      exact hb j (by omega)
theorem fw_plan {post : St1 → Prop} {nl nt a c : Nat} {t : Int32} (T : tt_ok nl nt a1 a2 a3 a5 a6) (ha : a < 8) (ht : 0 ≤ t.toInt) (ht2 : t.toInt ≤ 1000) (hc : c ≤ 12)
    (H : ∀ m b7 b8 b9, (∀ s, s < 8 → 0 ≤ (b8 s).toInt ∧ (b8 s).toInt ≤ 1000000) → (∀ s, s < 8 → ∀ y, y < 1000000 → ((b8 s).toInt ≤ y ↔ jn_J (tt_R nl nt a1 a2 a3 a4 a5) (tt_W a6) a t.toInt c s y)) → post (nI nl, nI nt, m, a1, a2, a3, a4, a5, a6, b7, b8, b9)) :
    wpX_plan post (nI nl, nI nt, f2, a1, a2, a3, a4, a5, a6, a7, a8, a9) (nI a) t (nI c) := by
  have ok : jn_ok (tt_R nl nt a1 a2 a3 a4 a5) (tt_W a6) := tt_jn T
  unfold wpX_plan
  refine fw_begin T ha ht ht2 (fun m0 b70 b80 hI0 => ?_)
  refine pk_loop (σ := Int32 × (Nat → Int32) × (Nat → Int32) × (Nat → Int32)) (fun n i s => wX_plan_9 post (nI c) n (nI i) (nI nl) (nI nt) s.1 a1 a2 a3 a4 a5 a6 s.2.1 s.2.2.1 s.2.2.2)
    (fun i s => fw_I (tt_R nl nt a1 a2 a3 a4 a5) (tt_W a6) a t.toInt i s.1 s.2.2.1) c 0 (m0, b70, b80, a9) (by omega) hI0 ?_ ?_
  · rintro n ⟨m, b7, b8, b9⟩ hI
    exact pk_le c c (fun _ => H m b7 b8 b9 hI.1 hI.2.1) (fun z => absurd z (by omega))
  · rintro n i ⟨m, b7, b8, b9⟩ hi hI hw
    refine pk_le c i (fun z => absurd z (by omega)) (fun _ => br_c (fun g => ?_) (fun g => ?_))
    · obtain ⟨I1, I2, P, I3, I4⟩ := hI
      refine H m b7 b8 b9 I1 (fun s hs y hy => ?_)
      rw [I2 s hs y hy]
      exact ⟨jn_Jle (by omega), jn_stop ok (fun s hs => I4 s hs (mk_ok_0 I3 g hs))⟩
    · exact fw_nextRound T hI (fun m' c7 c8 c9 hI' => nm_r (nI_1 i) (hw (m', c7, c8, c9) hI'))
end
end
section
section
variable {f0 f1 f2 : Int32} {a1 a2 a3 a4 a5 a6 a7 a8 a9 : Nat → Int32}
/-- what walkBack leaves at stop s: v -/
def bw_S (a6 a7 a8 : Nat → Int32) (s : Nat) (v : Int32) : Prop :=
  (a8 s).toInt ≤ v.toInt ∧ v.toInt ≤ 1000000 ∧ ∀ y : Int, y ≤ v.toInt ↔ y ≤ (a8 s).toInt ∨ ∃ u w, tt_W a6 s u w ∧ y ≤ (a7 u).toInt - w
theorem bw_w22 {post : St1 → Prop} {J7 : Int32 → Int32 → (Nat → Int32) → (Nat → Int32) → (Nat → Int32) → (Nat → Int32) → (Nat → Int32) → (Nat → Int32) → (Nat → Int32) → (Nat → Int32) → (Nat → Int32) → Prop} {s : Nat} (hs : s < 8)
    (h6 : ∀ j, j < 64 → 0 ≤ (a6 j).toInt ∧ (a6 j).toInt ≤ 30) (h7 : ∀ u, u < 8 → -1000000 ≤ (a7 u).toInt ∧ (a7 u).toInt ≤ 1000000)
    (H : ∀ b : Int32, (a7 s).toInt ≤ b.toInt → b.toInt ≤ 1000000 → (∀ y, y ≤ b.toInt ↔ ∃ u w, tt_W a6 s u w ∧ y ≤ (a7 u).toInt - w) →
      (b.toInt ≤ (a8 s).toInt → J7 (nI (s + 1)) f2 a1 a2 a3 a4 a5 a6 a7 a8 a9) ∧ ((a8 s).toInt < b.toInt → J7 (nI (s + 1)) (f2 ||| ((1 : Int32) <<< (nI s &&& 31))) a1 a2 a3 a4 a5 a6 a7 (upd a8 s b) a9)) :
    ∃ n, wX_walkBack_22 post J7 (nI s) f0 f1 f2 a1 a2 a3 a4 a5 a6 a7 a8 a9 n (a7 s) 0 := by
  refine pk_loop (σ := Int32) (fun n i b => wX_walkBack_22 post J7 (nI s) f0 f1 f2 a1 a2 a3 a4 a5 a6 a7 a8 a9 n b (nI i))
    (fun i b => (a7 s).toInt ≤ b.toInt ∧ b.toInt ≤ 1000000 ∧ ∀ y, y ≤ b.toInt ↔ y ≤ (a7 s).toInt ∨ ∃ u, u < i ∧ 0 < (a6 (s * 8 + u)).toInt ∧ y ≤ (a7 u).toInt - (a6 (s * 8 + u)).toInt) 8 0 (a7 s) (by omega) ?_ ?_ ?_
  · refine ⟨Int.le_refl _, (h7 s hs).2, fun y => ⟨Or.inl, ?_⟩⟩
    rintro (h | ⟨u, hu, _⟩)
    · exact h
    · omega
  · intro n b hb
    obtain ⟨b1, b2, b3⟩ := hb
    have hH := H b b1 b2 (fun y => by
      rw [b3 y]
      constructor
      · rintro (h | ⟨u, hu, h1, h2⟩)
        · exact ⟨s, 0, ⟨hs, hs, Or.inl ⟨rfl, rfl⟩⟩, by omega⟩
        · exact ⟨u, (a6 (s * 8 + u)).toInt, ⟨hs, hu, Or.inr ⟨rfl, h1⟩⟩, h2⟩
      · rintro ⟨u, w, ⟨_, hu, hw⟩, h⟩
        rcases hw with ⟨e1, e2⟩ | ⟨e1, e2⟩
        · subst e1
          exact Or.inl (by omega)
        · exact Or.inr ⟨u, hu, by omega, by omega⟩)
    refine pk_le 8 8 (fun _ => ⟨pk_in s 8 hs, ?_⟩) (fun z => absurd z (by omega))
    rw [nI_clamp (show s < 2 ^ 31 by omega)]
    refine br_c (fun z => nm_r (nI_1 s) (hH.1 (nu_le.mp z))) (fun z => ⟨pk_in s 8 hs, nm_e (nm_e (nm_r (nI_1 s) (hH.2 ?_)))⟩)
    rw [nu_le] at z
    omega
  · intro n i b hi hb hw
    obtain ⟨b1, b2, b3⟩ := hb
    have k6 := h6 (s * 8 + i) (by omega)
    have k7 := h7 i hi
    have k7' := h7 s hs
    have kadd : ((a7 i) - (a6 (s * 8 + i))).toInt = (a7 i).toInt - (a6 (s * 8 + i)).toInt := nu_sub (by omega) (by omega) (by omega) (by omega)
    have same : (∀ y, (0 < (a6 (s * 8 + i)).toInt ∧ y ≤ (a7 i).toInt - (a6 (s * 8 + i)).toInt) → y ≤ b.toInt) → wX_walkBack_22 post J7 (nI s) f0 f1 f2 a1 a2 a3 a4 a5 a6 a7 a8 a9 n b (nI (i + 1)) := by
      intro hy
      refine hw b ⟨b1, b2, fun y => ⟨fun h => ?_, ?_⟩⟩
      · rcases (b3 y).mp h with h | ⟨u, hu, h⟩
        · exact Or.inl h
        · exact Or.inr ⟨u, by omega, h⟩
      · rintro (h | ⟨u, hu, h⟩)
        · exact (b3 y).mpr (Or.inl h)
        · rcases Nat.lt_or_ge u i with z | z
          · exact (b3 y).mpr (Or.inr ⟨u, z, h⟩)
          · have e : u = i := by omega
            subst e
            exact hy y h
    refine pk_le 8 i (fun z => absurd z (by omega)) (fun _ => ⟨pk_in (s * 8 + i) 64 (by omega) (nu_i8 s i), ?_⟩)
    rw [nu_i8, nI_clamp (show s * 8 + i < 2 ^ 31 by omega), nI_clamp (show i < 2 ^ 31 by omega)]
    refine nm_e (br_c (fun z => nm_r (nI_1 i) (same ?_)) (fun z => ⟨pk_in i 8 hi, br_c (fun z2 => nm_r (nI_1 i) (same ?_)) (fun z2 => ⟨pk_in i 8 hi, nm_e (nm_r (nI_1 i) (hw _ ?_))⟩)⟩))
    · intro y hy
      rw [nu_le, nu_0] at z
      omega
    · intro y hy
      rw [nu_le, kadd] at z2
      omega
    · rw [nu_le, nu_0] at z
      rw [nu_le, kadd] at z2
      rw [kadd]
      refine ⟨by omega, by omega, fun y => ⟨fun h => Or.inr ⟨i, by omega, by omega, h⟩, ?_⟩⟩
      rintro (h | ⟨u, hu, h1, h2⟩)
      · omega
      · rcases Nat.lt_or_ge u i with z3 | z3
        · have := (b3 y).mpr (Or.inr ⟨u, z3, h1, h2⟩)
          omega
        · have e : u = i := by omega
          subst e
          exact h2
/-- walkBack -/
theorem bw_walkBack {post : St1 → Prop} (h6 : ∀ j, j < 64 → 0 ≤ (a6 j).toInt ∧ (a6 j).toInt ≤ 30) (h7 : ∀ u, u < 8 → -1000000 ≤ (a7 u).toInt ∧ (a7 u).toInt ≤ 1000000) (h8 : ∀ u, u < 8 → -1000000 ≤ (a8 u).toInt ∧ (a8 u).toInt ≤ 1000000)
    (H : ∀ m b8, mk_ok m (fun s => (a8 s).toInt < (b8 s).toInt) → (∀ s, s < 8 → bw_S a6 a7 a8 s (b8 s)) → post (f0, f1, m, a1, a2, a3, a4, a5, a6, a7, b8, a9)) :
    wpX_walkBack post (f0, f1, f2, a1, a2, a3, a4, a5, a6, a7, a8, a9) := by
  refine pk_loop (σ := Int32 × (Nat → Int32)) (fun n i s => wX_walkBack_7 post f0 f1 n (nI i) s.1 a1 a2 a3 a4 a5 a6 a7 s.2 a9)
    (fun i s => mk_ok s.1 (fun j => j < i ∧ (a8 j).toInt < (s.2 j).toInt) ∧ (∀ j, j < i → bw_S a6 a7 a8 j (s.2 j)) ∧ ∀ j, i ≤ j → s.2 j = a8 j) 8 0 (0, a8) (by omega) ?_ ?_ ?_
  · exact ⟨mk_ok_nil (fun j _ h => by omega), fun j hj => by omega, fun j _ => rfl⟩
  · rintro n ⟨m, b8⟩ ⟨k1, k2, k3⟩
    exact pk_le 8 8 (fun _ => H m b8 (mk_ok_iff k1 (fun j hj => ⟨fun h => ⟨hj, h⟩, fun h => h.2⟩)) k2) (fun z => absurd z (by omega))
  · rintro n i ⟨m, b8⟩ hi ⟨k1, k2, k3⟩ hw
    dsimp only at k1 k2 k3 ⊢
    have e8 : b8 i = a8 i := k3 i (Nat.le_refl _)
    refine pk_le 8 i (fun z => absurd z (by omega)) (fun _ => ⟨pk_in i 8 hi, ?_⟩)
    rw [nI_clamp (show i < 2 ^ 31 by omega)]
    refine nm_e (bw_w22 hi h6 h7 (fun b b1 b2 b3 => ⟨fun z => ?_, fun z => ?_⟩))
    · refine hw (m, b8) ⟨mk_ok_iff k1 (fun j hj => ⟨fun h => ⟨?_, h.2⟩, fun h => ⟨by omega, h.2⟩⟩), fun j hj => ?_, fun j hj => k3 j (by omega)⟩
      · have h1 := h.1
        have h2 := h.2
        dsimp only at h2
        rcases Nat.lt_or_ge j i with q | q
        · exact q
        · rw [k3 j q] at h2
          omega
      · rcases Nat.lt_or_ge j i with q | q
        · exact k2 j q
        · have e : j = i := by omega
          subst e
          dsimp only
          rw [e8] at z
          refine ⟨by rw [e8]; exact Int.le_refl _, by rw [e8]; exact (h8 j hi).2, fun y => ?_⟩
          rw [e8]
          refine ⟨Or.inl, ?_⟩
          rintro (h | h)
          · exact h
          · have := (b3 y).mpr h
            omega
    · skip
      rw [e8] at z
      refine hw (_, upd b8 i b) ⟨mk_ok_add k1 hi (fun j hj => ?_), fun j hj => ?_, fun j hj => ?_⟩
      · dsimp only
        by_cases q : j = i
        · subst q
          rw [pk_us]
          exact ⟨fun _ => Or.inr rfl, fun _ => ⟨by omega, z⟩⟩
        · rw [pk_un q]
          exact ⟨fun h => Or.inl ⟨by omega, h.2⟩, fun h => h.elim (fun h => ⟨by omega, h.2⟩) (fun h => absurd h q)⟩
      · dsimp only
        by_cases q : j = i
        · subst q
          rw [pk_us]
          refine ⟨by omega, b2, fun y => ?_⟩
          rw [b3 y]
          refine ⟨Or.inr, ?_⟩
          rintro (h | h)
          · exact (b3 y).mp (by omega)
          · exact h
        · rw [pk_un q]
          exact k2 j (by omega)
      · dsimp only
        rw [pk_un (show j ≠ i by omega)]
        exact k3 j (by omega)
/-- a trip of line l that is at its stop i by time bf, and that starts at z or later -/
def bw_C (nt : Nat) (a3 a4 a5 : Nat → Int32) (l i : Nat) (bf z : Int) : Prop :=
  ∃ t, t < nt ∧ a4 t = nI l ∧ (a5 t).toInt + tt_of a3 l i ≤ bf ∧ z ≤ (a5 t).toInt
theorem bw_meet {post : Int32 → Prop} {nt l i : Nat} {x3 : Int32} (hnt : nt ≤ 12) (h5 : ∀ t, t < nt → 0 ≤ (a5 t).toInt ∧ (a5 t).toInt ≤ 500) (hli : l * 6 + i < 30) (ho : 0 ≤ tt_of a3 l i) (ho2 : tt_of a3 l i ≤ 150)
    (H : ∀ r : Int32, -1000000 ≤ r.toInt → r.toInt ≤ 500 → (∀ z : Int, (-1000000 < r.toInt ∧ z ≤ r.toInt) ↔ bw_C nt a3 a4 a5 l i x3.toInt z) → post r) :
    wpX_meetTrip post (f0, nI nt, f2, a1, a2, a3, a4, a5, a6, a7, a8, a9) (nI l) (nI i) x3 := by
  refine pk_loop (σ := Int32) (fun n t r => wX_meetTrip_7 post (nI l) (nI i) x3 f0 (nI nt) f2 a1 a2 a3 a4 a5 a6 a7 a8 a9 n r (nI t))
    (fun t r => -1000000 ≤ r.toInt ∧ r.toInt ≤ 500 ∧ ∀ z : Int, (-1000000 < r.toInt ∧ z ≤ r.toInt) ↔ bw_C t a3 a4 a5 l i x3.toInt z) nt 0 (-1000000) (by omega) ?_ ?_ ?_
  · rw [nu_raf]
    refine ⟨by omega, by omega, fun z => ⟨fun h => by omega, ?_⟩⟩
    rintro ⟨t, ht, _⟩
    omega
  · rintro n r ⟨r1, r2, r3⟩
    exact pk_le nt nt (fun _ => H r r1 r2 r3) (fun z => absurd z (by omega))
  · rintro n t r ht ⟨r1, r2, r3⟩ hw
    have k5 := h5 t ht
    have kadd : ((a5 t) + (a3 (l * 6 + i))).toInt = (a5 t).toInt + tt_of a3 l i := nu_add (by omega) (by omega) (by unfold tt_of at ho; omega) (by unfold tt_of at ho2; omega)
    have same : (∀ z : Int, a4 t = nI l → (a5 t).toInt + tt_of a3 l i ≤ x3.toInt → z ≤ (a5 t).toInt → -1000000 < r.toInt ∧ z ≤ r.toInt) → wX_meetTrip_7 post (nI l) (nI i) x3 f0 (nI nt) f2 a1 a2 a3 a4 a5 a6 a7 a8 a9 n r (nI (t + 1)) := by
      intro hy
      refine hw r ⟨r1, r2, fun z => ⟨fun h => ?_, ?_⟩⟩
      · obtain ⟨t', ht', h⟩ := (r3 z).mp h
        exact ⟨t', by omega, h⟩
      · rintro ⟨t', ht', q1, q2, q3⟩
        rcases Nat.lt_or_ge t' t with q | q
        · exact (r3 z).mpr ⟨t', q, q1, q2, q3⟩
        · have e : t' = t := by omega
          subst e
          exact hy z q1 q2 q3
    refine pk_le nt t (fun z => absurd z (by omega)) (fun _ => ⟨pk_in t 12 (by omega), ?_⟩)
    rw [nI_clamp (show t < 2 ^ 31 by omega), nu_i6, nI_clamp (show l * 6 + i < 2 ^ 31 by omega)]
    refine br_c (fun g => ⟨pk_in t 12 (by omega), pk_in (l * 6 + i) 30 hli, br_c (fun g2 => nm_r (nI_1 t) (same ?_)) (fun g2 => ⟨pk_in t 12 (by omega), br_c (fun g3 => nm_r (nI_1 t) (same ?_)) (fun g3 => ⟨pk_in t 12 (by omega), nm_e (nm_r (nI_1 t) (hw _ ?_))⟩)⟩)⟩) (fun g => nm_r (nI_1 t) (same (fun z q1 => absurd q1 g)))
    · intro z q1 q2 q3
      rw [nu_lt, kadd] at g2
      omega
    · intro z q1 q2 q3
      rw [nu_le] at g3
      omega
    · rw [nu_lt, kadd] at g2
      rw [nu_le] at g3
      refine ⟨by omega, k5.2, fun z => ⟨fun h => ⟨t, by omega, g, by omega, h.2⟩, ?_⟩⟩
      rintro ⟨t', ht', q1, q2, q3⟩
      rcases Nat.lt_or_ge t' t with q | q
      · have := (r3 z).mpr ⟨t', q, q1, q2, q3⟩
        omega
      · have e : t' = t := by omega
        subst e
        exact ⟨by omega, q3⟩
theorem bw_r114 {post : St1 → Prop} {J5 : Int32 → Int32 → (Nat → Int32) → (Nat → Int32) → (Nat → Int32) → (Nat → Int32) → (Nat → Int32) → (Nat → Int32) → (Nat → Int32) → (Nat → Int32) → (Nat → Int32) → Prop} {nt l i s : Nat} {x2 : Int32}
    (hnt : nt ≤ 12) (h5 : ∀ t, t < nt → 0 ≤ (a5 t).toInt ∧ (a5 t).toInt ≤ 500) (hli : l * 6 + i < 30) (ho : 0 ≤ tt_of a3 l i) (ho2 : tt_of a3 l i ≤ 150) (hs : s < 8) (hx : -1000000 ≤ x2.toInt) (hx2 : x2.toInt ≤ 500)
    (H : ∀ r : Int32, -1000000 ≤ r.toInt → r.toInt ≤ 500 → (∀ z : Int, (-1000000 < r.toInt ∧ z ≤ r.toInt) ↔ (-1000000 < x2.toInt ∧ z ≤ x2.toInt) ∨ bw_C nt a3 a4 a5 l i (a9 s).toInt z) → J5 r (nI i + (-1)) a1 a2 a3 a4 a5 a6 a7 a8 a9) :
    wX_rideLineBack_114 post J5 (nI l) x2 (nI i) (nI s) f0 (nI nt) f2 a1 a2 a3 a4 a5 a6 a7 a8 a9 := by
  unfold wX_rideLineBack_114
  refine ⟨pk_in s 8 hs, ?_⟩
  rw [nI_clamp (show s < 2 ^ 31 by omega)]
  refine bw_meet hnt h5 hli ho ho2 (fun r r1 r2 r3 => br_c (fun g => nm_e (H x2 hx hx2 (fun z => ⟨Or.inl, ?_⟩))) (fun g => nm_e (H r r1 r2 (fun z => ⟨fun h => Or.inr ((r3 z).mp h), ?_⟩))))
  · rw [nu_le] at g
    rintro (h | h)
    · exact h
    · have := (r3 z).mpr h
      omega
  · rw [nu_le] at g
    rintro (h | h)
    · omega
    · exact (r3 z).mpr h
theorem bw_r71 {post : St1 → Prop} {J5 : Int32 → Int32 → (Nat → Int32) → (Nat → Int32) → (Nat → Int32) → (Nat → Int32) → (Nat → Int32) → (Nat → Int32) → (Nat → Int32) → (Nat → Int32) → (Nat → Int32) → Prop} {nt l i s : Nat} {x2 x5 : Int32} {P : Nat → Prop}
    (hnt : nt ≤ 12) (h5 : ∀ t, t < nt → 0 ≤ (a5 t).toInt ∧ (a5 t).toInt ≤ 500) (hli : l * 6 + i < 30) (ho : 0 ≤ tt_of a3 l i) (ho2 : tt_of a3 l i ≤ 150) (hs : s < 8) (hx : -1000000 ≤ x2.toInt) (hx2 : x2.toInt ≤ 500)
    (hx5 : x5.toInt = x2.toInt + tt_of a3 l i) (hm : mk_ok f2 P)
    (H : ∀ r : Int32, -1000000 ≤ r.toInt → r.toInt ≤ 500 → (∀ z : Int, (-1000000 < r.toInt ∧ z ≤ r.toInt) ↔ (-1000000 < x2.toInt ∧ z ≤ x2.toInt) ∨ (P s ∧ bw_C nt a3 a4 a5 l i (a9 s).toInt z)) → J5 r (nI i + (-1)) a1 a2 a3 a4 a5 a6 a7 a8 a9) :
    wX_rideLineBack_71 post J5 (nI l) x2 (nI i) (nI s) x5 f0 (nI nt) f2 a1 a2 a3 a4 a5 a6 a7 a8 a9 := by
  unfold wX_rideLineBack_71
  refine br_c (fun g => ?_) (fun g => ?_)
  · have hP : P s := (mk_ok_bit hm hs).mp g
    have h114 : wX_rideLineBack_114 post J5 (nI l) x2 (nI i) (nI s) f0 (nI nt) f2 a1 a2 a3 a4 a5 a6 a7 a8 a9 :=
      bw_r114 hnt h5 hli ho ho2 hs hx hx2 (fun r r1 r2 r3 => H r r1 r2 (fun z => by
        rw [r3 z]
        exact ⟨fun h => h.elim Or.inl (fun h => Or.inr ⟨hP, h⟩), fun h => h.elim Or.inl (fun h => Or.inr h.2)⟩))
    unfold wX_rideLineBack_89
    refine br_f (by decide) (br_c (fun _ => h114) (fun g2 => ⟨pk_in s 8 hs, ?_⟩))
    rw [nI_clamp (show s < 2 ^ 31 by omega)]
    refine br_c (fun g3 => nm_e (H x2 hx hx2 (fun z => ⟨Or.inl, ?_⟩))) (fun _ => h114)
    rw [nu_le] at g3
    rw [nu_eq, nu_raf] at g2
    rintro (h | ⟨_, t, ht, q1, q2, q3⟩)
    · exact h
    · omega
  · have hP : ¬ P s := fun h => g ((mk_ok_bit hm hs).mpr h)
    unfold wX_rideLineBack_89
    exact br_t rfl (nm_e (H x2 hx hx2 (fun z => ⟨Or.inl, fun h => h.elim id (fun h => absurd h.1 hP)⟩)))
/-- a ride along line l from stop s at y or later that is at a marked stop by its time before -/
def bw_L (nt : Nat) (a1 a2 a3 a4 a5 a9 : Nat → Int32) (P : Nat → Prop) (n l s : Nat) (y : Int) : Prop :=
  ∃ i, n ≤ i ∧ tt_st a2 l i = s ∧ ∃ j, i < j ∧ j < tt_sz a1 l ∧ P (tt_st a2 l j) ∧ bw_C nt a3 a4 a5 l j (a9 (tt_st a2 l j)).toInt (y - tt_of a3 l i)
theorem bw_rideLine {post : St1 → Prop} {nt l : Nat} {P : Nat → Prop} (hl : l < 5) (T : tt_ln a1 a2 a3 l)
    (hnt : nt ≤ 12) (h5 : ∀ t, t < nt → 0 ≤ (a5 t).toInt ∧ (a5 t).toInt ≤ 500) (h7 : ∀ u, u < 8 → -1000000 ≤ (a7 u).toInt ∧ (a7 u).toInt ≤ 1000000) (hm : mk_ok f2 P)
    (H : ∀ b7 : Nat → Int32, (∀ u, u < 8 → -1000000 ≤ (b7 u).toInt ∧ (b7 u).toInt ≤ 1000000) → (∀ s, s < 8 → ∀ y : Int, (y ≤ (b7 s).toInt ↔ y ≤ (a7 s).toInt ∨ bw_L nt a1 a2 a3 a4 a5 a9 P 0 l s y)) → post (f0, nI nt, f2, a1, a2, a3, a4, a5, a6, b7, a8, a9)) :
    wpX_rideLineBack post (f0, nI nt, f2, a1, a2, a3, a4, a5, a6, a7, a8, a9) (nI l) := by
  obtain ⟨T1, T2, T3, T4, T5⟩ := T
  unfold wpX_rideLineBack
  refine ⟨pk_in l 5 hl, ?_⟩
  rw [nI_clamp (show l < 2 ^ 31 by omega)]
  have e0 : a1 l - 1 = nI (tt_sz a1 l) + (-1) := by
    obtain ⟨c, hc⟩ : ∃ c, tt_sz a1 l = c + 1 := ⟨tt_sz a1 l - 1, by omega⟩
    rw [T3, hc, nI_pred, pk_m1]
  refine nm_r e0 ⟨tt_sz a1 l + 1, ?_⟩
  refine pk_loopD (σ := Int32 × (Nat → Int32)) (fun n i s => wX_rideLineBack_12 post (nI l) f0 (nI nt) f2 n s.1 (nI i + (-1)) a1 a2 a3 a4 a5 a6 s.2 a8 a9)
    (fun i s => i ≤ tt_sz a1 l ∧ (-1000000 ≤ s.1.toInt ∧ s.1.toInt ≤ 500 ∧ ∀ z : Int, (-1000000 < s.1.toInt ∧ z ≤ s.1.toInt) ↔ ∃ j, i ≤ j ∧ j < tt_sz a1 l ∧ P (tt_st a2 l j) ∧ bw_C nt a3 a4 a5 l j (a9 (tt_st a2 l j)).toInt z)
      ∧ (∀ u, u < 8 → -1000000 ≤ (s.2 u).toInt ∧ (s.2 u).toInt ≤ 1000000) ∧ ∀ u, u < 8 → ∀ y : Int, (y ≤ (s.2 u).toInt ↔ y ≤ (a7 u).toInt ∨ bw_L nt a1 a2 a3 a4 a5 a9 P i l u y)) ?_ ?_ (tt_sz a1 l) (-1000000, a7) ?_
  · rintro n ⟨x2, b7⟩ ⟨_, ⟨k1, k2, k3⟩, k4, k5⟩
    exact br_t (by rw [nI_0]; decide) (H b7 k4 k5)
  · rintro n i ⟨x2, b7⟩ ⟨hi, ⟨k1, k2, k3⟩, k4, k5⟩ hw
    dsimp only at k1 k2 k3 k4 k5 ⊢
    obtain ⟨t1, t2, t3, t4⟩ := T4 i (by omega)
    have hli : l * 6 + i < 30 := by omega
    have kadd : (x2 + a3 (l * 6 + i)).toInt = x2.toInt + tt_of a3 l i := nu_add (by omega) (by omega) (by unfold tt_of at t3; omega) (by unfold tt_of at t4; omega)
    show wX_rideLineBack_12 post (nI l) f0 (nI nt) f2 (n + 1) x2 (nI (i + 1) + (-1)) a1 a2 a3 a4 a5 a6 b7 a8 a9
    rw [pk_m1]
    refine br_f (nI_pos (by omega)) ⟨pk_in (l * 6 + i) 30 hli (nu_i6 l i), ?_⟩
    rw [nu_i6, nI_clamp (show l * 6 + i < 2 ^ 31 by omega)]
    refine nm_r t2 ⟨pk_in (l * 6 + i) 30 hli, nm_e ?_⟩
    rw [nI_clamp (show tt_st a2 l i < 2 ^ 31 by omega)]
    have main : ∀ c7 : Nat → Int32, (∀ u, u < 8 → -1000000 ≤ (c7 u).toInt ∧ (c7 u).toInt ≤ 1000000) → (∀ u, u < 8 → ∀ y : Int, (y ≤ (c7 u).toInt ↔ y ≤ (b7 u).toInt ∨ (u = tt_st a2 l i ∧ -1000000 < x2.toInt ∧ y ≤ x2.toInt + tt_of a3 l i))) →
        wX_rideLineBack_71 post (wX_rideLineBack_12 post (nI l) f0 (nI nt) f2 n) (nI l) x2 (nI i) (nI (tt_st a2 l i)) (x2 + a3 (l * 6 + i)) f0 (nI nt) f2 a1 a2 a3 a4 a5 a6 c7 a8 a9 := by
      intro c7 c1 c2
      refine bw_r71 (P := P) hnt h5 hli t3 (by omega) t1 k1 k2 kadd hm (fun r r1 r2 r3 => hw (r, c7) ⟨by omega, ⟨r1, r2, fun z => ?_⟩, c1, fun u hu y => ?_⟩)
      · dsimp only
        rw [r3 z, k3 z]
        constructor
        · rintro (⟨j, hj, h⟩ | h)
          · exact ⟨j, by omega, h⟩
          · exact ⟨i, by omega, by omega, h⟩
        · rintro ⟨j, hj, h⟩
          rcases Nat.lt_or_ge i j with q | q
          · exact Or.inl ⟨j, q, h⟩
          · have e : j = i := by omega
            subst e
            exact Or.inr h.2
      · dsimp only
        rw [c2 u hu y, k5 u hu y]
        constructor
        · rintro ((h | ⟨j, hj, h⟩) | ⟨e, h0, h⟩)
          · exact Or.inl h
          · exact Or.inr ⟨j, by omega, h⟩
          · obtain ⟨i', hi', h⟩ := (k3 (y - tt_of a3 l i)).mp ⟨h0, by omega⟩
            exact Or.inr ⟨i, by omega, e.symm, i', by omega, h⟩
        · rintro (h | ⟨j, hj, e, i', hi', h⟩)
          · exact Or.inl (Or.inl h)
          · rcases Nat.lt_or_ge i j with q | q
            · exact Or.inl (Or.inr ⟨j, q, e, i', hi', h⟩)
            · have ej : j = i := by omega
              subst ej
              have := (k3 (y - tt_of a3 l j)).mpr ⟨i', by omega, h⟩
              exact Or.inr ⟨e.symm, this.1, by omega⟩
    refine br_c (fun g => main b7 k4 (fun u hu y => ⟨Or.inl, ?_⟩)) (fun g => ⟨pk_in _ 8 t1, br_c (fun g2 => main b7 k4 (fun u hu y => ⟨Or.inl, ?_⟩)) (fun g2 => ⟨pk_in _ 8 t1, nm_e (main _ (fun u hu => ?_) (fun u hu y => ?_))⟩)⟩)
    · rw [nu_le, nu_raf] at g
      rintro (h | ⟨e, h0, h⟩)
      · exact h
      · omega
    · rw [nu_le, kadd] at g2
      rintro (h | ⟨e, h0, h⟩)
      · exact h
      · rw [e]
        omega
    · by_cases e : u = tt_st a2 l i
      · rw [nu_le, kadd] at g2
        have := k4 _ t1
        rw [e, pk_us, kadd]
        omega
      · rw [pk_un e]
        exact k4 u hu
    · rw [nu_le, nu_raf] at g
      by_cases e : u = tt_st a2 l i
      · rw [nu_le, kadd] at g2
        rw [e, pk_us, kadd]
        refine ⟨fun h => Or.inr ⟨rfl, by omega, h⟩, ?_⟩
        rintro (h | ⟨_, _, h⟩)
        · omega
        · exact h
      · rw [pk_un e]
        exact ⟨Or.inl, fun h => h.elim id (fun h => absurd h.1 e)⟩
  · dsimp only
    rw [nu_raf]
    refine ⟨Nat.le_refl _, ⟨by omega, by omega, fun z => ⟨fun h => by omega, ?_⟩⟩, h7, fun u hu y => ⟨Or.inl, ?_⟩⟩
    · rintro ⟨j, hj, hj2, _⟩
      omega
    · rintro (h | ⟨j, hj, e, i', hi', hi2, _⟩)
      · exact h
      · omega
theorem bw_L_R {nl nt : Nat} {P : Nat → Prop} {s : Nat} {y : Int} :
    (∃ l, l < nl ∧ bw_L nt a1 a2 a3 a4 a5 a9 P 0 l s y) ↔ ∃ v y', P v ∧ tt_R nl nt a1 a2 a3 a4 a5 s y v y' ∧ y' ≤ (a9 v).toInt := by
  constructor
  · rintro ⟨l, hl, i, _, e, j, hij, hj, hP, t, ht, q1, q2, q3⟩
    exact ⟨tt_st a2 l j, (a5 t).toInt + tt_of a3 l j, hP, ⟨l, i, j, t, hl, hij, hj, ht, e, rfl, q1, by omega, rfl⟩, by omega⟩
  · rintro ⟨v, y', hP, ⟨l, i, j, t, hl, hij, hj, ht, e1, e2, q1, q2, q3⟩, hy⟩
    subst e2
    exact ⟨l, hl, i, Nat.zero_le _, e1, j, hij, hj, hP, t, ht, q1, by omega, by omega⟩
def bw_I (R : Nat → Int → Nat → Int → Prop) (W : Nat → Nat → Int → Prop) (b : Nat) (t : Int) (k : Nat) (m : Int32) (b8 : Nat → Int32) : Prop :=
  (∀ s, s < 8 → -1000000 ≤ (b8 s).toInt ∧ (b8 s).toInt ≤ 1000000) ∧ (∀ s, s < 8 → ∀ x, -1000000 < x → (x ≤ (b8 s).toInt ↔ jn_K R W b t k s x)) ∧ ∃ P : Nat → Prop, mk_ok m P ∧ ∀ s, s < 8 → ¬ P s → jn_dl R W b t k s
theorem bw_p98 {post : St1 → Prop} {J43 : Int32 → Int32 → Int32 → Int32 → (Nat → Int32) → (Nat → Int32) → (Nat → Int32) → (Nat → Int32) → (Nat → Int32) → (Nat → Int32) → (Nat → Int32) → (Nat → Int32) → (Nat → Int32) → Prop} {x3 : Int32} {nl nt : Nat} {P : Nat → Prop} (T : tt_ok nl nt a1 a2 a3 a5 a6) (h7 : ∀ u, u < 8 → -1000000 ≤ (a7 u).toInt ∧ (a7 u).toInt ≤ 1000000) (h8 : ∀ u, u < 8 → -1000000 ≤ (a8 u).toInt ∧ (a8 u).toInt ≤ 1000000) (hm : mk_ok f2 P)
    (H : ∀ b7 : Nat → Int32, (∀ u, u < 8 → -1000000 ≤ (b7 u).toInt ∧ (b7 u).toInt ≤ 1000000) → (∀ s, s < 8 → ∀ y : Int, (y ≤ (b7 s).toInt ↔ y ≤ (a7 s).toInt ∨ ∃ l, l < nl ∧ bw_L nt a1 a2 a3 a4 a5 a9 P 0 l s y)) → ∀ m b8, mk_ok m (fun s => (a8 s).toInt < (b8 s).toInt) → (∀ s, s < 8 → bw_S a6 b7 a8 s (b8 s)) → J43 (x3 + 1) (nI nl) (nI nt) m a1 a2 a3 a4 a5 a6 b7 b8 a9) :
    ∃ n, wX_planBack_98 post J43 x3 n 0 (nI nl) (nI nt) f2 a1 a2 a3 a4 a5 a6 a7 a8 a9 := by
  obtain ⟨T1, T2, T3, T4, T5, T6⟩ := T
  refine pk_loop (σ := Nat → Int32) (fun n i b7 => wX_planBack_98 post J43 x3 n (nI i) (nI nl) (nI nt) f2 a1 a2 a3 a4 a5 a6 b7 a8 a9)
    (fun i b7 => (∀ u, u < 8 → -1000000 ≤ (b7 u).toInt ∧ (b7 u).toInt ≤ 1000000) ∧ ∀ s, s < 8 → ∀ y : Int, (y ≤ (b7 s).toInt ↔ y ≤ (a7 s).toInt ∨ ∃ l, l < i ∧ bw_L nt a1 a2 a3 a4 a5 a9 P 0 l s y)) nl 0 a7 (by omega) ?_ ?_ ?_
  · refine ⟨h7, fun s hs y => ⟨Or.inl, ?_⟩⟩
    rintro (h | ⟨l, hl, _⟩)
    · exact h
    · omega
  · rintro n b7 ⟨k1, k2⟩
    refine pk_le nl nl (fun _ => ?_) (fun z => absurd z (by omega))
    exact bw_walkBack T5 k1 h8 (fun m b8 e1 e2 => nm_e (H b7 k1 k2 m b8 e1 e2))
  · rintro n i b7 hi ⟨k1, k2⟩ hw
    refine pk_le nl i (fun z => absurd z (by omega)) (fun _ => ?_)
    refine bw_rideLine (P := P) (by omega) (T3 i hi) T2 T4 k1 hm (fun c7 c1 c2 => nm_r (nI_1 i) (hw c7 ⟨c1, fun s hs y => ?_⟩))
    rw [c2 s hs y, k2 s hs y]
    constructor
    · rintro ((h | ⟨l, hl, h⟩) | h)
      · exact Or.inl h
      · exact Or.inr ⟨l, by omega, h⟩
      · exact Or.inr ⟨i, by omega, h⟩
    · rintro (h | ⟨l, hl, h⟩)
      · exact Or.inl (Or.inl h)
      · rcases Nat.lt_or_ge l i with q | q
        · exact Or.inl (Or.inr ⟨l, q, h⟩)
        · have e : l = i := by omega
          subst e
          exact Or.inr h
/-- one round back -/
theorem bw_p59 {post : St1 → Prop} {J43 : Int32 → Int32 → Int32 → Int32 → (Nat → Int32) → (Nat → Int32) → (Nat → Int32) → (Nat → Int32) → (Nat → Int32) → (Nat → Int32) → (Nat → Int32) → (Nat → Int32) → (Nat → Int32) → Prop} {x3 : Int32} {nl nt b k : Nat} {t : Int} (T : tt_ok nl nt a1 a2 a3 a5 a6) (hI : bw_I (tt_R nl nt a1 a2 a3 a4 a5) (tt_W a6) b t k f2 a8)
    (H : ∀ m b7 b8 b9, bw_I (tt_R nl nt a1 a2 a3 a4 a5) (tt_W a6) b t (k + 1) m b8 → J43 (x3 + 1) (nI nl) (nI nt) m a1 a2 a3 a4 a5 a6 b7 b8 b9) :
    ∃ n, wX_planBack_59 post J43 x3 (nI nl) (nI nt) f2 n 0 a1 a2 a3 a4 a5 a6 a7 a8 a9 := by
  have ok : jn_ok (tt_R nl nt a1 a2 a3 a4 a5) (tt_W a6) := tt_jn T
  obtain ⟨I1, I2, P, I3, I4⟩ := hI
  refine pk_loop (σ := (Nat → Int32) × (Nat → Int32)) (fun n i s => wX_planBack_59 post J43 x3 (nI nl) (nI nt) f2 n (nI i) a1 a2 a3 a4 a5 a6 s.1 a8 s.2)
    (fun i s => ∀ j, j < i → s.1 j = -1000000 ∧ s.2 j = a8 j) 8 0 (a7, a9) (by omega) (fun j hj => absurd hj (by omega)) ?_ ?_
  · rintro n ⟨b7, b9⟩ hb
    dsimp only at hb ⊢
    have c7 : ∀ u, u < 8 → (b7 u).toInt = -1000000 := fun u hu => by rw [(hb u hu).1, nu_raf]
    refine pk_le 8 8 (fun _ => ?_) (fun z => absurd z (by omega))
    refine bw_p98 (P := P) T (fun u hu => by rw [c7 u hu]; omega) I1 I3 (fun d7 d1 d2 m c8 e1 e2 => H m _ c8 _ ?_)
    have key := jn_roundK ok (f := fun s => (a8 s).toInt) (g := fun s => (c8 s).toInt) (m := P) I2 I4 (fun s hs x hx => by
      rw [(e2 s hs).2.2 x]
      constructor
      · rintro (h | ⟨u, w, h1, h2⟩)
        · exact Or.inl h
        · have hw := (ok.2.2.1 _ _ _ h1).1
          have hu := h1.2.1
          have h3 := (d2 u hu (x + w)).mp (by omega)
          rw [c7 u hu] at h3
          rcases h3 with h3 | h3
          · omega
          · obtain ⟨v, y', q1, q2, q3⟩ := bw_L_R.mp h3
            have hv := (ok.2.2.2.2.2.2.1 _ _ _ _ q2).2
            rw [(hb v hv).2] at q3
            exact Or.inr ⟨u, v, y', w, q1, q2, q3, h1⟩
      · rintro (h | ⟨u, v, y', w, h1, h2, h3, h4⟩)
        · exact Or.inl h
        · have hw := (ok.2.2.1 _ _ _ h4).1
          have hu := h4.2.1
          have hv := (ok.2.2.2.2.2.2.1 _ _ _ _ h2).2
          rw [← (hb v hv).2] at h3
          have h5 := (d2 u hu (x + w)).mpr (Or.inr (bw_L_R.mpr ⟨v, y', h1, h2, h3⟩))
          exact Or.inr ⟨u, w, h4, by omega⟩)
    refine ⟨fun s hs => ?_, key, _, e1, fun s hs hm => ?_⟩
    · have q1 := (e2 s hs).1
      have q2 := (e2 s hs).2.1
      have q3 := I1 s hs
      omega
    · exact jn_unmK ok (f := fun s => (a8 s).toInt) (g := fun s => (c8 s).toInt) hs (I2 s hs) (key s hs) (by omega)
  · rintro n i ⟨b7, b9⟩ hi hb hw
    dsimp only at hb ⊢
    refine pk_le 8 i (fun z => absurd z (by omega)) (fun _ => ⟨pk_in i 8 hi, pk_in i 8 hi, ?_⟩)
    rw [nI_clamp (show i < 2 ^ 31 by omega)]
    refine nm_e ⟨pk_in i 8 hi, nm_e (nm_r (nI_1 i) (hw (upd b7 i (-1000000), upd b9 i (a8 i)) (fun j hj => ?_)))⟩
    dsimp only
    by_cases e : j = i
    · rw [e, pk_us, pk_us]
      exact ⟨rfl, rfl⟩
    · rw [pk_un e, pk_un e]
      exact hb j (by omega)
theorem bw_planBack {post : St1 → Prop} {nl nt b : Nat} {t : Int32} (T : tt_ok nl nt a1 a2 a3 a5 a6) (hb : b < 8) (ht : 0 ≤ t.toInt) (ht2 : t.toInt ≤ 1000)
    (H : ∀ m b7 b8 b9, (∀ s, s < 8 → ∀ x, -1000000 < x → (x ≤ (b8 s).toInt ↔ jn_K (tt_R nl nt a1 a2 a3 a4 a5) (tt_W a6) b t.toInt 12 s x)) → post (nI nl, nI nt, m, a1, a2, a3, a4, a5, a6, b7, b8, b9)) :
    wpX_planBack post (nI nl, nI nt, f2, a1, a2, a3, a4, a5, a6, a7, a8, a9) (nI b) t := by
  have ok : jn_ok (tt_R nl nt a1 a2 a3 a4 a5) (tt_W a6) := tt_jn T
  refine pk_loop (σ := (Nat → Int32) × (Nat → Int32)) (fun n i s => wX_planBack_2 post (nI b) t (nI nl) (nI nt) f2 n (nI i) a1 a2 a3 a4 a5 a6 s.1 s.2 a9)
    (fun i s => ∀ j, j < i → s.1 j = -1000000 ∧ s.2 j = -1000000) 8 0 (a7, a8) (by omega) (fun j hj => absurd hj (by omega)) ?_ ?_
  · rintro n ⟨b7, b8⟩ hq
    dsimp only at hq ⊢
    have c7 : ∀ u, u < 8 → ((upd b7 b t) u).toInt = if u = b then t.toInt else -1000000 := by
      intro u hu
      by_cases e : u = b
      · rw [if_pos e, e, pk_us]
      · rw [if_neg e, pk_un e, (hq u hu).1, nu_raf]
    have c8 : ∀ u, u < 8 → (b8 u).toInt = -1000000 := fun u hu => by rw [(hq u hu).2, nu_raf]
    refine pk_le 8 8 (fun _ => ⟨pk_in b 8 hb, ?_⟩) (fun z => absurd z (by omega))
    rw [nI_clamp (show b < 2 ^ 31 by omega)]
    refine nm_e (bw_walkBack T.2.2.2.2.1 (fun u hu => ?_) (fun u hu => ?_) (fun m0 c8' k1 k2 => ?_))
    · rw [c7 u hu]
      split <;> omega
    · rw [c8 u hu]
      omega
    · have key : ∀ s, s < 8 → ∀ x, -1000000 < x → (x ≤ (c8' s).toInt ↔ jn_K (tt_R nl nt a1 a2 a3 a4 a5) (tt_W a6) b t.toInt 0 s x) := by
        intro s hs x hx
        rw [(k2 s hs).2.2 x, c8 s hs]
        constructor
        · rintro (h | ⟨u, w, h1, h2⟩)
          · omega
          · rw [c7 u h1.2.1] at h2
            have hw := (ok.2.2.1 s u w h1).1
            by_cases e : u = b
            · rw [if_pos e] at h2
              exact ⟨w, e ▸ h1, by omega⟩
            · rw [if_neg e] at h2
              omega
        · rintro ⟨w, h1, h2⟩
          exact Or.inr ⟨b, w, h1, by rw [c7 b hb, if_pos rfl]; omega⟩
      have hI0 : bw_I (tt_R nl nt a1 a2 a3 a4 a5) (tt_W a6) b t.toInt 0 m0 c8' := by
        refine ⟨fun s hs => ?_, key, _, k1, fun s hs hm => ?_⟩
        · have e1 := (k2 s hs).1
          have e2 := (k2 s hs).2.1
          rw [c8 s hs] at e1
          exact ⟨e1, e2⟩
        · intro z u x w a h1 h2 h3
          have hz := ok.2.2.2.2.2.1 _ _ _ _ h2
          have h5 := (key s hs z hz).mpr h1
          rw [c8 s hs] at hm
          omega
      refine pk_loop (σ := Int32 × (Nat → Int32) × (Nat → Int32) × (Nat → Int32)) (fun n i s => wX_planBack_43 post n (nI i) (nI nl) (nI nt) s.1 a1 a2 a3 a4 a5 a6 s.2.1 s.2.2.1 s.2.2.2)
        (fun i s => bw_I (tt_R nl nt a1 a2 a3 a4 a5) (tt_W a6) b t.toInt i s.1 s.2.2.1) 12 0 (m0, upd b7 b t, c8', a9) (by omega) hI0 ?_ ?_
      · rintro n ⟨m, d7, d8, d9⟩ hI
        exact pk_le 12 12 (fun _ => H m d7 d8 d9 hI.2.1) (fun z => absurd z (by omega))
      · rintro n i ⟨m, d7, d8, d9⟩ hi hI hw
        refine pk_le 12 i (fun z => absurd z (by omega)) (fun _ => br_c (fun g => ?_) (fun g => ?_))
        · obtain ⟨I1, I2, P, I3, I4⟩ := hI
          refine H m d7 d8 d9 (fun s hs x hx => ?_)
          rw [I2 s hs x hx]
          exact ⟨jn_Kle (by omega), jn_stopK ok (fun s hs => I4 s hs (mk_ok_0 I3 g hs))⟩
        · refine bw_p59 T hI (fun m' e7 e8 e9 hI' => ?_)
          rw [nI_1]
          exact hw (m', e7, e8, e9) hI'
  · rintro n i ⟨b7, b8⟩ hi hq hw
    dsimp only at hq ⊢
    refine pk_le 8 i (fun z => absurd z (by omega)) (fun _ => ⟨pk_in i 8 hi, ?_⟩)
    rw [nI_clamp (show i < 2 ^ 31 by omega)]
    refine nm_e ⟨pk_in i 8 hi, nm_e (nm_r (nI_1 i) (hw (upd b7 i (-1000000), upd b8 i (-1000000)) (fun j hj => ?_)))⟩
    dsimp only
    by_cases e : j = i
    · rw [e, pk_us, pk_us]
      exact ⟨rfl, rfl⟩
    · rw [pk_un e, pk_un e]
      exact hq j (by omega)
end
end
section
section
variable {f0 f1 f2 : Int32} {a1 a2 a3 a4 a5 a6 a7 a8 a9 : Nat → Int32}
theorem qu_bs {post : Int32 → Prop} {a : Nat} (ha : a < 8) (H : post 0) : wpX_badStop post () (nI a) :=
  br_f (nI_pos (by omega)) (br_t (nI_lt (b := 8) ha (by omega)) H)
theorem qu_bt {post : Int32 → Prop} {t : Int32} (ht : 0 ≤ t.toInt) (ht2 : t.toInt ≤ 1000) (H : post 0) : wpX_badTime post () t :=
  br_f (by rw [nu_lt, nu_0]; omega) (br_t (by rw [nu_le, show (1000 : Int32).toInt = 1000 from by decide]; exact ht2) H)
theorem qu_ref {post : Int32 → Prop} {a b : Nat} {t : Int32} (ha : a < 8) (hb : b < 8) (ht : 0 ≤ t.toInt) (ht2 : t.toInt ≤ 1000) (H : post 0) :
    wpX_refusal post (f0, f1, f2, a1, a2, a3, a4, a5, a6, a7, a8, a9) (nI a) (nI b) t := by
  unfold wpX_refusal
  exact qu_bs ha (br_t rfl (qu_bs hb (br_t rfl (qu_bt ht ht2 (br_t rfl H)))))
/-- the answer: the least arrival, or -5 -/
def qu_A (R : Nat → Int → Nat → Int → Prop) (W : Nat → Nat → Int → Prop) (a : Nat) (t : Int) (k b : Nat) (r : Int32) : Prop :=
  (r = -5 ∧ ∀ y, y < 1000000 → ¬ jn_J R W a t k b y) ∨ (0 ≤ r.toInt ∧ r.toInt < 1000000 ∧ ∀ y, y < 1000000 → (r.toInt ≤ y ↔ jn_J R W a t k b y))
theorem qu_m5 : (-5 : Int32).toInt = -5 := by decide
theorem qu_arr {post : Int32 → Prop} {R : Nat → Int → Nat → Int → Prop} {W : Nat → Nat → Int → Prop} {a b k : Nat} {t : Int} (hb : b < 8) (h1 : ∀ s, s < 8 → 0 ≤ (a8 s).toInt ∧ (a8 s).toInt ≤ 1000000) (h2 : ∀ s, s < 8 → ∀ y, y < 1000000 → ((a8 s).toInt ≤ y ↔ jn_J R W a t k s y))
    (H : ∀ r, qu_A R W a t k b r → post r) : wpX_arrivalAt post (f0, f1, f2, a1, a2, a3, a4, a5, a6, a7, a8, a9) (nI b) := by
  unfold wpX_arrivalAt
  refine ⟨pk_in b 8 hb, ?_⟩
  rw [nI_clamp (show b < 2 ^ 31 by omega)]
  refine br_c (fun g => ⟨pk_in b 8 hb, H _ (Or.inr ⟨(h1 b hb).1, ?_, h2 b hb⟩)⟩) (fun g => H _ (Or.inl ⟨rfl, fun y hy hJ => ?_⟩))
  · rw [nu_lt, nu_far] at g
    exact g
  · rw [nu_lt, nu_far] at g
    have := (h2 b hb y hy).mpr hJ
    omega
section
variable {R : Nat → Int → Nat → Int → Prop} {W : Nat → Nat → Int → Prop} {a b k k' : Nat} {t : Int} {r r' : Int32}
theorem qu_A_pos (h : qu_A R W a t k b r) (hr : ¬ r < 0) : 0 ≤ r.toInt ∧ r.toInt < 1000000 ∧ ∀ y, y < 1000000 → (r.toInt ≤ y ↔ jn_J R W a t k b y) := by
  rcases h with ⟨e, _⟩ | h
  · exact absurd (show r < 0 by rw [e]; decide) hr
  · exact h
theorem qu_A_J (h : qu_A R W a t k b r) (hr : ¬ r < 0) : jn_J R W a t k b r.toInt := by
  obtain ⟨h1, h2, h3⟩ := qu_A_pos h hr
  exact (h3 _ h2).mp (Int.le_refl _)
/-- some arrival by y: the answer is one, by y -/
theorem qu_A_le (h : qu_A R W a t k b r) {y : Int} (hy : y < 1000000) (hJ : jn_J R W a t k b y) : ¬ r < 0 ∧ 0 ≤ r.toInt ∧ r.toInt ≤ y := by
  rcases h with ⟨_, h⟩ | ⟨h1, h2, h3⟩
  · exact absurd hJ (h y hy)
  · exact ⟨by rw [nu_lt, nu_0]; omega, h1, (h3 y hy).mpr hJ⟩
theorem qu_A_neg (h : qu_A R W a t k b r) (hr : r < 0) {y : Int} (hy : y < 1000000) : ¬ jn_J R W a t k b y := by
  intro hJ
  exact (qu_A_le h hy hJ).1 hr
theorem qu_A_m5 (h : qu_A R W a t k b r) (hr : r < 0) : r = -5 := by
  rcases h with ⟨e, _⟩ | ⟨h1, _⟩
  · exact e
  · rw [nu_lt, nu_0] at hr
    omega
theorem qu_A_lt (h : qu_A R W a t k b r) (hr : ¬ r < 0) : r.toInt < 1000000 := (qu_A_pos h hr).2.1
theorem qu_A_uq (h : qu_A R W a t k b r) (h' : qu_A R W a t k b r') : r' = r := by
  by_cases g : r < 0
  · by_cases g' : r' < 0
    · rw [qu_A_m5 h g, qu_A_m5 h' g']
    · exact absurd (qu_A_J h' g') (qu_A_neg h g (qu_A_lt h' g'))
  · obtain ⟨e1, e2, e3⟩ := qu_A_le h' (qu_A_lt h g) (qu_A_J h g)
    obtain ⟨_, _, e4⟩ := qu_A_le h (qu_A_lt h' e1) (qu_A_J h' e1)
    rw [nu_eq]
    omega
end
theorem qu_earliest {post : Int32 → St1 → Prop} {nl nt a b : Nat} {t : Int32} (T : tt_ok nl nt a1 a2 a3 a5 a6) (ha : a < 8) (hb : b < 8) (ht : 0 ≤ t.toInt) (ht2 : t.toInt ≤ 1000)
    (H : ∀ (r m : Int32) (b7 b8 b9 : Nat → Int32), qu_A (tt_R nl nt a1 a2 a3 a4 a5) (tt_W a6) a t.toInt 12 b r → post r (nI nl, nI nt, m, a1, a2, a3, a4, a5, a6, b7, b8, b9)) :
    wpX_earliest post (nI nl, nI nt, f2, a1, a2, a3, a4, a5, a6, a7, a8, a9) (nI a) (nI b) t := by
  unfold wpX_earliest
  refine qu_ref ha hb ht ht2 (br_t rfl (fw_plan (c := 12) T ha ht ht2 (by omega) (fun m b7 b8 b9 h1 h2 => ?_)))
  exact qu_arr hb h1 h2 (fun r hr => H r m b7 b8 b9 hr)
theorem qu_e47 {post : Int32 → St1 → Prop} {nl nt a b c : Nat} {t : Int32} (T : tt_ok nl nt a1 a2 a3 a5 a6) (ha : a < 8) (hb : b < 8) (ht : 0 ≤ t.toInt) (ht2 : t.toInt ≤ 1000) (hc : c ≤ 12)
    (H : ∀ (r m : Int32) (b7 b8 b9 : Nat → Int32), qu_A (tt_R nl nt a1 a2 a3 a4 a5) (tt_W a6) a t.toInt c b r → post r (nI nl, nI nt, m, a1, a2, a3, a4, a5, a6, b7, b8, b9)) :
    wX_earliestWith_47 post (nI b) (nI c) t (nI a) (nI nl) (nI nt) f2 a1 a2 a3 a4 a5 a6 a7 a8 a9 := by
  unfold wX_earliestWith_47
  refine fw_plan (c := c) T ha ht ht2 hc (fun m b7 b8 b9 h1 h2 => ?_)
  exact qu_arr hb h1 h2 (fun r hr => H r m b7 b8 b9 hr)
/-- p rides are asked for, c are taken -/
def qu_P (p : Int32) (c : Nat) : Prop := c ≤ 12 ∧ ((0 ≤ p ∧ ((p ≤ 12 ∧ p = nI c) ∨ (¬ p ≤ 12 ∧ c = 12))) ∨ (¬ 0 ≤ p ∧ c = 0))
theorem qu_with {post : Int32 → St1 → Prop} {nl nt a b c : Nat} {t p : Int32} (T : tt_ok nl nt a1 a2 a3 a5 a6) (ha : a < 8) (hb : b < 8) (ht : 0 ≤ t.toInt) (ht2 : t.toInt ≤ 1000) (hp : qu_P p c)
    (H : ∀ (r m : Int32) (b7 b8 b9 : Nat → Int32), qu_A (tt_R nl nt a1 a2 a3 a4 a5) (tt_W a6) a t.toInt c b r → post r (nI nl, nI nt, m, a1, a2, a3, a4, a5, a6, b7, b8, b9)) :
    wpX_earliestWith post (nI nl, nI nt, f2, a1, a2, a3, a4, a5, a6, a7, a8, a9) (nI a) (nI b) t p := by
  obtain ⟨hc, hp⟩ := hp
  unfold wpX_earliestWith
  refine qu_ref ha hb ht ht2 (br_t rfl ?_)
  rcases hp with ⟨p1, ⟨p2, p3⟩ | ⟨p2, p3⟩⟩ | ⟨p1, p2⟩
  · refine br_t p1 ?_
    unfold wX_earliestWith_28
    refine br_t p2 ?_
    rw [p3]
    exact qu_e47 T ha hb ht ht2 hc H
  · refine br_t p1 ?_
    unfold wX_earliestWith_28
    refine br_f p2 ?_
    subst p3
    exact qu_e47 (c := 12) T ha hb ht ht2 hc H
  · refine br_f p1 ?_
    unfold wX_earliestWith_28
    refine br_t (by decide) ?_
    subst p2
    exact qu_e47 (c := 0) T ha hb ht ht2 hc H
/-- the last round that made b better -/
def qu_L (R : Nat → Int → Nat → Int → Prop) (W : Nat → Nat → Int → Prop) (a : Nat) (t : Int) (b i : Nat) (b8 : Nat → Int32) (last : Int32) : Prop :=
  ((b8 b).toInt = 1000000 ∧ last = -5) ∨ ((b8 b).toInt < 1000000 ∧ 0 ≤ last.toInt ∧ last.toInt ≤ i ∧ ∀ j : Nat, j ≤ i → (last.toInt ≤ j ↔ ∀ y, y < 1000000 → jn_J R W a t i b y → jn_J R W a t j b y))
theorem qu_L_end {R : Nat → Int → Nat → Int → Prop} {W : Nat → Nat → Int → Prop} {a b i : Nat} {t : Int} {b8 : Nat → Int32} {last : Int32} (h : qu_L R W a t b i b8 last) (hi : i ≤ 12) (h8 : ∀ y, y < 1000000 → ((b8 b).toInt ≤ y ↔ jn_J R W a t i b y))
    (hS : ∀ y, jn_J R W a t 12 b y → jn_J R W a t i b y) : ∀ k : Nat, k ≤ 12 → (∃ y, y < 1000000 ∧ jn_J R W a t 12 b y) → (last.toInt ≤ k ↔ ∀ y, y < 1000000 → jn_J R W a t 12 b y → jn_J R W a t k b y) := by
  rintro k hk ⟨y0, hy0, hJ0⟩
  rcases h with ⟨h1, _⟩ | ⟨h1, h2, h3, h4⟩
  · have := (h8 y0 hy0).mpr (hS y0 hJ0)
    omega
  · rcases Nat.lt_or_ge i k with q | q
    · exact ⟨fun _ y hy hJ => jn_Jle (by omega) (hS y hJ), fun _ => by omega⟩
    · rw [h4 k q]
      exact ⟨fun h y hy hJ => h y hy (hS y hJ), fun h y hy hJ => h y hy (jn_Jle hi hJ)⟩
theorem qu_L_step {R : Nat → Int → Nat → Int → Prop} {W : Nat → Nat → Int → Prop} {a b i : Nat} {t : Int} {b8 c8 : Nat → Int32} {last : Int32} (h : qu_L R W a t b i b8 last) (hi : i < 12) (h8 : ∀ y, y < 1000000 → ((b8 b).toInt ≤ y ↔ jn_J R W a t i b y)) (hc : (c8 b).toInt ≤ 1000000)
    (h8' : ∀ y, y < 1000000 → ((c8 b).toInt ≤ y ↔ jn_J R W a t (i + 1) b y)) :
    ((b8 b).toInt ≤ (c8 b).toInt → qu_L R W a t b (i + 1) c8 last) ∧ ((c8 b).toInt < (b8 b).toInt → qu_L R W a t b (i + 1) c8 (nI (i + 1))) := by
  constructor
  · intro g
    have hJ : ∀ y, y < 1000000 → jn_J R W a t (i + 1) b y → jn_J R W a t i b y := fun y hy hJ => (h8 y hy).mp (by have := (h8' y hy).mpr hJ; omega)
    rcases h with ⟨h1, h2⟩ | ⟨h1, h2, h3, h4⟩
    · exact Or.inl ⟨by omega, h2⟩
    · have e : (c8 b).toInt ≤ (b8 b).toInt := (h8' _ h1).mpr (jn_Js ((h8 _ h1).mp (Int.le_refl _)))
      refine Or.inr ⟨by omega, h2, by omega, fun j hj => ?_⟩
      rcases Nat.lt_or_ge i j with q | q
      · have ej : j = i + 1 := by omega
        subst ej
        exact ⟨fun _ y hy hJ => hJ, fun _ => by omega⟩
      · rw [h4 j q]
        exact ⟨fun h y hy hJ' => h y hy (hJ y hy hJ'), fun h y hy hJ' => h y hy (jn_Js hJ')⟩
  · intro g
    have hb : (b8 b).toInt ≤ 1000000 := by
      rcases h with ⟨h1, h2⟩ | ⟨h1, h2, h3, h4⟩ <;> omega
    have hc' : (c8 b).toInt < 1000000 := by omega
    refine Or.inr ⟨hc', ?_, ?_, fun j hj => ?_⟩
    · rw [nI_toInt (by omega)]; omega
    · rw [nI_toInt (by omega)]; omega
    · rw [nI_toInt (by omega)]
      constructor
      · intro q y hy hJ
        have ej : j = i + 1 := by omega
        subst ej
        exact hJ
      · intro h
        rcases Nat.lt_or_ge i j with q | q
        · omega
        · have := (h8 _ hc').mpr (jn_Jle q (h _ hc' ((h8' _ hc').mp (Int.le_refl _))))
          omega
theorem qu_rides {post : Int32 → St1 → Prop} {nl nt a b : Nat} {t : Int32} (T : tt_ok nl nt a1 a2 a3 a5 a6) (ha : a < 8) (hb : b < 8) (ht : 0 ≤ t.toInt) (ht2 : t.toInt ≤ 1000)
    (H : ∀ (r m : Int32) (b7 b8 b9 : Nat → Int32), (∀ k : Nat, k ≤ 12 → (∃ y, y < 1000000 ∧ jn_J (tt_R nl nt a1 a2 a3 a4 a5) (tt_W a6) a t.toInt 12 b y) → (r.toInt ≤ k ↔ ∀ y, y < 1000000 → jn_J (tt_R nl nt a1 a2 a3 a4 a5) (tt_W a6) a t.toInt 12 b y → jn_J (tt_R nl nt a1 a2 a3 a4 a5) (tt_W a6) a t.toInt k b y)) → post r (nI nl, nI nt, m, a1, a2, a3, a4, a5, a6, b7, b8, b9)) :
    wpX_rides post (nI nl, nI nt, f2, a1, a2, a3, a4, a5, a6, a7, a8, a9) (nI a) (nI b) t := by
  have ok : jn_ok (tt_R nl nt a1 a2 a3 a4 a5) (tt_W a6) := tt_jn T
  unfold wpX_rides
  refine qu_ref ha hb ht ht2 (br_t rfl (fw_begin T ha ht ht2 (fun m0 b70 b80 hI0 => ⟨pk_in b 8 hb, ?_⟩)))
  rw [nI_clamp (show b < 2 ^ 31 by omega)]
  have main : ∀ last0 : Int32, qu_L (tt_R nl nt a1 a2 a3 a4 a5) (tt_W a6) a t.toInt b 0 b80 last0 → ∃ n, wX_rides_45 post (nI b) n last0 (nI (0 + 1)) (nI nl) (nI nt) m0 a1 a2 a3 a4 a5 a6 b70 b80 a9 := by
    intro last0 hL0
    refine pk_loop (σ := Int32 × Int32 × (Nat → Int32) × (Nat → Int32) × (Nat → Int32)) (fun n i s => wX_rides_45 post (nI b) n s.1 (nI (i + 1)) (nI nl) (nI nt) s.2.1 a1 a2 a3 a4 a5 a6 s.2.2.1 s.2.2.2.1 s.2.2.2.2)
      (fun i s => fw_I (tt_R nl nt a1 a2 a3 a4 a5) (tt_W a6) a t.toInt i s.2.1 s.2.2.2.1 ∧ qu_L (tt_R nl nt a1 a2 a3 a4 a5) (tt_W a6) a t.toInt b i s.2.2.2.1 s.1) 12 0 (last0, m0, b70, b80, a9) (by omega) ⟨hI0, hL0⟩ ?_ ?_
    · rintro n ⟨last, m, b7, b8, b9⟩ ⟨hI, hL⟩
      exact pk_lt 12 13 (fun _ => H last m b7 b8 b9 (qu_L_end hL (Nat.le_refl _) (hI.2.1 b hb) (fun y h => h))) (fun z => absurd z (by omega))
    · rintro n i ⟨last, m, b7, b8, b9⟩ hi ⟨hI, hL⟩ hw
      dsimp only at hI hL ⊢
      refine pk_lt 12 (i + 1) (fun z => absurd z (by omega)) (fun _ => br_c (fun g => ?_) (fun g => ⟨pk_in b 8 hb, ?_⟩))
      · obtain ⟨I1, I2, P, I3, I4⟩ := hI
        exact H last m b7 b8 b9 (qu_L_end hL (by omega) (I2 b hb) (fun y h => jn_stop ok (fun s hs => I4 s hs (mk_ok_0 I3 g hs)) h))
      · rw [nI_clamp (show b < 2 ^ 31 by omega)]
        refine nm_e (fw_nextRound T hI (fun m' c7 c8 c9 hI' => ⟨pk_in b 8 hb, ?_⟩))
        have st := qu_L_step hL hi (hI.2.1 b hb) (hI'.1 b hb).2 (hI'.2.1 b hb)
        refine br_c (fun g2 => nm_r (nI_1 (i + 1)) (hw (last, m', c7, c8, c9) ⟨hI', st.1 (nu_le.mp g2)⟩)) (fun g2 => nm_r (nI_1 (i + 1)) (hw (nI (i + 1), m', c7, c8, c9) ⟨hI', st.2 ?_⟩))
        rw [nu_le] at g2
        omega
  have h1 := hI0.1 b hb
  refine br_c (fun g => main (-5) (Or.inl ⟨?_, rfl⟩)) (fun g => main 0 (Or.inr ⟨?_, ?_, ?_, fun j hj => ?_⟩))
  · rw [nu_le, nu_far] at g
    omega
  · rw [nu_le, nu_far] at g
    omega
  · rw [nu_0]; omega
  · rw [nu_0]; omega
  · have ej : j = 0 := by omega
    subst ej
    rw [nu_0]
    exact ⟨fun _ y hy h => h, fun _ => by omega⟩
theorem qu_latest {post : Int32 → St1 → Prop} {nl nt a b : Nat} {t : Int32} (T : tt_ok nl nt a1 a2 a3 a5 a6) (ha : a < 8) (hb : b < 8) (ht : 0 ≤ t.toInt) (ht2 : t.toInt ≤ 1000)
    (H : ∀ (r m : Int32) (b7 b8 b9 : Nat → Int32), ((r = -5 ∧ ¬ jn_J (tt_R nl nt a1 a2 a3 a4 a5) (tt_W a6) a 0 12 b t.toInt) ∨ (0 ≤ r.toInt ∧ r.toInt ≤ t.toInt ∧ jn_J (tt_R nl nt a1 a2 a3 a4 a5) (tt_W a6) a r.toInt 12 b t.toInt ∧ ¬ jn_J (tt_R nl nt a1 a2 a3 a4 a5) (tt_W a6) a (r.toInt + 1) 12 b t.toInt)) → post r (nI nl, nI nt, m, a1, a2, a3, a4, a5, a6, b7, b8, b9)) :
    wpX_latest post (nI nl, nI nt, f2, a1, a2, a3, a4, a5, a6, a7, a8, a9) (nI a) (nI b) t := by
  have ok : jn_ok (tt_R nl nt a1 a2 a3 a4 a5) (tt_W a6) := tt_jn T
  unfold wpX_latest
  refine qu_ref ha hb ht ht2 (br_t rfl (bw_planBack T hb ht ht2 (fun m b7 b8 b9 hK => ⟨pk_in a 8 ha, ?_⟩)))
  rw [nI_clamp (show a < 2 ^ 31 by omega)]
  have hJ : ∀ x, -1000000 < x → (x ≤ (b8 a).toInt ↔ jn_J (tt_R nl nt a1 a2 a3 a4 a5) (tt_W a6) a x 12 b t.toInt) := fun x hx => (hK a ha x hx).trans ⟨jn_KJ, jn_JK ok⟩
  refine br_c (fun g => ⟨pk_in a 8 ha, ?_⟩) (fun g => H _ m b7 b8 b9 (Or.inl ⟨rfl, fun h => ?_⟩))
  · rw [nu_le, nu_0] at g
    have g1 := (hJ _ (by omega)).mp (Int.le_refl _)
    have g2 := (jn_ge ok g1).1
    refine br_t (by rw [nu_le, show (1000 : Int32).toInt = 1000 from by decide]; omega) ⟨pk_in a 8 ha, H _ m b7 b8 b9 (Or.inr ⟨g, g2, g1, fun h => ?_⟩)⟩
    have := (hJ _ (by omega)).mpr h
    omega
  · rw [nu_le, nu_0] at g
    have := (hJ 0 (by omega)).mpr h
    omega
end
end
section
section
variable {f0 f1 f2 : Int32} {a1 a2 a3 a4 a5 a6 a7 a8 a9 : Nat → Int32}
theorem hd_P (k : Nat) (hk : k ≤ 12) : qu_P (nI k) k :=
  ⟨hk, Or.inl ⟨nI_pos' (by omega), Or.inl ⟨nI_le (b := 12) hk (by omega), rfl⟩⟩⟩
theorem hd_282 {post : Int32 → St1 → Prop} {x3 x8 x9 z0 : Int32} (h1 : x8.toInt ≤ x3.toInt) (h2 : ¬ x9 < 0) (h3 : x9.toInt ≤ x3.toInt) (h4 : ¬ z0 < 0 → x3.toInt < z0.toInt)
    (H : post 1 (f0, f1, f2, a1, a2, a3, a4, a5, a6, a7, a8, a9)) : wL_holds_282 post x3 x8 x9 z0 f0 f1 f2 a1 a2 a3 a4 a5 a6 a7 a8 a9 := by
  unfold wL_holds_282
  exact br_f (by rw [nu_lt]; omega) (br_f h2 (br_f (by rw [nu_lt]; omega) (br_c (fun _ => H) (fun g => br_f (by rw [nu_le]; have := h4 g; omega) H))))
/-- the last part: the latest start -/
theorem hd_tail {post : Int32 → St1 → Prop} {nl nt a b n : Nat} {t e r x6 : Int32} (T : tt_ok nl nt a1 a2 a3 a5 a6) (ha : a < 8) (hb : b < 8) (ht : 0 ≤ t.toInt) (ht2 : t.toInt ≤ 900)
    (H : ∀ (m : Int32) (b7 b8 b9 : Nat → Int32), post 1 (nI nl, nI nt, m, a1, a2, a3, a4, a5, a6, b7, b8, b9)) :
    wL_holds_137 post (nI a) (nI b) t e r (n + 1) x6 (nI 6) (nI nl) (nI nt) f2 a1 a2 a3 a4 a5 a6 a7 a8 a9 := by
  refine pk_le 6 6 (fun _ => ?_) (fun z => absurd z (by omega))
  refine qu_latest T ha hb ht (by omega) (fun l m b7 b8 b9 hl => br_c (fun g => ?_) (fun g => ?_))
  · refine qu_earliest T ha hb (by rw [nu_0]; omega) (by rw [nu_0]; omega) (fun r2 m2 c7 c8 c9 h2 => ?_)
    rcases hl with ⟨e1, e2⟩ | ⟨e1, _⟩
    · refine br_t e1 (br_c (fun _ => H _ _ _ _) (fun g2 => br_f (fun g3 => e2 ?_) (H _ _ _ _)))
      have := qu_A_J h2 g2
      rw [nu_0] at this
      exact jn_Jy (nu_le.mp g3) this
    · rw [nu_lt, nu_0] at g
      omega
  · rcases hl with ⟨e1, e2⟩ | ⟨e1, e2, e3, e4⟩
    · exact absurd (show l < 0 by rw [e1]; decide) g
    · have kl : (l + 1).toInt = l.toInt + 1 := nu_add (by omega) (by omega) (by decide) (by decide)
      refine qu_earliest T ha hb e1 (by omega) (fun r2 m2 c7 c8 c9 h2 => br_f ?_ ?_)
      · rw [nu_eq, show (1000 : Int32).toInt = 1000 from by decide]
        omega
      · have q := qu_A_le h2 (by omega) e3
        refine qu_earliest T ha hb (by omega) (by omega) (fun r3 m3 d7 d8 d9 h3 => hd_282 e2 q.1 q.2.2 (fun g3 => ?_) (H _ _ _ _))
        have q3 := qu_A_J h3 g3
        rw [kl] at q3
        rcases Int.lt_or_le t.toInt r3.toInt with z | z
        · exact z
        · exact absurd (jn_Jy z q3) e4
/-- the rounds one by one -/
theorem hd_137 {post : Int32 → St1 → Prop} {nl nt a b : Nat} {t e r last : Int32} (T : tt_ok nl nt a1 a2 a3 a5 a6) (ha : a < 8) (hb : b < 8) (ht : 0 ≤ t.toInt) (ht2 : t.toInt ≤ 900)
    (he : qu_A (tt_R nl nt a1 a2 a3 a4 a5) (tt_W a6) a t.toInt 12 b e) (hl : qu_A (tt_R nl nt a1 a2 a3 a4 a5) (tt_W a6) a t.toInt 0 b last)
    (hr : ∀ k : Nat, k ≤ 12 → (∃ y, y < 1000000 ∧ jn_J (tt_R nl nt a1 a2 a3 a4 a5) (tt_W a6) a t.toInt 12 b y) → (r.toInt ≤ k ↔ ∀ y, y < 1000000 → jn_J (tt_R nl nt a1 a2 a3 a4 a5) (tt_W a6) a t.toInt 12 b y → jn_J (tt_R nl nt a1 a2 a3 a4 a5) (tt_W a6) a t.toInt k b y))
    (H : ∀ (m : Int32) (b7 b8 b9 : Nat → Int32), post 1 (nI nl, nI nt, m, a1, a2, a3, a4, a5, a6, b7, b8, b9)) :
    ∃ n, wL_holds_137 post (nI a) (nI b) t e r n last 0 (nI nl) (nI nt) f2 a1 a2 a3 a4 a5 a6 a7 a8 a9 := by
  refine pk_loop (σ := Int32 × Int32 × (Nat → Int32) × (Nat → Int32) × (Nat → Int32)) (fun n i s => wL_holds_137 post (nI a) (nI b) t e r n s.1 (nI i) (nI nl) (nI nt) s.2.1 a1 a2 a3 a4 a5 a6 s.2.2.1 s.2.2.2.1 s.2.2.2.2)
    (fun i s => qu_A (tt_R nl nt a1 a2 a3 a4 a5) (tt_W a6) a t.toInt (i - 1) b s.1) 6 0 (last, f2, a7, a8, a9) (by omega) hl ?_ ?_
  · rintro n ⟨x6, m, b7, b8, b9⟩ _
    exact hd_tail T ha hb ht ht2 H
  · rintro n k ⟨x6, m, b7, b8, b9⟩ hk hI hw
    dsimp only at hI ⊢
    refine pk_le 6 k (fun z => absurd z (by omega)) (fun _ => ?_)
    refine qu_with T ha hb ht (by omega) (hd_P k (by omega)) (fun now m' c7 c8 c9 hn => ?_)
    have next : wL_holds_137 post (nI a) (nI b) t e r n now (nI k + 1) (nI nl) (nI nt) m' a1 a2 a3 a4 a5 a6 c7 c8 c9 := by
      rw [nI_1]
      exact hw (now, m', c7, c8, c9) hn
    have up : ∀ y, jn_J (tt_R nl nt a1 a2 a3 a4 a5) (tt_W a6) a t.toInt k b y → jn_J (tt_R nl nt a1 a2 a3 a4 a5) (tt_W a6) a t.toInt 12 b y := fun y h => jn_Jle (by omega) h
    have h191 : wL_holds_191 post (wL_holds_137 post (nI a) (nI b) t e r n) (nI a) (nI b) t e r (nI k) now (nI nl) (nI nt) m' a1 a2 a3 a4 a5 a6 c7 c8 c9 := by
      unfold wL_holds_191
      refine br_c (fun _ => nm_e next) (fun ge => ?_)
      have hJe := qu_A_J he ge
      have hle := qu_A_lt he ge
      have hre := hr k (by omega) ⟨_, hle, hJe⟩
      have hne : now = e ↔ r.toInt ≤ k := by
        rw [hre]
        constructor
        · intro q y hy hJ
          rw [q] at hn
          exact ((qu_A_pos hn ge).2.2 y hy).mp (((qu_A_pos he ge).2.2 y hy).mpr hJ)
        · intro q
          obtain ⟨q1, q2, q3⟩ := qu_A_le hn hle (q _ hle hJe)
          obtain ⟨_, _, q4⟩ := qu_A_le he (qu_A_lt hn q1) (up _ (qu_A_J hn q1))
          rw [nu_eq]
          omega
      refine br_c (fun g => ?_) (fun g => ?_)
      · rw [nu_lt, nI_toInt (by omega)] at g
        unfold wL_holds_208
        refine br_f (fun q => ?_) ?_
        · have := hne.mp q
          omega
        · unfold wL_holds_220
          exact br_t rfl (nm_e next)
      · rw [nu_lt, nI_toInt (by omega)] at g
        unfold wL_holds_208
        refine br_t (hne.mpr (by omega)) ?_
        unfold wL_holds_220
        exact br_t rfl (nm_e next)
    have h172 : wL_holds_172 post (wL_holds_137 post (nI a) (nI b) t e r n) (nI a) (nI b) t e r (nI k) now (nI nl) (nI nt) m' a1 a2 a3 a4 a5 a6 c7 c8 c9 := by
      unfold wL_holds_172
      refine br_c (fun _ => h191) (fun g => ?_)
      obtain ⟨q1, q2, q3⟩ := qu_A_le he (qu_A_lt hn g) (up _ (qu_A_J hn g))
      exact br_f q1 (br_t (nu_le.mpr q3) h191)
    refine br_c (fun _ => h172) (fun g => ?_)
    obtain ⟨q1, q2, q3⟩ := qu_A_le hn (qu_A_lt hI g) (jn_Jle (by omega) (qu_A_J hI g))
    exact br_f q1 (br_f (by rw [nu_lt]; omega) h172)
theorem hd_115 {post : Int32 → St1 → Prop} {nl nt a b : Nat} {t e : Int32} (T : tt_ok nl nt a1 a2 a3 a5 a6) (ha : a < 8) (hb : b < 8) (ht : 0 ≤ t.toInt) (ht2 : t.toInt ≤ 900)
    (he : qu_A (tt_R nl nt a1 a2 a3 a4 a5) (tt_W a6) a t.toInt 12 b e)
    (H : ∀ (m : Int32) (b7 b8 b9 : Nat → Int32), post 1 (nI nl, nI nt, m, a1, a2, a3, a4, a5, a6, b7, b8, b9)) :
    wL_holds_115 post (nI a) (nI b) t e (nI nl) (nI nt) f2 a1 a2 a3 a4 a5 a6 a7 a8 a9 := by
  unfold wL_holds_115
  refine qu_with (c := 0) T ha hb ht (by omega) ⟨by omega, Or.inr ⟨by decide, rfl⟩⟩ (fun last m b7 b8 b9 hl => ?_)
  exact qu_rides T ha hb ht (by omega) (fun r m' c7 c8 c9 hr => hd_137 T ha hb ht ht2 he hl hr H)
theorem hd_36 {post : Int32 → St1 → Prop} {nl nt a b : Nat} {t e : Int32} (T : tt_ok nl nt a1 a2 a3 a5 a6) (ha : a < 8) (hb : b < 8) (ht : 0 ≤ t.toInt) (ht2 : t.toInt ≤ 900)
    (he : qu_A (tt_R nl nt a1 a2 a3 a4 a5) (tt_W a6) a t.toInt 12 b e)
    (hs : ∀ r, qu_A (tt_R nl nt a1 a2 a3 a4 a5) (tt_W a6) a t.toInt 12 a r → r = t)
    (H : ∀ (m : Int32) (b7 b8 b9 : Nat → Int32), post 1 (nI nl, nI nt, m, a1, a2, a3, a4, a5, a6, b7, b8, b9)) :
    wL_holds_36 post (nI a) (nI b) t e (nI nl) (nI nt) f2 a1 a2 a3 a4 a5 a6 a7 a8 a9 := by
  unfold wL_holds_36
  refine qu_earliest T ha ha ht (by omega) (fun r1 m1 b7 b8 b9 h1 => br_t (hs r1 h1) ?_)
  refine qu_with (c := 12) T ha hb ht (by omega) ⟨by omega, Or.inl ⟨by decide, Or.inl ⟨by decide, rfl⟩⟩⟩ (fun r2 m2 c7 c8 c9 h2 => br_t (qu_A_uq he h2) ?_)
  refine qu_with (c := 12) T ha hb ht (by omega) ⟨by omega, Or.inl ⟨by decide, Or.inr ⟨by decide, rfl⟩⟩⟩ (fun r3 m3 d7 d8 d9 h3 => br_t (qu_A_uq he h3) ?_)
  have kt : (t + 1).toInt = t.toInt + 1 := nu_add (by omega) (by omega) (by decide) (by decide)
  refine qu_earliest T ha hb (by omega) (by omega) (fun r4 m4 e7 e8 e9 h4 => ?_)
  have h115 : wL_holds_115 post (nI a) (nI b) t e (nI nl) (nI nt) m4 a1 a2 a3 a4 a5 a6 e7 e8 e9 := hd_115 T ha hb ht ht2 he H
  rw [kt] at h4
  refine br_c (fun g => br_c (fun _ => h115) (fun g2 => ?_)) (fun g => br_c (fun _ => h115) (fun g2 => ?_))
  · obtain ⟨q1, q2, q3⟩ := qu_A_le he (qu_A_lt h4 g2) (jn_Jx (by omega) (qu_A_J h4 g2))
    exact br_t (nu_le.mpr q3) h115
  · obtain ⟨q1, q2, q3⟩ := qu_A_le he (qu_A_lt h4 g2) (jn_Jx (by omega) (qu_A_J h4 g2))
    rw [nu_le, nu_0] at g
    omega
theorem hd_holds {post : Int32 → St1 → Prop} {nl nt a b : Nat} {t : Int32} (T : tt_ok nl nt a1 a2 a3 a5 a6) (ha : a < 8) (hb : b < 8) (ht : 0 ≤ t.toInt) (ht2 : t.toInt ≤ 900)
    (H : ∀ (m : Int32) (b7 b8 b9 : Nat → Int32), post 1 (nI nl, nI nt, m, a1, a2, a3, a4, a5, a6, b7, b8, b9)) :
    wpL_holds post (nI nl, nI nt, f2, a1, a2, a3, a4, a5, a6, a7, a8, a9) (nI a) (nI b) t := by
  have ok : jn_ok (tt_R nl nt a1 a2 a3 a4 a5) (tt_W a6) := tt_jn T
  have hs : ∀ r, qu_A (tt_R nl nt a1 a2 a3 a4 a5) (tt_W a6) a t.toInt 12 a r → r = t := by
    intro r hr
    obtain ⟨q1, q2, q3⟩ := qu_A_le hr (y := t.toInt) (by omega) (jn_refl ok ha (Int.le_refl _))
    have := (jn_ge ok (qu_A_J hr q1)).1
    rw [nu_eq]
    omega
  unfold wpL_holds
  refine qu_earliest T ha hb ht (by omega) (fun e m b7 b8 b9 he => ?_)
  have h36 : wL_holds_36 post (nI a) (nI b) t e (nI nl) (nI nt) m a1 a2 a3 a4 a5 a6 b7 b8 b9 := hd_36 T ha hb ht ht2 he hs H
  refine pk_eq a b (fun q => ?_) (fun q => br_c (fun _ => h36) (fun g => br_t ?_ h36))
  · subst q
    exact br_t (hs e he) h36
  · rw [nu_lt]
    exact (jn_ge ok (qu_A_J he g)).2 q
end
end
section
section
variable {f0 f1 f2 : Int32} {a1 a2 a3 a4 a5 a6 a7 a8 a9 b1 b2 b3 b5 b6 : Nat → Int32}
theorem ed_cong {l : Nat} (h1 : b1 l = a1 l) (h2 : ∀ i, i < 6 → b2 (l * 6 + i) = a2 (l * 6 + i)) (h3 : ∀ i, i < 6 → b3 (l * 6 + i) = a3 (l * 6 + i)) (T : tt_ln a1 a2 a3 l) : tt_ln b1 b2 b3 l := by
  obtain ⟨T1, T2, T3, T4, T5⟩ := T
  have e1 : tt_sz b1 l = tt_sz a1 l := by unfold tt_sz; rw [h1]
  have e2 : ∀ i, i < 6 → tt_st b2 l i = tt_st a2 l i := fun i hi => by unfold tt_st; rw [h2 i hi]
  have e3 : ∀ i, i < 6 → tt_of b3 l i = tt_of a3 l i := fun i hi => by unfold tt_of; rw [h3 i hi]
  refine ⟨by omega, by omega, by rw [e1, h1]; exact T3, fun i hi => ?_, fun i j hij hj => ?_⟩
  · rw [e1] at hi
    rw [e2 i (by omega), e3 i (by omega), h2 i (by omega)]
    exact T4 i hi
  · rw [e1] at hj
    rw [e3 i (by omega), e3 j (by omega)]
    exact T5 i j hij hj
theorem ed_bl {post : Int32 → Prop} {nl l : Nat} (hl : l < nl) (hn : nl ≤ 5) (H : post 0) : wpX_badLine post (nI nl, f1, f2, a1, a2, a3, a4, a5, a6, a7, a8, a9) (nI l) := by
  unfold wpX_badLine
  exact br_f (nI_pos (by omega)) (br_t (nI_lt hl (by omega)) H)
theorem ed_line {post : Int32 → St1 → Prop} {nl nt s : Nat} (T : tt_ok nl nt a1 a2 a3 a5 a6) (hl : nl < 5) (hs : s < 8)
    (H : ∀ b1 b2 b3 : Nat → Int32, tt_ok (nl + 1) nt b1 b2 b3 a5 a6 → tt_sz b1 nl = 1 → post (nI nl) (nI (nl + 1), f1, f2, b1, b2, b3, a4, a5, a6, a7, a8, a9)) :
    wpX_line post (nI nl, f1, f2, a1, a2, a3, a4, a5, a6, a7, a8, a9) (nI s) := by
  have e6 : nI nl * 6 = nI (nl * 6) := by rw [show (6 : Int32) = nI 6 from rfl, pk_mul]
  obtain ⟨T1, T2, T3, T4, T5, T6⟩ := T
  unfold wpX_line
  refine qu_bs hs (br_t rfl (pk_lt nl 5 (fun _ => ⟨pk_in nl 5 hl, ?_⟩) (fun z => absurd z (by omega))))
  rw [e6, nI_clamp (show nl < 2 ^ 31 by omega), nI_clamp (show nl * 6 < 2 ^ 31 by omega)]
  refine nm_e ⟨pk_in (nl * 6) 30 (by omega), nm_e ⟨pk_in (nl * 6) 30 (by omega), nm_e (nm_r (nI_1 nl) ?_)⟩⟩
  rw [nI_pred]
  have hsz : tt_sz (upd a1 nl 1) nl = 1 := by
    unfold tt_sz
    rw [pk_us]
    rfl
  refine H _ _ _ ⟨by omega, T2, fun l hl' => ?_, T4, T5, T6⟩ hsz
  rcases Nat.lt_or_ge l nl with q | q
  · exact ed_cong (pk_un (by omega)) (fun i hi => pk_un (by omega)) (fun i hi => pk_un (by omega)) (T3 l q)
  · have e : l = nl := by omega
    subst e
    have est : tt_st (upd a2 (l * 6) (nI s)) l 0 = s := by
      unfold tt_st
      rw [Nat.add_zero, pk_us, nI_clamp (by omega)]
    have eof : tt_of (upd a3 (l * 6) 0) l 0 = 0 := by
      unfold tt_of
      rw [Nat.add_zero, pk_us, nu_0]
    refine ⟨by omega, by omega, by rw [hsz, pk_us]; rfl, fun i hi => ?_, fun i j hij hj => by omega⟩
    have ei : i = 0 := by omega
    subst ei
    rw [est, eof]
    exact ⟨hs, by rw [Nat.add_zero, pk_us], by omega, by omega⟩
theorem ed_extend {post : Int32 → St1 → Prop} {nl l s mi : Nat} (T : tt_ok nl 0 a1 a2 a3 a5 a6) (hl : l < nl) (hs : s < 8) (hm1 : 1 ≤ mi) (hm2 : mi ≤ 30) (hz : tt_sz a1 l ≤ 5)
    (H1 : post (-1) (nI nl, nI 0, f2, a1, a2, a3, a4, a5, a6, a7, a8, a9))
    (H2 : ∀ b1 b2 b3 : Nat → Int32, tt_ok nl 0 b1 b2 b3 a5 a6 → tt_sz b1 l = tt_sz a1 l + 1 → post (nI (tt_sz a1 l + 1)) (nI nl, nI 0, f2, b1, b2, b3, a4, a5, a6, a7, a8, a9)) :
    wpX_extend post (nI nl, nI 0, f2, a1, a2, a3, a4, a5, a6, a7, a8, a9) (nI l) (nI s) (nI mi) := by
  obtain ⟨T1, T2, T3, T4, T5, T6⟩ := T
  have TL := T3 l hl
  obtain ⟨L1, L2, L3, L4, L5⟩ := TL
  unfold wpX_extend
  refine ed_bl hl T1 (br_t rfl (qu_bs hs (br_t rfl ⟨pk_in l 5 (by omega), ?_⟩)))
  rw [nI_clamp (show l < 2 ^ 31 by omega)]
  refine nm_r L3 ?_
  refine pk_loop (σ := Unit) (fun n i _ => wX_extend_31 post (nI l) (nI s) (nI mi) (nI (tt_sz a1 l)) (nI nl) (nI 0) f2 a1 a2 a3 a4 a5 a6 a7 a8 a9 n (nI i)) (fun _ _ => True) (tt_sz a1 l) 0 () (by omega) trivial ?_ ?_
  · intro n _ _
    refine pk_le (tt_sz a1 l) (tt_sz a1 l) (fun _ => ?_) (fun z => absurd z (by omega))
    refine pk_lt mi 1 (fun z => absurd z (by omega)) (fun _ => pk_le mi 30 (fun _ => ?_) (fun z => absurd z (by omega)))
    refine ⟨1, pk_le 0 0 (fun _ => ?_) (fun z => absurd z (by omega))⟩
    refine pk_le 6 (tt_sz a1 l) (fun z => absurd z (by omega)) (fun _ => br_t rfl ⟨pk_in (l * 6 + tt_sz a1 l) 30 (by omega) (nu_i6 _ _), ?_⟩)
    have em : nI (l * 6 + tt_sz a1 l) - 1 = nI (l * 6 + (tt_sz a1 l - 1)) := by
      have : l * 6 + tt_sz a1 l = (l * 6 + (tt_sz a1 l - 1)) + 1 := by omega
      rw [this, nI_pred]
    rw [nu_i6, em, nI_1, nI_clamp (show l * 6 + tt_sz a1 l < 2 ^ 31 by omega), nI_clamp (show l * 6 + (tt_sz a1 l - 1) < 2 ^ 31 by omega), nI_clamp (show l < 2 ^ 31 by omega)]
    refine nm_e ⟨pk_in (l * 6 + (tt_sz a1 l - 1)) 30 (by omega), pk_in (l * 6 + tt_sz a1 l) 30 (by omega), nm_e ⟨pk_in l 5 (by omega), nm_e ?_⟩⟩
    have hsz : tt_sz (upd a1 l (nI (tt_sz a1 l + 1))) l = tt_sz a1 l + 1 := by
      show (upd a1 l (nI (tt_sz a1 l + 1)) l).toNatClampNeg = _
      rw [pk_us, nI_clamp (by omega)]
    have B := L4 (tt_sz a1 l - 1) (by omega)
    have kadd : (a3 (l * 6 + (tt_sz a1 l - 1)) + nI mi).toInt = tt_of a3 l (tt_sz a1 l - 1) + mi := by
      have hmi := nI_toInt (n := mi) (by omega)
      have b1 := B.2.2.1
      have b2 := B.2.2.2
      unfold tt_of at b1 b2 ⊢
      rw [nu_add (by omega) (by omega) (by omega) (by omega), hmi]
    have o1 : ∀ i, i < tt_sz a1 l → tt_of (upd a3 (l * 6 + tt_sz a1 l) (a3 (l * 6 + (tt_sz a1 l - 1)) + nI mi)) l i = tt_of a3 l i := by
      intro i hi
      show (upd a3 (l * 6 + tt_sz a1 l) (a3 (l * 6 + (tt_sz a1 l - 1)) + nI mi) (l * 6 + i)).toInt = _
      rw [pk_un (by omega)]
      rfl
    have o2 : tt_of (upd a3 (l * 6 + tt_sz a1 l) (a3 (l * 6 + (tt_sz a1 l - 1)) + nI mi)) l (tt_sz a1 l) = tt_of a3 l (tt_sz a1 l - 1) + mi := by
      show (upd a3 (l * 6 + tt_sz a1 l) (a3 (l * 6 + (tt_sz a1 l - 1)) + nI mi) (l * 6 + tt_sz a1 l)).toInt = _
      rw [pk_us, kadd]
    have s1 : ∀ i, i < tt_sz a1 l → tt_st (upd a2 (l * 6 + tt_sz a1 l) (nI s)) l i = tt_st a2 l i := by
      intro i hi
      show (upd a2 (l * 6 + tt_sz a1 l) (nI s) (l * 6 + i)).toNatClampNeg = _
      rw [pk_un (by omega)]
      rfl
    have s2 : tt_st (upd a2 (l * 6 + tt_sz a1 l) (nI s)) l (tt_sz a1 l) = s := by
      show (upd a2 (l * 6 + tt_sz a1 l) (nI s) (l * 6 + tt_sz a1 l)).toNatClampNeg = _
      rw [pk_us, nI_clamp (by omega)]
    refine H2 _ _ _ ⟨T1, T2, fun l' hl' => ?_, T4, T5, T6⟩ hsz
    by_cases q : l' = l
    · subst q
      refine ⟨by omega, by omega, by rw [hsz, pk_us], fun i hi => ?_, fun i j hij hj => ?_⟩
      · rw [hsz] at hi
        rcases Nat.lt_or_ge i (tt_sz a1 l') with z | z
        · rw [s1 i z, o1 i z, pk_un (show l' * 6 + i ≠ l' * 6 + tt_sz a1 l' by omega)]
          exact L4 i z
        · have ei : i = tt_sz a1 l' := by omega
          rw [ei, s2, o2, pk_us]
          exact ⟨hs, rfl, by omega, by omega⟩
      · rw [hsz] at hj
        rcases Nat.lt_or_ge j (tt_sz a1 l') with z | z
        · rw [o1 i (by omega), o1 j z]
          exact L5 i j hij z
        · have ej : j = tt_sz a1 l' := by omega
          rw [o1 i (by omega), ej, o2]
          rcases Nat.lt_or_ge i (tt_sz a1 l' - 1) with z2 | z2
          · have := L5 i (tt_sz a1 l' - 1) z2 (by omega)
            omega
          · have ei : i = tt_sz a1 l' - 1 := by omega
            rw [ei]
            omega
    · exact ed_cong (pk_un q) (fun i hi => pk_un (by omega)) (fun i hi => pk_un (by omega)) (T3 l' hl')
  · intro n i _ hi _ hw
    refine pk_le (tt_sz a1 l) i (fun z => absurd z (by omega)) (fun _ => ⟨pk_in (l * 6 + i) 30 (by omega) (nu_i6 _ _), ?_⟩)
    exact br_c (fun _ => H1) (fun _ => nm_r (nI_1 i) (hw () trivial))
theorem ed_trip {post : Int32 → St1 → Prop} {nl nt l st : Nat} (T : tt_ok nl nt a1 a2 a3 a5 a6) (hl : l < nl) (hs : st ≤ 500)
    (H1 : nt = 12 → post (-4) (nI nl, nI nt, f2, a1, a2, a3, a4, a5, a6, a7, a8, a9))
    (H2 : nt < 12 → ∀ b4 b5 : Nat → Int32, tt_ok nl (nt + 1) a1 a2 a3 b5 a6 → (∀ u x v y, tt_R nl nt a1 a2 a3 a4 a5 u x v y → tt_R nl (nt + 1) a1 a2 a3 b4 b5 u x v y) → post (nI nt) (nI nl, nI (nt + 1), f2, a1, a2, a3, b4, b5, a6, a7, a8, a9)) :
    wpX_trip post (nI nl, nI nt, f2, a1, a2, a3, a4, a5, a6, a7, a8, a9) (nI l) (nI st) := by
  obtain ⟨T1, T2, T3, T4, T5, T6⟩ := T
  unfold wpX_trip
  refine ed_bl hl T1 (br_t rfl (br_f (nI_pos (by omega)) (pk_le st 500 (fun _ => pk_lt nt 12 (fun z => ⟨pk_in nt 12 z, ?_⟩) (fun z => H1 (by omega))) (fun z => absurd z (by omega)))))
  rw [nI_clamp (show nt < 2 ^ 31 by omega)]
  refine nm_e ⟨pk_in nt 12 z, nm_e (nm_r (nI_1 nt) ?_)⟩
  rw [nI_pred]
  refine H2 z _ _ ⟨T1, by omega, T3, fun t ht => ?_, T5, T6⟩ ?_
  · by_cases q : t = nt
    · rw [q, pk_us, nI_toInt (by omega)]
      omega
    · rw [pk_un q]
      exact T4 t (by omega)
  · rintro u x v y ⟨l', i, j, t, h1, h2, h3, h4, h5, h6, h7, h8, h9⟩
    have q : t ≠ nt := by omega
    exact ⟨l', i, j, t, h1, h2, h3, by omega, h5, h6, by rw [pk_un q]; exact h7, by rw [pk_un q]; exact h8, by rw [pk_un q]; exact h9⟩
theorem ed_foot {post : Int32 → St1 → Prop} {q w : Nat} {mi : Int32} (hq : q < 8) (hw : w < 8) (hn : q ≠ w) (hm1 : 0 ≤ mi.toInt) (hm2 : mi.toInt ≤ 30)
    (H : post (a6 (q * 8 + w)) (f0, f1, f2, a1, a2, a3, a4, a5, upd (upd a6 (q * 8 + w) mi) (w * 8 + q) mi, a7, a8, a9)) :
    wpX_footpath post (f0, f1, f2, a1, a2, a3, a4, a5, a6, a7, a8, a9) (nI q) (nI w) mi := by
  unfold wpX_footpath
  refine qu_bs hq (br_t rfl (qu_bs hw (br_t rfl (pk_eq q w (fun z => absurd z hn) (fun _ => br_f (by rw [nu_lt, nu_0]; omega) (br_t (by rw [nu_le, show (30 : Int32).toInt = 30 from by decide]; exact hm2) ⟨pk_in (q * 8 + w) 64 (by omega) (nu_i8 _ _), ?_⟩))))))
  rw [nu_i8, nu_i8, nI_clamp (show q * 8 + w < 2 ^ 31 by omega), nI_clamp (show w * 8 + q < 2 ^ 31 by omega)]
  exact nm_e ⟨pk_in (q * 8 + w) 64 (by omega), nm_e ⟨pk_in (w * 8 + q) 64 (by omega), nm_e H⟩⟩
theorem ed_delay {post : Int32 → St1 → Prop} {nl nt t st : Nat} (T : tt_ok nl nt a1 a2 a3 a5 a6) (ht : t < nt) (hs : st ≤ 500)
    (H : 0 ≤ (a5 t).toInt → tt_ok nl nt a1 a2 a3 (upd a5 t (nI st)) a6 → post (a5 t) (nI nl, nI nt, f2, a1, a2, a3, a4, upd a5 t (nI st), a6, a7, a8, a9)) :
    wpX_delay post (nI nl, nI nt, f2, a1, a2, a3, a4, a5, a6, a7, a8, a9) (nI t) (nI st) := by
  obtain ⟨T1, T2, T3, T4, T5, T6⟩ := T
  unfold wpX_delay
  refine br_f (nI_pos (by omega)) (pk_lt t nt (fun _ => br_f (nI_pos (by omega)) (pk_le st 500 (fun _ => ⟨pk_in t 12 (by omega), ?_⟩) (fun z => absurd z (by omega)))) (fun z => absurd z (by omega)))
  rw [nI_clamp (show t < 2 ^ 31 by omega)]
  refine nm_e ⟨pk_in t 12 (by omega), nm_e (H (T4 t ht).1 ⟨T1, T2, T3, fun t' ht' => ?_, T5, T6⟩)⟩
  by_cases q : t' = t
  · rw [q, pk_us, nI_toInt (by omega)]
    omega
  · rw [pk_un q]
    exact T4 t' ht'
/-- a footpath where there was none: more walks; one put back: the same -/
theorem ed_new {nl nt q w : Nat} {mi : Int32} (T : tt_ok nl nt a1 a2 a3 a5 a6) (hq : q < 8) (hw : w < 8) (hn : q ≠ w) (hm1 : 0 ≤ mi.toInt) (hm2 : mi.toInt ≤ 30) (h0 : (a6 (q * 8 + w)).toInt ≤ 0) :
    tt_ok nl nt a1 a2 a3 a5 (upd (upd a6 (q * 8 + w) mi) (w * 8 + q) mi) ∧ ∀ u v x, tt_W a6 u v x → tt_W (upd (upd a6 (q * 8 + w) mi) (w * 8 + q) mi) u v x := by
  obtain ⟨T1, T2, T3, T4, T5, T6⟩ := T
  have hval : ∀ u v, u < 8 → v < 8 → upd (upd a6 (q * 8 + w) mi) (w * 8 + q) mi (u * 8 + v) = if (u = q ∧ v = w) ∨ (u = w ∧ v = q) then mi else a6 (u * 8 + v) := by
    intro u v hu hv
    by_cases c1 : u = w ∧ v = q
    · rw [if_pos (Or.inr c1), c1.1, c1.2, pk_us]
    · rw [pk_un (show u * 8 + v ≠ w * 8 + q by omega)]
      by_cases c2 : u = q ∧ v = w
      · rw [if_pos (Or.inl c2), c2.1, c2.2, pk_us]
      · rw [pk_un (show u * 8 + v ≠ q * 8 + w by omega), if_neg (by omega)]
  refine ⟨⟨T1, T2, T3, T4, fun j hj => ?_, fun u v hu hv => ?_⟩, ?_⟩
  · by_cases c1 : j = w * 8 + q
    · rw [c1, pk_us]
      exact ⟨hm1, hm2⟩
    · rw [pk_un c1]
      by_cases c2 : j = q * 8 + w
      · rw [c2, pk_us]
        exact ⟨hm1, hm2⟩
      · rw [pk_un c2]
        exact T5 j hj
  · rw [hval u v hu hv, hval v u hv hu, T6 u v hu hv]
    by_cases c : (u = q ∧ v = w) ∨ (u = w ∧ v = q)
    · rw [if_pos c, if_pos (by omega)]
    · rw [if_neg c, if_neg (by omega)]
  · rintro u v x ⟨h1, h2, h3⟩
    refine ⟨h1, h2, ?_⟩
    rcases h3 with h3 | ⟨h3, h4⟩
    · exact Or.inl h3
    · refine Or.inr ⟨?_, h4⟩
      rw [hval u v h1 h2, if_neg ?_]
      · exact h3
      · have e := T6 q w hq hw
        rintro (⟨c1, c2⟩ | ⟨c1, c2⟩)
        · rw [c1, c2] at h3
          omega
        · rw [c1, c2, ← e] at h3
          omega
theorem ed_same {nl nt q w : Nat} {mi : Int32} (T : tt_ok nl nt a1 a2 a3 a5 a6) (hq : q < 8) (hw : w < 8) :
    upd (upd (upd (upd a6 (q * 8 + w) mi) (w * 8 + q) mi) (q * 8 + w) (a6 (q * 8 + w))) (w * 8 + q) (a6 (q * 8 + w)) = a6 := by
  funext j
  by_cases c1 : j = w * 8 + q
  · rw [c1, pk_us]
    exact T.2.2.2.2.2 q w hq hw
  · rw [pk_un c1]
    by_cases c2 : j = q * 8 + w
    · rw [c2, pk_us]
    · rw [pk_un c2, pk_un c1, pk_un c2]
end
end
section
section
variable {f0 f1 f2 : Int32} {a1 a2 a3 a4 a5 a6 a7 a8 a9 : Nat → Int32}
theorem mn_least {post : Int32 → Prop} {R R0 : Nat → Int → Nat → Int → Prop} {W W0 : Nat → Nat → Int → Prop} {a b : Nat} {t : Int} {e now : Int32} (he : qu_A R0 W0 a t 12 b e) (hn : qu_A R W a t 12 b now)
    (gR : ∀ u x v y, R0 u x v y → R u x v y) (gW : ∀ u v x, W0 u v x → W u v x) (H : post now) : wpL_least post () now e := by
  unfold wpL_least
  refine br_c (fun g => ?_) (fun g => br_c (fun _ => H) (fun g2 => br_t ?_ H))
  · by_cases g2 : e < 0
    · rw [qu_A_m5 he g2, ← qu_A_m5 hn g]
      exact H
    · exact absurd (jn_grow gR gW (qu_A_J he g2)) (qu_A_neg hn g (qu_A_lt he g2))
  · exact nu_le.mpr (qu_A_le hn (qu_A_lt he g2) (jn_grow gR gW (qu_A_J he g2))).2.2
/-- what is asked after the edit: the two arrivals didn't get worse, and holds -/
theorem mn_416 {post : Int32 → Prop} {L : Nat} {xs : Nat → Int32} {J157 : Int32 → Int32 → Int32 → Int32 → Int32 → (Nat → Int32) → (Nat → Int32) → (Nat → Int32) → (Nat → Int32) → (Nat → Int32) → (Nat → Int32) → (Nat → Int32) → (Nat → Int32) → (Nat → Int32) → Prop} {x2 x3 x4 x5 x7 e f t : Int32} {kc ks nl nt u v : Nat}
    (T : tt_ok nl nt a1 a2 a3 a5 a6) (hu : u < 8) (hv : v < 8) (ht : 0 ≤ t.toInt) (ht2 : t.toInt ≤ 900)
    (hg : ¬ 7 ≤ (x7 &&& 7) → ∃ (R0 : Nat → Int → Nat → Int → Prop) (W0 : Nat → Nat → Int → Prop), qu_A R0 W0 u t.toInt 12 v e ∧ qu_A R0 W0 v t.toInt 12 u f ∧ (∀ u x v y, R0 u x v y → tt_R nl nt a1 a2 a3 a4 a5 u x v y) ∧ (∀ u v x, W0 u v x → tt_W a6 u v x))
    (H : ∀ (m : Int32) (b7 b8 b9 : Nat → Int32), J157 x4 (x5 + 2) (nI nl) (nI nt) m a1 a2 a3 a4 a5 a6 b7 b8 b9) :
    wL_law_416 post L xs J157 x2 x3 x4 x5 x7 (nI u) (nI v) t e f kc ks (nI nl) (nI nt) f2 a1 a2 a3 a4 a5 a6 a7 a8 a9 := by
  unfold wL_law_416
  refine qu_earliest T hu hv ht (by omega) (fun now m1 b7 b8 b9 hn => ?_)
  refine qu_earliest T hv hu ht (by omega) (fun back m2 c7 c8 c9 hb => ?_)
  have h476 : wL_law_476 post L xs J157 x2 x3 x4 x5 (nI u) (nI v) t kc ks (nI nl) (nI nt) m2 a1 a2 a3 a4 a5 a6 c7 c8 c9 := by
    unfold wL_law_476
    exact hd_holds T hu hv ht ht2 (fun m d7 d8 d9 => br_f (by decide) (nm_e (H m d7 d8 d9)))
  refine br_c (fun _ => h476) (fun g => ?_)
  obtain ⟨R0, W0, he, hf, gR, gW⟩ := hg g
  exact mn_least he hn gR gW (br_t rfl (mn_least hf hb gR gW (br_t rfl h476)))
/-- remainders of a shifted word -/
theorem mn_sh {A d : Nat} (k : Nat) {s : Int32} (hs : (s.toBitVec.smod 32).toNat = k) (hA : A < 2 ^ 20) (h0 : 0 < d) (hd : d < 2 ^ 31) : (nI A >>> s) - (nI A >>> s) / nI d * nI d = nI (A / 2 ^ k % d) := by
  rw [pk_shrN (by omega) s k hs]
  exact pk_rem (Nat.lt_of_le_of_lt (Nat.div_le_self _ _) (by omega)) h0 hd
/-- one turn of the law's loop -/
theorem mn_turn {L p nl nt kc ks i n : Nat} {xs : Nat → Int32} (T : tt_ok nl nt a1 a2 a3 a5 a6) (hL : L ≤ 260) (hnl : 1 ≤ nl) (hp : p ≤ 100) (hi : i ≤ 200) (hpi : i < p + 40)
    (H : ∀ (nt' : Nat) (m : Int32) (b4 b5 b6 b7 b8 b9 : Nat → Int32), tt_ok nl nt' a1 a2 a3 b5 b6 → wL_law_157 (fun r => r = 1) L xs (nI nl) (nI p) kc ks n (nI nt') (nI (i + 2)) (nI nl) (nI nt') m a1 a2 a3 b4 b5 b6 b7 b8 b9) :
    wL_law_157 (fun r => r = 1) L xs (nI nl) (nI p) kc ks (n + 1) (nI nt) (nI i) (nI nl) (nI nt) f2 a1 a2 a3 a4 a5 a6 a7 a8 a9 := by
  have hT := T
  obtain ⟨T1, T2, T3, T4, T5, T6⟩ := hT
  refine br_c (fun _ => rfl) (fun g => ?_)
  have hi2 : i + 2 ≤ L := by
    have e := pk_sub_toInt (a := L) (b := 2) (by omega) (by omega)
    have g' : ¬ (nI L - nI 2) < nI i := g
    rw [nu_lt, e, nI_toInt (by omega)] at g'
    omega
  refine pk_le (p + 40) i (fun z => absurd z (by omega)) (fun _ => ?_) (nI_add p 40) rfl
  obtain ⟨A, hA, eA⟩ := pk_andE (xs i) (m := 1048575) 20 (by decide)
  obtain ⟨B, hB, eB⟩ := pk_andE (xs (i + 1)) (m := 1048575) 20 (by decide)
  refine ⟨pk_in i L (by omega), ?_⟩
  rw [nI_1, nI_clamp (show i < 2 ^ 31 by omega), nI_clamp (show i + 1 < 2 ^ 31 by omega)]
  refine nm_r eA ⟨pk_in (i + 1) L (by omega), nm_r eB ⟨by decide, nm_r (pk_rem (d := 8) (show A < 2 ^ 31 by omega) (by omega) (by omega)) ⟨by decide, nm_r (mn_sh (d := 8) 3 (by decide) hA (by omega) (by omega)) ⟨by decide, nm_r (mn_sh (d := 200) 6 (by decide) hA (by omega) (by omega)) ?_⟩⟩⟩⟩
  have hu : A % 8 < 8 := Nat.mod_lt _ (by omega)
  have hv : A / 2 ^ 3 % 8 < 8 := Nat.mod_lt _ (by omega)
  have hr : A / 2 ^ 6 % 200 < 200 := Nat.mod_lt _ (by omega)
  have hrI := nI_toInt (n := A / 2 ^ 6 % 200) (by omega)
  have ht : 0 ≤ (nI (A / 2 ^ 6 % 200)).toInt := by omega
  have ht2 : (nI (A / 2 ^ 6 % 200)).toInt ≤ 900 := by omega
  refine qu_earliest T hu hv ht (by omega) (fun e m1 b7 b8 b9 he => ?_)
  refine qu_earliest T hv hu ht (by omega) (fun f m2 c7 c8 c9 hf => ?_)
  have same : ∀ (d7 d8 d9 : Nat → Int32) (m : Int32), wL_law_416 (fun r => r = 1) L xs (wL_law_157 (fun r => r = 1) L xs (nI nl) (nI p) kc ks n) (nI nl) (nI p) (nI nt) (nI i) (nI B) (nI (A % 8)) (nI (A / 2 ^ 3 % 8)) (nI (A / 2 ^ 6 % 200)) e f kc ks (nI nl) (nI nt) m a1 a2 a3 a4 a5 a6 d7 d8 d9 := by
    intro d7 d8 d9 m
    refine mn_416 T hu hv ht ht2 (fun _ => ⟨_, _, he, hf, fun _ _ _ _ h => h, fun _ _ _ h => h⟩) (fun m' e7 e8 e9 => ?_)
    rw [show nI i + 2 = nI (i + 2) from nI_add i 2]
    exact H nt m' a4 a5 a6 e7 e8 e9 T
  have hst : B / 2 ^ 6 % 200 < 200 := Nat.mod_lt _ (by omega)
  refine br_c (fun _ => br_c (fun g7 => ?_) (fun _ => ⟨by decide, ?_⟩)) (fun _ => ⟨nI_ne0 (by omega) (by omega), by decide, ?_⟩)
  · -- a delay
    refine pk_le nt 0 (fun _ => same _ _ _ _) (fun z => ⟨nI_ne0 z (by omega), by decide, ?_⟩)
    rw [mn_sh (d := nt) 3 (by decide) hB z (by omega), show (200 : Int32) = nI 200 from rfl, mn_sh (d := 200) 6 (by decide) hB (by omega) (by omega)]
    refine ed_delay T (Nat.mod_lt _ z) (by omega) (fun k0 T' => br_t (nu_le.mpr (by rw [nu_0]; exact k0)) ?_)
    refine mn_416 T' hu hv ht ht2 (fun g => absurd g7 g) (fun m' e7 e8 e9 => ?_)
    rw [show nI i + 2 = nI (i + 2) from nI_add i 2]
    exact H nt m' _ _ _ e7 e8 e9 T'
  · -- a footpath
    have hq : B / 2 ^ 3 % 8 < 8 := Nat.mod_lt _ (by omega)
    have hw7 : B / 2 ^ 6 % 7 < 7 := Nat.mod_lt _ (by omega)
    have hw : (B / 2 ^ 3 % 8 + 1 + B / 2 ^ 6 % 7) % 8 < 8 := Nat.mod_lt _ (by omega)
    have hne : B / 2 ^ 3 % 8 ≠ (B / 2 ^ 3 % 8 + 1 + B / 2 ^ 6 % 7) % 8 := by omega
    have h30 : B / 2 ^ 10 % 30 < 30 := Nat.mod_lt _ (by omega)
    have ew : ((nI (B / 2 ^ 3 % 8) + 1) + ((nI B >>> ((6 : Int32) &&& 31)) - (nI B >>> ((6 : Int32) &&& 31)) / 7 * 7)) - ((nI (B / 2 ^ 3 % 8) + 1) + ((nI B >>> ((6 : Int32) &&& 31)) - (nI B >>> ((6 : Int32) &&& 31)) / 7 * 7)) / 8 * 8 = nI ((B / 2 ^ 3 % 8 + 1 + B / 2 ^ 6 % 7) % 8) := by
      rw [show (7 : Int32) = nI 7 from rfl, mn_sh (d := 7) 6 (by decide) hB (by omega) (by omega), nI_1, nI_add]
      exact pk_rem (d := 8) (by omega) (by omega) (by omega)
    refine nm_r (mn_sh (d := 8) 3 (by decide) hB (by omega) (by omega)) ⟨by decide, by decide, nm_r ew ⟨by decide, ?_⟩⟩
    have e30 : 1 + ((nI B >>> ((10 : Int32) &&& 31)) - (nI B >>> ((10 : Int32) &&& 31)) / 30 * 30) = nI (1 + B / 2 ^ 10 % 30) := by
      rw [show (30 : Int32) = nI 30 from rfl, mn_sh (d := 30) 10 (by decide) hB (by omega) (by omega)]
      exact nI_add 1 _
    rw [e30]
    have kmi := nI_toInt (n := 1 + B / 2 ^ 10 % 30) (by omega)
    have k6 := T5 (B / 2 ^ 3 % 8 * 8 + (B / 2 ^ 3 % 8 + 1 + B / 2 ^ 6 % 7) % 8) (by omega)
    refine ed_foot hq hw hne (by omega) (by omega) (br_c (fun g0 => ?_) (fun g0 => ?_))
    · rw [nu_le, nu_0] at g0
      obtain ⟨T', gW⟩ := ed_new (mi := nI (1 + B / 2 ^ 10 % 30)) T hq hw hne (by omega) (by omega) g0
      unfold wL_law_383
      refine mn_416 T' hu hv ht ht2 (fun _ => ⟨_, _, he, hf, fun _ _ _ _ h => h, gW⟩) (fun m' e7 e8 e9 => ?_)
      rw [show nI i + 2 = nI (i + 2) from nI_add i 2]
      exact H nt m' _ _ _ e7 e8 e9 T'
    · refine ed_foot hq hw hne k6.1 k6.2 ?_
      rw [ed_same T hq hw]
      refine br_t ?_ ?_
      · rw [pk_un (by omega), pk_us]
        exact nI_pos' (by omega)
      · unfold wL_law_383
        exact same _ _ _ _
  · -- a trip
    rw [mn_sh (d := nl) 3 (by decide) hB (by omega) (by omega), show (200 : Int32) = nI 200 from rfl, mn_sh (d := 200) 6 (by decide) hB (by omega) (by omega)]
    refine ed_trip T (Nat.mod_lt _ (by omega)) (by omega) (fun q => ?_) (fun q b4 b5 T' gR => ?_)
    · subst q
      refine br_t rfl ?_
      unfold wL_law_288
      exact br_t rfl (br_t (by decide) (same _ _ _ _))
    · refine pk_eq nt 12 (fun z => absurd z (by omega)) (fun _ => ?_)
      unfold wL_law_288
      refine br_t rfl (pk_le 12 nt (fun z => absurd z (by omega)) (fun _ => nm_r (nI_1 nt) ?_))
      refine mn_416 T' hu hv ht ht2 (fun _ => ⟨_, _, he, hf, gR, fun _ _ _ h => h⟩) (fun m' e7 e8 e9 => ?_)
      rw [show nI i + 2 = nI (i + 2) from nI_add i 2]
      exact H (nt + 1) m' _ _ _ e7 e8 e9 T'
/-- the law's loop -/
theorem mn_157 {L p nl nt kc ks : Nat} {xs : Nat → Int32} (T : tt_ok nl nt a1 a2 a3 a5 a6) (hL : L ≤ 260) (hnl : 1 ≤ nl) (hp : p ≤ 100) :
    ∃ n, wL_law_157 (fun r => r = 1) L xs (nI nl) (nI p) kc ks n (nI nt) (nI p) (nI nl) (nI nt) f2 a1 a2 a3 a4 a5 a6 a7 a8 a9 := by
  refine pk_loop (σ := Nat × Int32 × (Nat → Int32) × (Nat → Int32) × (Nat → Int32) × (Nat → Int32) × (Nat → Int32) × (Nat → Int32)) (fun n j s => wL_law_157 (fun r => r = 1) L xs (nI nl) (nI p) kc ks n (nI s.1) (nI (p + 2 * j)) (nI nl) (nI s.1) s.2.1 a1 a2 a3 s.2.2.1 s.2.2.2.1 s.2.2.2.2.1 s.2.2.2.2.2.1 s.2.2.2.2.2.2.1 s.2.2.2.2.2.2.2)
    (fun j s => tt_ok nl s.1 a1 a2 a3 s.2.2.2.1 s.2.2.2.2.1) 20 0 (nt, f2, a4, a5, a6, a7, a8, a9) (by omega) T ?_ ?_
  · rintro n ⟨nt', m, b4, b5, b6, b7, b8, b9⟩ _
    exact br_c (fun _ => rfl) (fun _ => pk_le (p + 40) (p + 2 * 20) (fun _ => rfl) (fun z => absurd z (by omega)) (nI_add p 40) rfl)
  · rintro n j ⟨nt', m, b4, b5, b6, b7, b8, b9⟩ hj hI hw
    exact mn_turn hI hL hnl hp (by omega) (by omega) (fun nt2 m2 c4 c5 c6 c7 c8 c9 T2 => hw (nt2, m2, c4, c5, c6, c7, c8, c9) T2)
end
end
section
section
variable {f2 : Int32} {a1 a2 a3 a4 a5 a6 a7 a8 a9 : Nat → Int32}
theorem tp_cell {post : Int32 → Prop} {L p : Nat} {xs : Nat → Int32} (hL : L ≤ 260) (hp : p ≤ 1000) (H : ∀ v, post v) : wpL_cell post L xs () (nI p) := by
  unfold wpL_cell
  exact pk_le L p (fun _ => H _) (fun z => ⟨pk_in p L z, H _⟩)
theorem tp_72 {L p l kc ks st : Nat} {xs : Nat → Int32} {x2 : Int32} {J23 : Int32 → Int32 → Int32 → Int32 → Int32 → (Nat → Int32) → (Nat → Int32) → (Nat → Int32) → (Nat → Int32) → (Nat → Int32) → (Nat → Int32) → (Nat → Int32) → (Nat → Int32) → (Nat → Int32) → Prop}
    (hL : L ≤ 260) (hp : p ≤ 100) (hl : l < 5) (hst : st ≤ 5) (T : tt_ok (l + 1) 0 a1 a2 a3 a5 a6) (hz : tt_sz a1 l = 1)
    (H : ∀ b1 b2 b3 : Nat → Int32, tt_ok (l + 1) 0 b1 b2 b3 a5 a6 → J23 (nI (p + (1 + st))) (nI (l + 1)) (nI (l + 1)) (nI 0) f2 b1 b2 b3 a4 a5 a6 a7 a8 a9) :
    ∃ n, wL_law_72 (fun r => r = 1) L xs J23 x2 (nI p) (nI l) (nI st) kc ks n 0 (nI (l + 1)) (nI 0) f2 a1 a2 a3 a4 a5 a6 a7 a8 a9 := by
  refine pk_loop (σ := (Nat → Int32) × (Nat → Int32) × (Nat → Int32)) (fun n k s => wL_law_72 (fun r => r = 1) L xs J23 x2 (nI p) (nI l) (nI st) kc ks n (nI k) (nI (l + 1)) (nI 0) f2 s.1 s.2.1 s.2.2 a4 a5 a6 a7 a8 a9)
    (fun k s => tt_ok (l + 1) 0 s.1 s.2.1 s.2.2 a5 a6 ∧ tt_sz s.1 l ≤ 1 + k) st 0 (a1, a2, a3) (by omega) ⟨T, by dsimp only; omega⟩ ?_ ?_
  · rintro n ⟨b1, b2, b3⟩ ⟨T', _⟩
    refine pk_le st st (fun _ => ?_) (fun z => absurd z (by omega))
    have e1 : nI p + (1 + nI st) = nI (p + (1 + st)) := by
      rw [show (1 : Int32) = nI 1 from rfl, nI_add, nI_add]
    exact nm_r e1 (nm_r (nI_1 l) (H b1 b2 b3 T'))
  · rintro n k ⟨b1, b2, b3⟩ hk ⟨T', hz'⟩ hw
    dsimp only at T' hz' ⊢
    refine pk_le st k (fun z => absurd z (by omega)) (fun _ => ?_)
    rw [show nI p + 1 + nI k = nI (p + 1 + k) from by rw [nI_1, nI_add]]
    refine tp_cell hL (by omega) (fun v => ?_)
    obtain ⟨A, hA, eA⟩ := pk_andE v (m := 1048575) 20 (by decide)
    refine nm_r eA ⟨by decide, by decide, ?_⟩
    have e30 : 1 + ((nI A >>> ((3 : Int32) &&& 31)) - (nI A >>> ((3 : Int32) &&& 31)) / 30 * 30) = nI (1 + A / 2 ^ 3 % 30) := by
      rw [show (30 : Int32) = nI 30 from rfl, mn_sh (d := 30) 3 (by decide) hA (by omega) (by omega)]
      exact nI_add 1 _
    have e8 : nI A - nI A / 8 * 8 = nI (A % 8) := pk_rem (d := 8) (by omega) (by omega) (by omega)
    rw [e30, e8]
    have h30 : A / 2 ^ 3 % 30 < 30 := Nat.mod_lt _ (by omega)
    refine ed_extend T' (by omega) (Nat.mod_lt _ (by omega)) (by omega) (by omega) (by omega) ?_ (fun c1 c2 c3 T2 hz2 => ?_)
    · exact br_f (by decide) (br_f (by decide) (nm_r (nI_1 k) (hw (b1, b2, b3) ⟨T', by dsimp only; omega⟩)))
    · have q := nI_toInt (n := tt_sz b1 l + 1) (by omega)
      refine br_f ?_ (br_f ?_ (nm_r (nI_1 k) (hw (c1, c2, c3) ⟨T2, by dsimp only; omega⟩)))
      · rw [nu_eq, q, show (-4 : Int32).toInt = -4 from by decide]
        omega
      · rw [nu_eq, q, show (-2 : Int32).toInt = -2 from by decide]
        omega
theorem tp_23 {L nl kc ks : Nat} {xs : Nat → Int32} (hL : L ≤ 260) (h1 : 1 ≤ nl) (hnl : nl ≤ 4) (T : tt_ok 0 0 a1 a2 a3 a5 a6) :
    ∃ n, wL_law_23 (fun r => r = 1) L xs (nI nl) kc ks n 1 0 0 0 f2 a1 a2 a3 a4 a5 a6 a7 a8 a9 := by
  refine pk_loop (σ := Nat × (Nat → Int32) × (Nat → Int32) × (Nat → Int32)) (fun n l s => wL_law_23 (fun r => r = 1) L xs (nI nl) kc ks n (nI s.1) (nI l) (nI l) (nI 0) f2 s.2.1 s.2.2.1 s.2.2.2 a4 a5 a6 a7 a8 a9)
    (fun l s => s.1 ≤ 1 + 6 * l ∧ tt_ok l 0 s.2.1 s.2.2.1 s.2.2.2 a5 a6) nl 0 (1, a1, a2, a3) (by omega) ⟨by dsimp only; omega, T⟩ ?_ ?_
  · rintro n ⟨p, b1, b2, b3⟩ ⟨hp, T'⟩
    dsimp only at hp T' ⊢
    exact pk_le nl nl (fun _ => mn_157 T' hL h1 (by omega)) (fun z => absurd z (by omega))
  · rintro n l ⟨p, b1, b2, b3⟩ hl ⟨hp, T'⟩ hw
    dsimp only at hp T' ⊢
    refine pk_le nl l (fun z => absurd z (by omega)) (fun _ => ?_)
    refine tp_cell hL (by omega) (fun v => ?_)
    obtain ⟨A, hA, eA⟩ := pk_andE v (m := 1048575) 20 (by decide)
    refine nm_r eA ⟨by decide, nm_r (pk_rem (d := 8) (show A < 2 ^ 31 by omega) (by omega) (by omega)) ?_⟩
    refine ed_line T' (by omega) (Nat.mod_lt _ (by omega)) (fun c1 c2 c3 T2 hz => br_t rfl ⟨by decide, ?_⟩)
    have e5 : 1 + ((nI A >>> ((3 : Int32) &&& 31)) - (nI A >>> ((3 : Int32) &&& 31)) / 5 * 5) = nI (1 + A / 2 ^ 3 % 5) := by
      rw [show (5 : Int32) = nI 5 from rfl, mn_sh (d := 5) 3 (by decide) hA (by omega) (by omega)]
      exact nI_add 1 _
    have h5 : A / 2 ^ 3 % 5 < 5 := Nat.mod_lt _ (by omega)
    refine nm_r e5 (tp_72 hL (by omega) (by omega) (by omega) T2 hz (fun d1 d2 d3 T3 => hw (p + (1 + (1 + A / 2 ^ 3 % 5)), d1, d2, d3) ⟨by dsimp only; omega, T3⟩))
end
theorem i_vc (xs : Nat → Int32) (L : Nat) (hL : L ≤ 260) : wpL_law (fun r => r = 1) L xs := by
  refine ⟨9, 177, by omega, by omega, ?_⟩
  unfold wpX_init
  refine ⟨by omega, by omega, by omega, by omega, by omega, by omega, by omega, by omega, by omega, by omega, by omega, by omega, by omega, by omega, by omega, by omega, by omega, by omega, ?_⟩
  refine tp_cell (p := 0) hL (by omega) (fun v => ?_)
  obtain ⟨A, hA, eA⟩ := pk_andE v (m := 3) 2 (by decide)
  have e : 1 + (v &&& 3) = nI (1 + A) := by
    rw [eA]
    exact nI_add 1 A
  refine nm_r e (tp_23 hL (by omega) (by omega) ⟨by omega, by omega, fun l hl => by omega, fun t ht => by omega, fun j hj => ?_, fun u v hu hv => rfl⟩)
  show 0 ≤ (0 : Int32).toInt ∧ (0 : Int32).toInt ≤ 30
  decide
end
