section
/-- a small int as the program's int -/
def ej_i (z : Int) : Int32 := Int32.ofInt z
theorem ej_ti {z : Int} (h : -1000 ≤ z ∧ z ≤ 1000) : (ej_i z).toInt = z :=
  Int32.toInt_ofInt_of_le (by omega) (by omega)
theorem ej_leI {a b : Int} (ha : -1000 ≤ a ∧ a ≤ 1000) (hb : -1000 ≤ b ∧ b ≤ 1000) : ej_i a ≤ ej_i b ↔ a ≤ b := by
  rw [Int32.le_iff_toInt_le, ej_ti ha, ej_ti hb]
theorem ej_ltI {a b : Int} (ha : -1000 ≤ a ∧ a ≤ 1000) (hb : -1000 ≤ b ∧ b ≤ 1000) : ej_i a < ej_i b ↔ a < b := by
  rw [Int32.lt_iff_toInt_lt, ej_ti ha, ej_ti hb]
theorem ej_eqI {a b : Int} (ha : -1000 ≤ a ∧ a ≤ 1000) (hb : -1000 ≤ b ∧ b ≤ 1000) : ej_i a = ej_i b ↔ a = b := by
  constructor
  · intro h
    have e := congrArg Int32.toInt h
    rw [ej_ti ha, ej_ti hb] at e
    exact e
  · intro h
    rw [h]
theorem ej_of (x : Int32) : x = ej_i x.toInt := (Int32.ofInt_toInt x).symm
theorem ej_add (a b : Int) : ej_i a + ej_i b = ej_i (a + b) := (Int32.ofInt_add a b).symm
theorem ej_sub (a b : Int) : ej_i a - ej_i b = ej_i (a - b) := (Int32.ofInt_sub a b).symm
theorem ej_l0 : (0 : Int32) = ej_i 0 := by decide
theorem ej_l1 : (1 : Int32) = ej_i 1 := by decide
theorem ej_lm1 : (-1 : Int32) = ej_i (-1) := by decide
theorem ej_l40 : (40 : Int32) = ej_i 40 := by decide
theorem ej_p1 (a : Int) : ej_i a + 1 = ej_i (a + 1) := ej_add a 1
theorem ej_m1 (a : Int) : ej_i a + (-1) = ej_i (a - 1) := by
  rw [ej_lm1, ej_add]
  rfl
theorem ej_s1 (a : Int) : ej_i a - 1 = ej_i (a - 1) := ej_sub a 1
theorem ej_cl {a : Int} (h0 : 0 ≤ a) (h : a ≤ 1000) : (ej_i a).toNatClampNeg = a.toNat := by
  show (ej_i a).toInt.toNat = a.toNat
  rw [ej_ti ⟨by omega, h⟩]
theorem ej_in {a : Int} {n : Nat} (h0 : 0 ≤ a) (h : a < n) (h2 : a ≤ 1000) : vp_in (ej_i a) n := by
  rw [vp_in_iff, ej_ti ⟨by omega, h2⟩]
  exact ⟨h0, h⟩
theorem ej_b8 {a : Int} (h0 : -128 ≤ a) (h : a ≤ 127) : (ej_i a).toInt8.toInt32 = ej_i a := by
  have e1 : Int8.minValue.toInt = -128 := by decide
  have e2 : Int8.maxValue.toInt = 127 := by decide
  show (Int32.ofInt a).toInt8.toInt32 = Int32.ofInt a
  rw [Int32.toInt8_ofInt, Int8.toInt32_ofInt (by omega) (by omega)]
theorem ej_half {a : Int} (h0 : 0 ≤ a) (h : a ≤ 1000) : ej_i a >>> ((1 : Int32) &&& 31) = ej_i (a / 2) := by
  have e := pk_shr (ej_i a) ((1 : Int32) &&& 31) 1 (by decide)
  rw [ej_ti ⟨by omega, h⟩, Int.shiftRight_eq_div_pow] at e
  apply Int32.toInt_inj.mp
  rw [e, ej_ti ⟨by omega, by omega⟩]
  rfl
theorem ej_in0 : vp_in (0 : Int32) 8 := vp_in_iff.mpr (by decide)
theorem ej_in1 : vp_in (1 : Int32) 8 := vp_in_iff.mpr (by decide)
theorem ej_c0 : (0 : Int32).toNatClampNeg = 0 := by decide
theorem ej_c1 : (1 : Int32).toNatClampNeg = 1 := by decide
theorem ej_g0 {a : Nat → Int32} {x : Int32} (h : a 0 = x) : a (0 : Int32).toNatClampNeg = x := by
  rw [ej_c0]
  exact h
theorem ej_g1 {a : Nat → Int32} {x : Int32} (h : a 1 = x) : a (1 : Int32).toNatClampNeg = x := by
  rw [ej_c1]
  exact h
theorem ej_le {x y : Int32} {A B : Prop} (a b : Int) (f : a ≤ b → A) (g : b < a → B) (hx : x = ej_i a := by first | rfl | decide) (hy : y = ej_i b := by first | rfl | decide) (ha : -1000 ≤ a ∧ a ≤ 1000 := by omega) (hb : -1000 ≤ b ∧ b ≤ 1000 := by omega) : (x ≤ y → A) ∧ (¬ x ≤ y → B) := by
  subst hx
  subst hy
  exact ⟨fun h => f ((ej_leI ha hb).mp h), fun h => g (Int.not_le.mp (fun z => h ((ej_leI ha hb).mpr z)))⟩
theorem ej_lt {x y : Int32} {A B : Prop} (a b : Int) (f : a < b → A) (g : b ≤ a → B) (hx : x = ej_i a := by first | rfl | decide) (hy : y = ej_i b := by first | rfl | decide) (ha : -1000 ≤ a ∧ a ≤ 1000 := by omega) (hb : -1000 ≤ b ∧ b ≤ 1000 := by omega) : (x < y → A) ∧ (¬ x < y → B) := by
  subst hx
  subst hy
  exact ⟨fun h => f ((ej_ltI ha hb).mp h), fun h => g (Int.not_lt.mp (fun z => h ((ej_ltI ha hb).mpr z)))⟩
theorem ej_eq {x y : Int32} {A B : Prop} (a b : Int) (f : a = b → A) (g : a ≠ b → B) (hx : x = ej_i a := by first | rfl | decide) (hy : y = ej_i b := by first | rfl | decide) (ha : -1000 ≤ a ∧ a ≤ 1000 := by omega) (hb : -1000 ≤ b ∧ b ≤ 1000 := by omega) : (x = y → A) ∧ (¬ x = y → B) := by
  subst hx
  subst hy
  exact ⟨fun h => f ((ej_eqI ha hb).mp h), fun h => g (fun z => h ((ej_eqI ha hb).mpr z))⟩
/-- the last start at z or before it that is not shut, -1 for none -/
def ej_oab (a : Nat → Int32) (z y : Int) : Prop := -1 ≤ y ∧ (0 ≤ y → y ≤ z ∧ a y.toNat = 0) ∧ ∀ j : Nat, y < (j : Int) → (j : Int) ≤ z → ¬ a j = 0
/-- the first start at z or after it that is not shut -/
def ej_oaf (a : Nat → Int32) (z y : Int) : Prop := z ≤ y ∧ y ≤ 47 ∧ (y < 47 → a y.toNat = 0) ∧ ∀ j : Nat, z ≤ (j : Int) → (j : Int) < y → ¬ a j = 0
/-- packing cnt jobs backwards from d answers c -/
def ej_bf (a : Nat → Int32) (p d cnt c : Int) : Prop := (cnt = 0 ∧ c = 41) ∨ (cnt = 1 ∧ ej_oab a (d - p) c) ∨ (cnt = 2 ∧ ∃ y, ej_oab a (d - p) y ∧ ej_oab a (y - p) c)
theorem ej_oab_at {a : Nat → Int32} {z y : Int} (h0 : 0 ≤ y) (e : z = y) (h : a y.toNat = 0) : ej_oab a z y :=
  ⟨by omega, fun _ => ⟨by omega, h⟩, fun j h1 h2 => absurd h1 (by omega)⟩
/-- in a table that is shut strictly between lo and hi alone -/
theorem ej_oab_sh {a : Nat → Int32} {lo hi z y : Int} (hB : ∀ j : Nat, j < 48 → (a j = 0 ↔ ¬ (lo < (j : Int) ∧ (j : Int) < hi))) (hz : z < 48)
    (h : (0 ≤ z ∧ (hi ≤ z ∨ z ≤ lo) ∧ y = z) ∨ (lo < z ∧ z < hi ∧ 0 ≤ lo ∧ y = lo) ∨ ((z < 0 ∨ (lo < z ∧ z < hi ∧ lo < 0)) ∧ y = -1)) : ej_oab a z y := by
  refine ⟨by omega, fun g => ⟨by omega, (hB _ (by omega)).mpr (by omega)⟩, fun j h1 h2 h3 => ?_⟩
  have g := (hB j (by omega)).mp h3
  omega
theorem ej_bf_rng {a : Nat → Int32} {p d cnt c : Int} (hq : 1 ≤ p ∧ p ≤ 6) (hd : 0 ≤ d ∧ d ≤ 40) (h : ej_bf a p d cnt c) : -1 ≤ c ∧ c ≤ 41 ∧ 0 ≤ cnt ∧ cnt ≤ 2 := by
  rcases h with ⟨h1, h2⟩ | ⟨h1, h2, h3, _⟩ | ⟨h1, y, ⟨h2, h3, _⟩, h4, h5, _⟩
  · omega
  · by_cases g : 0 ≤ c
    · have g2 := (h3 g).1
      omega
    · omega
  · by_cases g : 0 ≤ c
    · have g2 := (h5 g).1
      by_cases g3 : 0 ≤ y
      · have g4 := (h3 g3).1
        omega
      · omega
    · omega
theorem ej_oab_neg {a : Nat → Int32} {z : Int} (h0 : z < 0) : ej_oab a z (-1) :=
  ⟨by omega, fun h => absurd h (by omega), fun j h1 h2 => absurd h2 (by omega)⟩
theorem ej_oaf_at {a : Nat → Int32} {z : Int} (h1 : z < 47) (h : a z.toNat = 0) : ej_oaf a z z :=
  ⟨by omega, by omega, fun _ => h, fun j h2 h3 => absurd h3 (by omega)⟩
end
section
section
variable {fl fc fa fe fk : Int32} {a1 a2 a3 a4 a5 a6 a7 a8 a9 a10 a11 : Nat → Int32}
theorem ej_sb12 {post : St2 → Prop} {hi : Int} (hh : -100 ≤ hi ∧ hi ≤ 100) : ∀ (n : Nat) (k : Int) (a10 : Nat → Int32), 0 ≤ k → k ≤ 100 → 0 < n → 48 < k + n →
    (∀ b : Nat → Int32, (∀ j : Nat, j < 48 → (b j = 0 ↔ a10 j = 0 ∧ ¬ (k ≤ (j : Int) ∧ (j : Int) < hi))) → post (fl, fc, fa, fe, fk, a1, a2, a3, a4, a5, a6, a7, a8, a9, b, a11)) →
    wX_shutBetween_12 post (ej_i hi) fl fc fa fe fk n (ej_i k) a1 a2 a3 a4 a5 a6 a7 a8 a9 a10 a11 := by
  intro n
  induction n with
  | zero =>
    intro k a10 _ _ h
    exact absurd h (by omega)
  | succ n ih =>
    intro k a10 hk hk2 _ hn hp
    refine ej_le hi k (fun z => hp a10 (fun j hj => ⟨fun h => ⟨h, by omega⟩, fun h => h.1⟩)) (fun z => ?_)
    refine ej_le 48 k (fun z2 => hp a10 (fun j hj => ⟨fun h => ⟨h, by omega⟩, fun h => h.1⟩)) (fun z2 => ?_)
    refine ⟨ej_in hk (by omega) (by omega), nm_e (nm_r (ej_p1 k) (ih (k + 1) _ (by omega) (by omega) (by omega) (by omega) (fun b hb => hp b (fun j hj => ?_))))⟩
    rw [hb j hj, ej_cl hk (by omega)]
    by_cases e : j = k.toNat
    · rw [e, pk_us]
      constructor
      · intro h
        exact absurd h.1 (by decide)
      · intro h
        exact (h.2 ⟨by omega, by omega⟩).elim
    · rw [pk_un e]
      constructor
      · intro h
        obtain ⟨h1, h2⟩ := h
        exact ⟨h1, by omega⟩
      · intro h
        obtain ⟨h1, h2⟩ := h
        exact ⟨h1, by omega⟩
theorem ej_sb12_2 {post : St2 → Prop} {hi : Int} (hh : -100 ≤ hi ∧ hi ≤ 100) : ∀ (n : Nat) (k : Int) (a10 : Nat → Int32), 0 ≤ k → k ≤ 100 → 0 < n → 48 < k + n →
    (∀ b : Nat → Int32, (∀ j : Nat, j < 48 → (b j = 0 ↔ a10 j = 0 ∧ ¬ (k ≤ (j : Int) ∧ (j : Int) < hi))) → post (fl, fc, fa, fe, fk, a1, a2, a3, a4, a5, a6, a7, a8, a9, b, a11)) →
    wX_shutBetween_2_12 post (ej_i hi) fl fc fa fe fk n (ej_i k) a1 a2 a3 a4 a5 a6 a7 a8 a9 a10 a11 := by
  intro n
  induction n with
  | zero =>
    intro k a10 _ _ h
    exact absurd h (by omega)
  | succ n ih =>
    intro k a10 hk hk2 _ hn hp
    refine ej_le hi k (fun z => hp a10 (fun j hj => ⟨fun h => ⟨h, by omega⟩, fun h => h.1⟩)) (fun z => ?_)
    refine ej_le 48 k (fun z2 => hp a10 (fun j hj => ⟨fun h => ⟨h, by omega⟩, fun h => h.1⟩)) (fun z2 => ?_)
    refine ⟨ej_in hk (by omega) (by omega), nm_e (nm_r (ej_p1 k) (ih (k + 1) _ (by omega) (by omega) (by omega) (by omega) (fun b hb => hp b (fun j hj => ?_))))⟩
    rw [hb j hj, ej_cl hk (by omega)]
    by_cases e : j = k.toNat
    · rw [e, pk_us]
      constructor
      · intro h
        exact absurd h.1 (by decide)
      · intro h
        exact (h.2 ⟨by omega, by omega⟩).elim
    · rw [pk_un e]
      constructor
      · intro h
        obtain ⟨h1, h2⟩ := h
        exact ⟨h1, by omega⟩
      · intro h
        obtain ⟨h1, h2⟩ := h
        exact ⟨h1, by omega⟩
theorem ej_shutBetween {post : St2 → Prop} {lo hi : Int} (hl : -100 ≤ lo ∧ lo ≤ 60) (hh : -100 ≤ hi ∧ hi ≤ 100)
    (hp : ∀ b : Nat → Int32, (∀ j : Nat, j < 48 → (b j = 0 ↔ a10 j = 0 ∧ ¬ (lo < (j : Int) ∧ (j : Int) < hi))) → post (fl, fc, fa, fe, fk, a1, a2, a3, a4, a5, a6, a7, a8, a9, b, a11)) :
    wpX_shutBetween post (fl, fc, fa, fe, fk, a1, a2, a3, a4, a5, a6, a7, a8, a9, a10, a11) (ej_i lo) (ej_i hi) := by
  refine ej_le 0 lo (fun z => nm_r (ej_p1 lo) ⟨100, ?_⟩) (fun z => ⟨100, ?_⟩)
  · refine ej_sb12 hh 100 (lo + 1) a10 (by omega) (by omega) (by omega) (by omega) (fun b hb => hp b (fun j hj => ?_))
    rw [hb j hj]
    constructor
    · intro h
      obtain ⟨h1, h2⟩ := h
      exact ⟨h1, by omega⟩
    · intro h
      obtain ⟨h1, h2⟩ := h
      exact ⟨h1, by omega⟩
  · refine ej_sb12 hh 100 0 a10 (by omega) (by omega) (by omega) (by omega) (fun b hb => hp b (fun j hj => ?_))
    rw [hb j hj]
    constructor
    · intro h
      obtain ⟨h1, h2⟩ := h
      exact ⟨h1, by omega⟩
    · intro h
      obtain ⟨h1, h2⟩ := h
      exact ⟨h1, by omega⟩
theorem ej_shutBetween_2 {post : St2 → Prop} {lo hi : Int} (hl : -100 ≤ lo ∧ lo ≤ 60) (hh : -100 ≤ hi ∧ hi ≤ 100)
    (hp : ∀ b : Nat → Int32, (∀ j : Nat, j < 48 → (b j = 0 ↔ a10 j = 0 ∧ ¬ (lo < (j : Int) ∧ (j : Int) < hi))) → post (fl, fc, fa, fe, fk, a1, a2, a3, a4, a5, a6, a7, a8, a9, b, a11)) :
    wpX_shutBetween_2 post (fl, fc, fa, fe, fk, a1, a2, a3, a4, a5, a6, a7, a8, a9, a10, a11) (ej_i lo) (ej_i hi) := by
  refine ej_le 0 lo (fun z => nm_r (ej_p1 lo) ⟨100, ?_⟩) (fun z => ⟨100, ?_⟩)
  · refine ej_sb12_2 hh 100 (lo + 1) a10 (by omega) (by omega) (by omega) (by omega) (fun b hb => hp b (fun j hj => ?_))
    rw [hb j hj]
    constructor
    · intro h
      obtain ⟨h1, h2⟩ := h
      exact ⟨h1, by omega⟩
    · intro h
      obtain ⟨h1, h2⟩ := h
      exact ⟨h1, by omega⟩
  · refine ej_sb12_2 hh 100 0 a10 (by omega) (by omega) (by omega) (by omega) (fun b hb => hp b (fun j hj => ?_))
    rw [hb j hj]
    constructor
    · intro h
      obtain ⟨h1, h2⟩ := h
      exact ⟨h1, by omega⟩
    · intro h
      obtain ⟨h1, h2⟩ := h
      exact ⟨h1, by omega⟩
theorem ej_blk23 {post : St2 → Prop} (h4 : ∀ j, j < 4 → a4 j = 0) (hp : post (fl, fc, fa, fe, fk, a1, a2, a3, a4, a5, a6, a7, a8, a9, a10, a11)) : ∀ (n : Nat) (k : Int), 0 ≤ k → k ≤ 4 → 4 < k + n → wX_shutBlocks_23 post n (ej_i k) fl fc fa fe fk a1 a2 a3 a4 a5 a6 a7 a8 a9 a10 a11 := by
  intro n
  induction n with
  | zero =>
    intro k _ h1 h2
    exact absurd h2 (by omega)
  | succ n ih =>
    intro k hk hk2 hn
    refine ej_le 4 k (fun z => hp) (fun z => ⟨ej_in hk (by omega) (by omega), br_t ?_ (nm_r (ej_p1 k) (ih (k + 1) (by omega) (by omega) (by omega)))⟩)
    rw [ej_cl hk (by omega)]
    exact h4 _ (by omega)
theorem ej_blk23_2 {post : St2 → Prop} (h4 : ∀ j, j < 4 → a4 j = 0) (hp : post (fl, fc, fa, fe, fk, a1, a2, a3, a4, a5, a6, a7, a8, a9, a10, a11)) : ∀ (n : Nat) (k : Int), 0 ≤ k → k ≤ 4 → 4 < k + n → wX_shutBlocks_2_23 post n (ej_i k) fl fc fa fe fk a1 a2 a3 a4 a5 a6 a7 a8 a9 a10 a11 := by
  intro n
  induction n with
  | zero =>
    intro k _ h1 h2
    exact absurd h2 (by omega)
  | succ n ih =>
    intro k hk hk2 hn
    refine ej_le 4 k (fun z => hp) (fun z => ⟨ej_in hk (by omega) (by omega), br_t ?_ (nm_r (ej_p1 k) (ih (k + 1) (by omega) (by omega) (by omega)))⟩)
    rw [ej_cl hk (by omega)]
    exact h4 _ (by omega)
theorem ej_blk2 {post : St2 → Prop} (h4 : ∀ j, j < 4 → a4 j = 0) (hp : ∀ b : Nat → Int32, (∀ j : Nat, j < 48 → b j = 0) → post (fl, fc, fa, fe, fk, a1, a2, a3, a4, a5, a6, a7, a8, a9, b, a11)) : ∀ (n : Nat) (k : Int) (a10 : Nat → Int32), 0 ≤ k → k ≤ 48 → 48 < k + n → (∀ j : Nat, (j : Int) < k → a10 j = 0) → wX_shutBlocks_2 post fl fc fa fe fk n (ej_i k) a1 a2 a3 a4 a5 a6 a7 a8 a9 a10 a11 := by
  intro n
  induction n with
  | zero =>
    intro k a10 _ h1 h2
    exact absurd h2 (by omega)
  | succ n ih =>
    intro k a10 hk hk2 hn hz
    refine ej_le 48 k (fun z => ⟨5, ?_⟩) (fun z => ⟨ej_in hk (by omega) (by omega), nm_e (nm_r (ej_p1 k) (ih (k + 1) _ (by omega) (by omega) (by omega) (fun j hj => ?_)))⟩)
    · exact ej_blk23 h4 (hp a10 (fun j hj => hz j (by omega))) 5 0 (by omega) (by omega) (by omega)
    · rw [ej_cl hk (by omega)]
      by_cases e : j = k.toNat
      · rw [e, pk_us]
      · rw [pk_un e]
        exact hz j (by omega)
theorem ej_blk2_2 {post : St2 → Prop} (h4 : ∀ j, j < 4 → a4 j = 0) (hp : ∀ b : Nat → Int32, (∀ j : Nat, j < 48 → b j = 0) → post (fl, fc, fa, fe, fk, a1, a2, a3, a4, a5, a6, a7, a8, a9, b, a11)) : ∀ (n : Nat) (k : Int) (a10 : Nat → Int32), 0 ≤ k → k ≤ 48 → 48 < k + n → (∀ j : Nat, (j : Int) < k → a10 j = 0) → wX_shutBlocks_2_2 post fl fc fa fe fk n (ej_i k) a1 a2 a3 a4 a5 a6 a7 a8 a9 a10 a11 := by
  intro n
  induction n with
  | zero =>
    intro k a10 _ h1 h2
    exact absurd h2 (by omega)
  | succ n ih =>
    intro k a10 hk hk2 hn hz
    refine ej_le 48 k (fun z => ⟨5, ?_⟩) (fun z => ⟨ej_in hk (by omega) (by omega), nm_e (nm_r (ej_p1 k) (ih (k + 1) _ (by omega) (by omega) (by omega) (fun j hj => ?_)))⟩)
    · exact ej_blk23_2 h4 (hp a10 (fun j hj => hz j (by omega))) 5 0 (by omega) (by omega) (by omega)
    · rw [ej_cl hk (by omega)]
      by_cases e : j = k.toNat
      · rw [e, pk_us]
      · rw [pk_un e]
        exact hz j (by omega)
theorem ej_shutBlocks {post : St2 → Prop} (h4 : ∀ j, j < 4 → a4 j = 0) (hp : ∀ b : Nat → Int32, (∀ j : Nat, j < 48 → b j = 0) → post (fl, fc, fa, fe, fk, a1, a2, a3, a4, a5, a6, a7, a8, a9, b, a11)) : wpX_shutBlocks post (fl, fc, fa, fe, fk, a1, a2, a3, a4, a5, a6, a7, a8, a9, a10, a11) :=
  ⟨49, ej_blk2 h4 hp 49 0 a10 (by omega) (by omega) (by omega) (fun j hj => absurd hj (by omega))⟩
theorem ej_shutBlocks_2 {post : St2 → Prop} (h4 : ∀ j, j < 4 → a4 j = 0) (hp : ∀ b : Nat → Int32, (∀ j : Nat, j < 48 → b j = 0) → post (fl, fc, fa, fe, fk, a1, a2, a3, a4, a5, a6, a7, a8, a9, b, a11)) : wpX_shutBlocks_2 post (fl, fc, fa, fe, fk, a1, a2, a3, a4, a5, a6, a7, a8, a9, a10, a11) :=
  ⟨49, ej_blk2_2 h4 hp 49 0 a10 (by omega) (by omega) (by omega) (fun j hj => absurd hj (by omega))⟩
theorem ej_oab2 {post : Int32 → Prop} {y : Int} (hp : post (ej_i y)) : ∀ (n : Nat) (z : Int), -100 ≤ z → z < 48 → 0 < n → z + 1 < n → ej_oab a10 z y → wX_openAtOrBefore_2 post fl fc fa fe fk a1 a2 a3 a4 a5 a6 a7 a8 a9 a10 a11 n (ej_i z) := by
  intro n
  induction n with
  | zero =>
    intro z _ _ h
    exact absurd h (by omega)
  | succ n ih =>
    intro z hz1 hz2 _ hn ho
    obtain ⟨o1, o2, o3⟩ := ho
    refine ej_lt z 0 (fun c => ?_) (fun c => ⟨ej_in c (by omega) (by omega), ?_⟩)
    · have e : y = -1 := by
        by_cases g : 0 ≤ y
        · have g2 := (o2 g).1
          omega
        · omega
      rw [e] at hp
      exact ej_le 0 z (fun g => absurd g (by omega)) (fun _ => hp)
    · rw [ej_cl c (by omega)]
      refine br_c (fun g => ?_) (fun g => ?_)
      · have e : y = z := by
          by_cases g1 : y < z
          · exact absurd g (o3 z.toNat (by omega) (by omega))
          · by_cases g2 : 0 ≤ y
            · have g3 := (o2 g2).1
              omega
            · omega
        rw [e] at hp
        exact ej_le 0 z (fun _ => hp) (fun g => absurd g (by omega))
      · refine nm_r (ej_m1 z) (ih (z - 1) (by omega) (by omega) (by omega) (by omega) ⟨o1, fun g2 => ⟨?_, (o2 g2).2⟩, fun j h1 h2 => o3 j h1 (by omega)⟩)
        have g3 := o2 g2
        by_cases g4 : y = z
        · rw [g4] at g3
          exact absurd g3.2 g
        · have g5 := g3.1
          omega
theorem ej_openAtOrBefore {post : Int32 → Prop} {z y : Int} (hz : -100 ≤ z ∧ z < 48) (ho : ej_oab a10 z y) (hp : post (ej_i y)) : wpX_openAtOrBefore post (fl, fc, fa, fe, fk, a1, a2, a3, a4, a5, a6, a7, a8, a9, a10, a11) (ej_i z) :=
  ⟨100, ej_oab2 hp 100 z hz.1 hz.2 (by omega) (by omega) ho⟩
theorem ej_oaf2 {post : Int32 → Prop} {y : Int} (hp : post (ej_i y)) : ∀ (n : Nat) (z : Int), 0 ≤ z → 0 < n → 47 < z + n → ej_oaf a10 z y → wX_openAtOrAfter_2 post fl fc fa fe fk a1 a2 a3 a4 a5 a6 a7 a8 a9 a10 a11 n (ej_i z) := by
  intro n
  induction n with
  | zero =>
    intro z _ h
    exact absurd h (by omega)
  | succ n ih =>
    intro z hz _ hn ho
    obtain ⟨o1, o2, o3, o4⟩ := ho
    refine ej_le 47 z (fun c => ?_) (fun c => ⟨ej_in hz (by omega) (by omega), ?_⟩)
    · have e : y = z := by omega
      rw [e] at hp
      exact hp
    · rw [ej_cl hz (by omega)]
      refine br_c (fun g => ?_) (fun g => ?_)
      · have e : y = z := by
          by_cases g1 : z < y
          · exact absurd g (o4 z.toNat (by omega) (by omega))
          · omega
        rw [e] at hp
        exact hp
      · refine nm_r (ej_p1 z) (ih (z + 1) (by omega) (by omega) (by omega) ⟨?_, o2, o3, fun j h1 h2 => o4 j (by omega) h2⟩)
        by_cases g4 : y = z
        · have g5 := o3 (by omega)
          rw [g4] at g5
          exact absurd g5 g
        · omega
theorem ej_openAtOrAfter {post : Int32 → Prop} {z y : Int} (hz : 0 ≤ z) (ho : ej_oaf a10 z y) (hp : post (ej_i y)) : wpX_openAtOrAfter post (fl, fc, fa, fe, fk, a1, a2, a3, a4, a5, a6, a7, a8, a9, a10, a11) (ej_i z) :=
  ⟨100, ej_oaf2 hp 100 z hz (by omega) (by omega) ho⟩
end
end
section
section
variable {fl fc fa fe fk : Int32} {a1 a2 a3 a4 a5 a6 a7 a8 a9 a10 a11 : Nat → Int32}
/- the greatest release below, over 0, 1, 2 jobs -/
theorem ej_grb0 {post : Int32 → Prop} {ab : Int32} (hp : post (-1)) : wpX_greatestReleaseBelow post (fl, fc, 0, fe, fk, a1, a2, a3, a4, a5, a6, a7, a8, a9, a10, a11) ab :=
  ⟨1, ej_le 0 0 (fun _ => hp) (fun z => absurd z (by omega))⟩
theorem ej_grb1 {post : Int32 → Prop} {f0 ab b : Int} (hf0 : 0 ≤ f0 ∧ f0 ≤ 40) (hab : 0 ≤ ab ∧ ab ≤ 41) (h0 : a7 0 = ej_i f0)
    (s0 : f0 < ab → f0 = b) (s1 : ab ≤ f0 → b = -1) (hp : post (ej_i b)) : wpX_greatestReleaseBelow post (fl, fc, 1, fe, fk, a1, a2, a3, a4, a5, a6, a7, a8, a9, a10, a11) (ej_i ab) := by
  have e1 : ∀ v : Int, v = b → wX_greatestReleaseBelow_4 post (ej_i ab) fl fc 1 fe fk a1 a2 a3 a4 a5 a6 a7 a8 a9 a10 a11 1 (ej_i v) 1 := fun v hv =>
    ej_le 1 1 (fun _ => by rw [hv]; exact hp) (fun z => absurd z (by omega))
  exact ⟨2, ej_le 1 0 (fun z => absurd z (by omega)) (fun _ => ⟨ej_in0,
    ej_le ab f0 (fun c => nm_r (e' := 1) (by decide) (by rw [ej_lm1]; exact e1 (-1) (by omega)))
      (fun c => ⟨ej_in0, ej_le f0 (-1) (fun c2 => absurd c2 (by omega)) (fun c2 => ⟨ej_in0, nm_r (ej_g0 h0) (nm_r (e' := 1) (by decide) (e1 f0 (by omega)))⟩) (hx := ej_g0 h0)⟩) (hy := ej_g0 h0)⟩)⟩
theorem ej_grb2 {post : Int32 → Prop} {f0 f1 ab b : Int} (hf0 : 0 ≤ f0 ∧ f0 ≤ 40) (hf1 : 0 ≤ f1 ∧ f1 ≤ 40) (hab : 0 ≤ ab ∧ ab ≤ 41) (h0 : a7 0 = ej_i f0) (h1 : a7 1 = ej_i f1)
    (hb : -1 ≤ b) (s0 : f0 < ab → f0 ≤ b) (s1 : f1 < ab → f1 ≤ b) (s2 : b = -1 ∨ (b = f0 ∧ f0 < ab) ∨ (b = f1 ∧ f1 < ab)) (hp : post (ej_i b)) : wpX_greatestReleaseBelow post (fl, fc, 2, fe, fk, a1, a2, a3, a4, a5, a6, a7, a8, a9, a10, a11) (ej_i ab) := by
  have e2 : ∀ v : Int, v = b → wX_greatestReleaseBelow_4 post (ej_i ab) fl fc 2 fe fk a1 a2 a3 a4 a5 a6 a7 a8 a9 a10 a11 1 (ej_i v) 2 := fun v hv =>
    ej_le 2 2 (fun _ => by rw [hv]; exact hp) (fun z => absurd z (by omega))
  have e1 : ∀ v : Int, (v = -1 ∧ ab ≤ f0) ∨ (v = f0 ∧ f0 < ab) → wX_greatestReleaseBelow_4 post (ej_i ab) fl fc 2 fe fk a1 a2 a3 a4 a5 a6 a7 a8 a9 a10 a11 2 (ej_i v) 1 := fun v hv =>
    ej_le 2 1 (fun z => absurd z (by omega)) (fun _ => ⟨ej_in1,
      ej_le ab f1 (fun c => nm_r (e' := 2) (by decide) (e2 v (by omega)))
        (fun c => ⟨ej_in1, ej_le f1 v (fun c2 => nm_r (e' := 2) (by decide) (e2 v (by omega))) (fun c2 => ⟨ej_in1, nm_r (ej_g1 h1) (nm_r (e' := 2) (by decide) (e2 f1 (by omega)))⟩) (hx := ej_g1 h1)⟩) (hy := ej_g1 h1)⟩)
  exact ⟨3, ej_le 2 0 (fun z => absurd z (by omega)) (fun _ => ⟨ej_in0,
    ej_le ab f0 (fun c => nm_r (e' := 1) (by decide) (by rw [ej_lm1]; exact e1 (-1) (by omega)))
      (fun c => ⟨ej_in0, ej_le f0 (-1) (fun c2 => absurd c2 (by omega)) (fun c2 => ⟨ej_in0, nm_r (ej_g0 h0) (nm_r (e' := 1) (by decide) (e1 f0 (by omega)))⟩) (hx := ej_g0 h0)⟩) (hy := ej_g0 h0)⟩)⟩
/- the least release of those that wait, over 1, 2 jobs -/
theorem ej_lwr1 {post : Int32 → Prop} {f0 : Int} (hf0 : 0 ≤ f0 ∧ f0 ≤ 40) (h0 : a7 0 = ej_i f0) (w0 : a9 0 = 0) (hp : post (ej_i f0)) : wpX_leastWaitingRelease post (fl, fc, 1, fe, fk, a1, a2, a3, a4, a5, a6, a7, a8, a9, a10, a11) :=
  ⟨2, ej_le 1 0 (fun z => absurd z (by omega)) (fun _ => ⟨ej_in0, br_t (ej_g0 w0) ⟨ej_in0,
    ej_le 41 f0 (fun c => absurd c (by omega)) (fun c => ⟨ej_in0, nm_r (ej_g0 h0) (nm_r (e' := 1) (by decide) (ej_le 1 1 (fun _ => hp) (fun z => absurd z (by omega))))⟩) (hy := ej_g0 h0)⟩⟩)⟩
theorem ej_lwr2 {post : Int32 → Prop} {f0 f1 w0 w1 b : Int} (hf0 : 0 ≤ f0 ∧ f0 ≤ 40) (hf1 : 0 ≤ f1 ∧ f1 ≤ 40) (h0 : a7 0 = ej_i f0) (h1 : a7 1 = ej_i f1) (hw0 : w0 = 0 ∨ w0 = 1) (hw1 : w1 = 0 ∨ w1 = 1) (g0 : a9 0 = ej_i w0) (g1 : a9 1 = ej_i w1)
    (hb : b ≤ 41) (s0 : w0 = 0 → b ≤ f0) (s1 : w1 = 0 → b ≤ f1) (s2 : b = 41 ∨ (b = f0 ∧ w0 = 0) ∨ (b = f1 ∧ w1 = 0)) (hp : post (ej_i b)) : wpX_leastWaitingRelease post (fl, fc, 2, fe, fk, a1, a2, a3, a4, a5, a6, a7, a8, a9, a10, a11) := by
  have e2 : ∀ v : Int, v = b → wX_leastWaitingRelease_5 post fl fc 2 fe fk a1 a2 a3 a4 a5 a6 a7 a8 a9 a10 a11 1 (ej_i v) 2 := fun v hv =>
    ej_le 2 2 (fun _ => by rw [hv]; exact hp) (fun z => absurd z (by omega))
  have e1 : ∀ v : Int, (v = 41 ∧ w0 = 1) ∨ (v = f0 ∧ w0 = 0) → wX_leastWaitingRelease_5 post fl fc 2 fe fk a1 a2 a3 a4 a5 a6 a7 a8 a9 a10 a11 2 (ej_i v) 1 := fun v hv =>
    ej_le 2 1 (fun z => absurd z (by omega)) (fun _ => ⟨ej_in1,
      ej_eq w1 0 (fun c => ⟨ej_in1, ej_le v f1 (fun c2 => nm_r (e' := 2) (by decide) (e2 v (by omega))) (fun c2 => ⟨ej_in1, nm_r (ej_g1 h1) (nm_r (e' := 2) (by decide) (e2 f1 (by omega)))⟩) (hy := ej_g1 h1)⟩)
        (fun c => nm_r (e' := 2) (by decide) (e2 v (by omega))) (hx := ej_g1 g1)⟩)
  exact ⟨3, ej_le 2 0 (fun z => absurd z (by omega)) (fun _ => ⟨ej_in0,
      ej_eq w0 0 (fun c => ⟨ej_in0, ej_le 41 f0 (fun c2 => absurd c2 (by omega)) (fun c2 => ⟨ej_in0, nm_r (ej_g0 h0) (nm_r (e' := 1) (by decide) (e1 f0 (by omega)))⟩) (hy := ej_g0 h0)⟩)
        (fun c => nm_r (e' := 1) (by decide) (e1 41 (by omega))) (hx := ej_g0 g0)⟩)⟩
/- the most urgent, over 1, 2 jobs -/
theorem ej_mu1 {post : Int32 → Prop} {f0 t : Int} (hf0 : 0 ≤ f0 ∧ f0 ≤ 40) (ht : f0 ≤ t ∧ t ≤ 100) (h0 : a7 0 = ej_i f0) (w0 : a9 0 = 0) (hp : post 0) : wpX_mostUrgent post (fl, fc, 1, fe, fk, a1, a2, a3, a4, a5, a6, a7, a8, a9, a10, a11) (ej_i t) :=
  ⟨2, ej_le 1 0 (fun z => absurd z (by omega)) (fun _ => ⟨ej_in0, br_t (ej_g0 w0) ⟨ej_in0,
    ej_lt t f0 (fun c => absurd c (by omega)) (fun c => ej_lt (-1) 0 (fun _ => nm_r (e' := 1) (by decide) (ej_le 1 1 (fun _ => hp) (fun z => absurd z (by omega)))) (fun z => absurd z (by omega))) (hy := ej_g0 h0)⟩⟩)⟩
theorem ej_mu2 {post : Int32 → Prop} {f0 f1 u0 u1 w0 w1 t b : Int} (hf0 : 0 ≤ f0 ∧ f0 ≤ 40) (hf1 : 0 ≤ f1 ∧ f1 ≤ 40) (hu0 : 0 ≤ u0 ∧ u0 ≤ 40) (hu1 : 0 ≤ u1 ∧ u1 ≤ 40) (ht : 0 ≤ t ∧ t ≤ 100)
    (h0 : a7 0 = ej_i f0) (h1 : a7 1 = ej_i f1) (k0 : a8 0 = ej_i u0) (k1 : a8 1 = ej_i u1) (hw0 : w0 = 0 ∨ w0 = 1) (hw1 : w1 = 0 ∨ w1 = 1) (g0 : a9 0 = ej_i w0) (g1 : a9 1 = ej_i w1)
    (s : (b = 0 ∧ w0 = 0 ∧ f0 ≤ t ∧ (w1 = 1 ∨ t < f1 ∨ u0 ≤ u1)) ∨ (b = 1 ∧ w1 = 0 ∧ f1 ≤ t ∧ (w0 = 1 ∨ t < f0 ∨ u1 < u0))) (hp : post (ej_i b)) : wpX_mostUrgent post (fl, fc, 2, fe, fk, a1, a2, a3, a4, a5, a6, a7, a8, a9, a10, a11) (ej_i t) := by
  have e2 : ∀ v : Int, v = b → wX_mostUrgent_4 post (ej_i t) fl fc 2 fe fk a1 a2 a3 a4 a5 a6 a7 a8 a9 a10 a11 1 (ej_i v) 2 := fun v hv =>
    ej_le 2 2 (fun _ => by rw [hv]; exact hp) (fun z => absurd z (by omega))
  have e1n : (w0 = 1 ∨ t < f0) → wX_mostUrgent_4 post (ej_i t) fl fc 2 fe fk a1 a2 a3 a4 a5 a6 a7 a8 a9 a10 a11 2 (-1) 1 := fun hv =>
    ej_le 2 1 (fun z => absurd z (by omega)) (fun _ => ⟨ej_in1,
      ej_eq w1 0 (fun c => ⟨ej_in1, ej_lt t f1 (fun c2 => absurd c2 (by omega)) (fun c2 => ej_lt (-1) 0 (fun _ => nm_r (e' := 2) (by decide) (e2 1 (by omega))) (fun z => absurd z (by omega))) (hy := ej_g1 h1)⟩)
        (fun c => absurd c (by omega)) (hx := ej_g1 g1)⟩)
  have e1z : (w0 = 0 ∧ f0 ≤ t) → wX_mostUrgent_4 post (ej_i t) fl fc 2 fe fk a1 a2 a3 a4 a5 a6 a7 a8 a9 a10 a11 2 0 1 := fun hv =>
    ej_le 2 1 (fun z => absurd z (by omega)) (fun _ => ⟨ej_in1,
      ej_eq w1 0 (fun c => ⟨ej_in1, ej_lt t f1 (fun c2 => nm_r (e' := 2) (by decide) (e2 0 (by omega)))
          (fun c2 => ej_lt 0 0 (fun z => absurd z (by omega)) (fun _ => ⟨ej_in1, ej_in0, ej_le u0 u1 (fun c3 => nm_r (e' := 2) (by decide) (e2 0 (by omega))) (fun c3 => nm_r (e' := 2) (by decide) (e2 1 (by omega))) (hx := ej_g0 k0) (hy := ej_g1 k1)⟩)) (hy := ej_g1 h1)⟩)
        (fun c => nm_r (e' := 2) (by decide) (e2 0 (by omega))) (hx := ej_g1 g1)⟩)
  exact ⟨3, ej_le 2 0 (fun z => absurd z (by omega)) (fun _ => ⟨ej_in0,
      ej_eq w0 0 (fun c => ⟨ej_in0, ej_lt t f0 (fun c2 => nm_r (e' := 1) (by decide) (e1n (by omega)))
          (fun c2 => ej_lt (-1) 0 (fun _ => nm_r (e' := 1) (by decide) (e1z (by omega))) (fun z => absurd z (by omega))) (hy := ej_g0 h0)⟩)
        (fun c => nm_r (e' := 1) (by decide) (e1n (by omega))) (hx := ej_g0 g0)⟩)⟩
/- how many lie within, over 1, 2 jobs -/
theorem ej_cw1 {post : Int32 → Prop} {f0 u0 r d c : Int} (hf0 : 0 ≤ f0 ∧ f0 ≤ 40) (hu0 : 0 ≤ u0 ∧ u0 ≤ 40) (hr : 0 ≤ r ∧ r ≤ 40) (hd : 0 ≤ d ∧ d ≤ 40) (h0 : a7 0 = ej_i f0) (k0 : a8 0 = ej_i u0)
    (s0 : (c = 1 ∧ r ≤ f0 ∧ u0 ≤ d) ∨ (c = 0 ∧ (f0 < r ∨ d < u0))) (hp : post (ej_i c)) : wpX_countWithin post (fl, fc, 1, fe, fk, a1, a2, a3, a4, a5, a6, a7, a8, a9, a10, a11) (ej_i r) (ej_i d) := by
  have e1 : ∀ v : Int, v = c → wX_countWithin_5 post (ej_i r) (ej_i d) fl fc 1 fe fk a1 a2 a3 a4 a5 a6 a7 a8 a9 a10 a11 1 (ej_i v) 1 := fun v hv =>
    ej_le 1 1 (fun _ => by rw [hv]; exact hp) (fun z => absurd z (by omega))
  exact ⟨2, ej_le 1 0 (fun z => absurd z (by omega)) (fun _ => ⟨ej_in0,
    ej_lt f0 r (fun c1 => nm_r (e' := 1) (by decide) (e1 0 (by omega)))
      (fun c1 => ⟨ej_in0, ej_lt d u0 (fun c2 => nm_r (e' := 1) (by decide) (e1 0 (by omega))) (fun c2 => nm_r (e' := ej_i 1) (by decide) (nm_r (e' := 1) (by decide) (e1 1 (by omega)))) (hy := ej_g0 k0)⟩) (hx := ej_g0 h0)⟩)⟩
theorem ej_cw2 {post : Int32 → Prop} {f0 u0 f1 u1 r d c0 c1 : Int} (hf0 : 0 ≤ f0 ∧ f0 ≤ 40) (hf1 : 0 ≤ f1 ∧ f1 ≤ 40) (hu0 : 0 ≤ u0 ∧ u0 ≤ 40) (hu1 : 0 ≤ u1 ∧ u1 ≤ 40) (hr : 0 ≤ r ∧ r ≤ 40) (hd : 0 ≤ d ∧ d ≤ 40)
    (h0 : a7 0 = ej_i f0) (h1 : a7 1 = ej_i f1) (k0 : a8 0 = ej_i u0) (k1 : a8 1 = ej_i u1)
    (s0 : (c0 = 1 ∧ r ≤ f0 ∧ u0 ≤ d) ∨ (c0 = 0 ∧ (f0 < r ∨ d < u0))) (s1 : (c1 = 1 ∧ r ≤ f1 ∧ u1 ≤ d) ∨ (c1 = 0 ∧ (f1 < r ∨ d < u1))) (hp : post (ej_i (c0 + c1))) : wpX_countWithin post (fl, fc, 2, fe, fk, a1, a2, a3, a4, a5, a6, a7, a8, a9, a10, a11) (ej_i r) (ej_i d) := by
  have e2 : ∀ v : Int, v = c0 + c1 → wX_countWithin_5 post (ej_i r) (ej_i d) fl fc 2 fe fk a1 a2 a3 a4 a5 a6 a7 a8 a9 a10 a11 1 (ej_i v) 2 := fun v hv =>
    ej_le 2 2 (fun _ => by rw [hv]; exact hp) (fun z => absurd z (by omega))
  have e1 : ∀ v : Int, v = c0 → wX_countWithin_5 post (ej_i r) (ej_i d) fl fc 2 fe fk a1 a2 a3 a4 a5 a6 a7 a8 a9 a10 a11 2 (ej_i v) 1 := fun v hv =>
    ej_le 2 1 (fun z => absurd z (by omega)) (fun _ => ⟨ej_in1,
      ej_lt f1 r (fun c1 => nm_r (e' := 2) (by decide) (e2 v (by omega)))
        (fun c1 => ⟨ej_in1, ej_lt d u1 (fun c2 => nm_r (e' := 2) (by decide) (e2 v (by omega))) (fun c2 => nm_r (ej_p1 v) (nm_r (e' := 2) (by decide) (e2 (v + 1) (by omega)))) (hy := ej_g1 k1)⟩) (hx := ej_g1 h1)⟩)
  exact ⟨3, ej_le 2 0 (fun z => absurd z (by omega)) (fun _ => ⟨ej_in0,
    ej_lt f0 r (fun c1 => nm_r (e' := 1) (by decide) (e1 0 (by omega)))
      (fun c1 => ⟨ej_in0, ej_lt d u0 (fun c2 => nm_r (e' := 1) (by decide) (e1 0 (by omega))) (fun c2 => nm_r (e' := ej_i 1) (by decide) (nm_r (e' := 1) (by decide) (e1 1 (by omega)))) (hy := ej_g0 k0)⟩) (hx := ej_g0 h0)⟩)⟩
/- packing backwards -/
theorem ej_backFrom {post : Int32 → Prop} {p d cnt c : Int} (hq : 1 ≤ p ∧ p ≤ 6) (hd : 0 ≤ d ∧ d ≤ 40) (h : ej_bf a10 p d cnt c) (hp : post (ej_i c)) : wpX_backFrom post (ej_i p, fc, fa, fe, fk, a1, a2, a3, a4, a5, a6, a7, a8, a9, a10, a11) (ej_i d) (ej_i cnt) := by
  rcases h with ⟨rfl, rfl⟩ | ⟨rfl, h⟩ | ⟨rfl, y, h, h2⟩
  · exact ej_eq 0 0 (fun _ => hp) (fun z => absurd rfl z)
  · refine ej_eq 1 0 (fun z => absurd z (by omega)) (fun _ => ⟨2, ej_le 1 0 (fun z => absurd z (by omega)) (fun _ => ?_)⟩)
    rw [ej_sub]
    exact ej_openAtOrBefore ⟨by omega, by omega⟩ h (nm_r (e' := 1) (by decide) (ej_le 1 1 (fun _ => hp) (fun z => absurd z (by omega))))
  · have hy : -1 ≤ y ∧ y ≤ 40 := by
      obtain ⟨o1, o2, o3⟩ := h
      by_cases g : 0 ≤ y
      · have g2 := (o2 g).1
        omega
      · omega
    refine ej_eq 2 0 (fun z => absurd z (by omega)) (fun _ => ⟨3, ej_le 2 0 (fun z => absurd z (by omega)) (fun _ => ?_)⟩)
    rw [ej_sub]
    refine ej_openAtOrBefore ⟨by omega, by omega⟩ h (nm_r (e' := 1) (by decide) (ej_le 2 1 (fun z => absurd z (by omega)) (fun _ => ?_)))
    rw [ej_sub]
    exact ej_openAtOrBefore ⟨by omega, by omega⟩ h2 (nm_r (e' := 2) (by decide) (ej_le 2 2 (fun _ => hp) (fun z => absurd z (by omega))))
end
end
section
section
variable {fl fc fa fe fk : Int32} {a1 a2 a3 a4 a5 a6 a7 a8 a9 a10 a11 : Nat → Int32}
theorem ej_sbE {post : Int32 → St2 → Prop} {p r cr : Int} {x3 : Int32} (hx : fa ≤ x3) (hq : 1 ≤ p ∧ p ≤ 6) (hr : 0 ≤ r ∧ r ≤ 40) (hc : -1 ≤ cr ∧ cr ≤ 41)
    (hf : cr < r → post 0 (ej_i p, fc, fa, fe, fk, a1, a2, a3, a4, a5, a6, a7, a8, a9, a10, a11)) (hk : r + p ≤ cr → post 1 (ej_i p, fc, fa, fe, fk, a1, a2, a3, a4, a5, a6, a7, a8, a9, a10, a11))
    (hs : r ≤ cr → cr < r + p → ∀ b : Nat → Int32, (∀ j : Nat, j < 48 → (b j = 0 ↔ a10 j = 0 ∧ ¬ (cr - p < (j : Int) ∧ (j : Int) < r))) → post 1 (ej_i p, fc, fa, fe, fk, a1, a2, a3, a4, a5, a6, a7, a8, a9, b, a11)) (n : Nat) :
    wX_shutBefore_5 post (ej_i r) (ej_i p) fc fa fe fk a1 a2 a3 a4 a5 a6 a7 a8 a9 a10 a11 (n + 1) (ej_i cr) x3 := by
  refine br_t hx (ej_le r cr (fun c => ej_le (r + p) cr hk (fun c2 => ?_) (hx := ej_add r p)) hf)
  rw [ej_sub]
  exact ej_shutBetween ⟨by omega, by omega⟩ ⟨by omega, by omega⟩ (hs c c2)
theorem ej_sbE_2 {post : Int32 → St2 → Prop} {p r cr : Int} {x3 : Int32} (hx : fa ≤ x3) (hq : 1 ≤ p ∧ p ≤ 6) (hr : 0 ≤ r ∧ r ≤ 40) (hc : -1 ≤ cr ∧ cr ≤ 41)
    (hf : cr < r → post 0 (ej_i p, fc, fa, fe, fk, a1, a2, a3, a4, a5, a6, a7, a8, a9, a10, a11)) (hk : r + p ≤ cr → post 1 (ej_i p, fc, fa, fe, fk, a1, a2, a3, a4, a5, a6, a7, a8, a9, a10, a11))
    (hs : r ≤ cr → cr < r + p → ∀ b : Nat → Int32, (∀ j : Nat, j < 48 → (b j = 0 ↔ a10 j = 0 ∧ ¬ (cr - p < (j : Int) ∧ (j : Int) < r))) → post 1 (ej_i p, fc, fa, fe, fk, a1, a2, a3, a4, a5, a6, a7, a8, a9, b, a11)) (n : Nat) :
    wX_shutBefore_2_5 post (ej_i r) (ej_i p) fc fa fe fk a1 a2 a3 a4 a5 a6 a7 a8 a9 a10 a11 (n + 1) (ej_i cr) x3 := by
  refine br_t hx (ej_le r cr (fun c => ej_le (r + p) cr hk (fun c2 => ?_) (hx := ej_add r p)) hf)
  rw [ej_sub]
  exact ej_shutBetween_2 ⟨by omega, by omega⟩ ⟨by omega, by omega⟩ (hs c c2)
theorem ej_shutBefore1 {post : Int32 → St2 → Prop} {p r cr f0 u0 cnt c : Int} (hq : 1 ≤ p ∧ p ≤ 6) (hr : 0 ≤ r ∧ r ≤ 40) (hf0 : 0 ≤ f0 ∧ f0 ≤ 40) (hu0 : 0 ≤ u0 ∧ u0 ≤ 40) (h0 : a7 0 = ej_i f0) (k0 : a8 0 = ej_i u0)
    (s0 : (cnt = 1 ∧ r ≤ f0) ∨ (cnt = 0 ∧ f0 < r)) (hb : ej_bf a10 p u0 cnt c) (hcr : cr ≤ 41 ∧ cr ≤ c ∧ (cr = 41 ∨ cr = c))
    (hf : cr < r → post 0 (ej_i p, fc, 1, fe, fk, a1, a2, a3, a4, a5, a6, a7, a8, a9, a10, a11)) (hk : r + p ≤ cr → post 1 (ej_i p, fc, 1, fe, fk, a1, a2, a3, a4, a5, a6, a7, a8, a9, a10, a11))
    (hs : r ≤ cr → cr < r + p → ∀ b : Nat → Int32, (∀ j : Nat, j < 48 → (b j = 0 ↔ a10 j = 0 ∧ ¬ (cr - p < (j : Int) ∧ (j : Int) < r))) → post 1 (ej_i p, fc, 1, fe, fk, a1, a2, a3, a4, a5, a6, a7, a8, a9, b, a11)) :
    wpX_shutBefore post (ej_i p, fc, 1, fe, fk, a1, a2, a3, a4, a5, a6, a7, a8, a9, a10, a11) (ej_i r) := by
  have hc := ej_bf_rng hq hu0 hb
  have e1 : ∀ v : Int, v = cr → wX_shutBefore_5 post (ej_i r) (ej_i p) fc 1 fe fk a1 a2 a3 a4 a5 a6 a7 a8 a9 a10 a11 1 (ej_i v) 1 := fun v hv => by
    rw [hv]
    exact ej_sbE (by decide) hq hr ⟨by omega, by omega⟩ hf hk hs 0
  exact ⟨2, ej_le 1 0 (fun z => absurd z (by omega)) (fun _ => ⟨ej_in0, nm_r (ej_g0 k0)
    (ej_cw1 hf0 hu0 hr hu0 h0 k0 (c := cnt) (by omega) (ej_backFrom hq hu0 hb
      (ej_le 41 c (fun c1 => nm_r (e' := 1) (by decide) (e1 41 (by omega))) (fun c1 => nm_r (e' := 1) (by decide) (e1 c (by omega))))))⟩)⟩
theorem ej_shutBefore1_2 {post : Int32 → St2 → Prop} {p r cr f0 u0 cnt c : Int} (hq : 1 ≤ p ∧ p ≤ 6) (hr : 0 ≤ r ∧ r ≤ 40) (hf0 : 0 ≤ f0 ∧ f0 ≤ 40) (hu0 : 0 ≤ u0 ∧ u0 ≤ 40) (h0 : a7 0 = ej_i f0) (k0 : a8 0 = ej_i u0)
    (s0 : (cnt = 1 ∧ r ≤ f0) ∨ (cnt = 0 ∧ f0 < r)) (hb : ej_bf a10 p u0 cnt c) (hcr : cr ≤ 41 ∧ cr ≤ c ∧ (cr = 41 ∨ cr = c))
    (hf : cr < r → post 0 (ej_i p, fc, 1, fe, fk, a1, a2, a3, a4, a5, a6, a7, a8, a9, a10, a11)) (hk : r + p ≤ cr → post 1 (ej_i p, fc, 1, fe, fk, a1, a2, a3, a4, a5, a6, a7, a8, a9, a10, a11))
    (hs : r ≤ cr → cr < r + p → ∀ b : Nat → Int32, (∀ j : Nat, j < 48 → (b j = 0 ↔ a10 j = 0 ∧ ¬ (cr - p < (j : Int) ∧ (j : Int) < r))) → post 1 (ej_i p, fc, 1, fe, fk, a1, a2, a3, a4, a5, a6, a7, a8, a9, b, a11)) :
    wpX_shutBefore_2 post (ej_i p, fc, 1, fe, fk, a1, a2, a3, a4, a5, a6, a7, a8, a9, a10, a11) (ej_i r) := by
  have hc := ej_bf_rng hq hu0 hb
  have e1 : ∀ v : Int, v = cr → wX_shutBefore_2_5 post (ej_i r) (ej_i p) fc 1 fe fk a1 a2 a3 a4 a5 a6 a7 a8 a9 a10 a11 1 (ej_i v) 1 := fun v hv => by
    rw [hv]
    exact ej_sbE_2 (by decide) hq hr ⟨by omega, by omega⟩ hf hk hs 0
  exact ⟨2, ej_le 1 0 (fun z => absurd z (by omega)) (fun _ => ⟨ej_in0, nm_r (ej_g0 k0)
    (ej_cw1 hf0 hu0 hr hu0 h0 k0 (c := cnt) (by omega) (ej_backFrom hq hu0 hb
      (ej_le 41 c (fun c1 => nm_r (e' := 1) (by decide) (e1 41 (by omega))) (fun c1 => nm_r (e' := 1) (by decide) (e1 c (by omega))))))⟩)⟩
theorem ej_shutBefore2 {post : Int32 → St2 → Prop} {p r cr f0 u0 f1 u1 n00 n01 n10 n11 c0 c1 : Int} (hq : 1 ≤ p ∧ p ≤ 6) (hr : 0 ≤ r ∧ r ≤ 40) (hf0 : 0 ≤ f0 ∧ f0 ≤ 40) (hu0 : 0 ≤ u0 ∧ u0 ≤ 40) (hf1 : 0 ≤ f1 ∧ f1 ≤ 40) (hu1 : 0 ≤ u1 ∧ u1 ≤ 40)
    (h0 : a7 0 = ej_i f0) (k0 : a8 0 = ej_i u0) (h1 : a7 1 = ej_i f1) (k1 : a8 1 = ej_i u1)
    (s00 : (n00 = 1 ∧ r ≤ f0 ∧ u0 ≤ u0) ∨ (n00 = 0 ∧ (f0 < r ∨ u0 < u0))) (s01 : (n01 = 1 ∧ r ≤ f1 ∧ u1 ≤ u0) ∨ (n01 = 0 ∧ (f1 < r ∨ u0 < u1)))
    (s10 : (n10 = 1 ∧ r ≤ f0 ∧ u0 ≤ u1) ∨ (n10 = 0 ∧ (f0 < r ∨ u1 < u0))) (s11 : (n11 = 1 ∧ r ≤ f1 ∧ u1 ≤ u1) ∨ (n11 = 0 ∧ (f1 < r ∨ u1 < u1)))
    (hb0 : ej_bf a10 p u0 (n00 + n01) c0) (hb1 : ej_bf a10 p u1 (n10 + n11) c1) (hcr : cr ≤ 41 ∧ cr ≤ c0 ∧ cr ≤ c1 ∧ (cr = 41 ∨ cr = c0 ∨ cr = c1))
    (hf : cr < r → post 0 (ej_i p, fc, 2, fe, fk, a1, a2, a3, a4, a5, a6, a7, a8, a9, a10, a11)) (hk : r + p ≤ cr → post 1 (ej_i p, fc, 2, fe, fk, a1, a2, a3, a4, a5, a6, a7, a8, a9, a10, a11))
    (hs : r ≤ cr → cr < r + p → ∀ b : Nat → Int32, (∀ j : Nat, j < 48 → (b j = 0 ↔ a10 j = 0 ∧ ¬ (cr - p < (j : Int) ∧ (j : Int) < r))) → post 1 (ej_i p, fc, 2, fe, fk, a1, a2, a3, a4, a5, a6, a7, a8, a9, b, a11)) :
    wpX_shutBefore post (ej_i p, fc, 2, fe, fk, a1, a2, a3, a4, a5, a6, a7, a8, a9, a10, a11) (ej_i r) := by
  have hc0 := ej_bf_rng hq hu0 hb0
  have hc1 := ej_bf_rng hq hu1 hb1
  have e2 : ∀ v : Int, v = cr → wX_shutBefore_5 post (ej_i r) (ej_i p) fc 2 fe fk a1 a2 a3 a4 a5 a6 a7 a8 a9 a10 a11 1 (ej_i v) 2 := fun v hv => by
    rw [hv]
    exact ej_sbE (by decide) hq hr ⟨by omega, by omega⟩ hf hk hs 0
  have e1 : ∀ v : Int, (v = 41 ∧ 41 ≤ c0) ∨ (v = c0 ∧ c0 ≤ 41) → wX_shutBefore_5 post (ej_i r) (ej_i p) fc 2 fe fk a1 a2 a3 a4 a5 a6 a7 a8 a9 a10 a11 2 (ej_i v) 1 := fun v hv =>
    ej_le 2 1 (fun z => absurd z (by omega)) (fun _ => ⟨ej_in1, nm_r (ej_g1 k1)
      (ej_cw2 hf0 hf1 hu0 hu1 hr hu1 h0 h1 k0 k1 s10 s11 (ej_backFrom hq hu1 hb1
        (ej_le v c1 (fun c2 => nm_r (e' := 2) (by decide) (e2 v (by omega))) (fun c2 => nm_r (e' := 2) (by decide) (e2 c1 (by omega))))))⟩)
  exact ⟨3, ej_le 2 0 (fun z => absurd z (by omega)) (fun _ => ⟨ej_in0, nm_r (ej_g0 k0)
    (ej_cw2 hf0 hf1 hu0 hu1 hr hu0 h0 h1 k0 k1 s00 s01 (ej_backFrom hq hu0 hb0
      (ej_le 41 c0 (fun c2 => nm_r (e' := 1) (by decide) (e1 41 (by omega))) (fun c2 => nm_r (e' := 1) (by decide) (e1 c0 (by omega))))))⟩)⟩
theorem ej_dispatch0 {post : Int32 → St2 → Prop} (hp : post 1 (fl, fc, 0, 0, fk, a1, a2, a3, a4, a5, a6, a7, a8, a9, a10, a11)) : wpX_dispatch post (fl, fc, 0, fe, fk, a1, a2, a3, a4, a5, a6, a7, a8, a9, a10, a11) :=
  ⟨1, ej_le 0 0 (fun _ => ⟨1, ej_le 0 0 (fun _ => hp) (fun z => absurd z (by omega))⟩) (fun z => absurd z (by omega))⟩
theorem ej_d51_1 {post : Int32 → St2 → Prop} {p f0 u0 : Int} {x2 : Int32} {J : Int32 → Int32 → (Nat → Int32) → (Nat → Int32) → (Nat → Int32) → (Nat → Int32) → (Nat → Int32) → (Nat → Int32) → (Nat → Int32) → (Nat → Int32) → (Nat → Int32) → (Nat → Int32) → (Nat → Int32) → Prop}
    (hq : 1 ≤ p ∧ p ≤ 6) (hf0 : 0 ≤ f0 ∧ f0 ≤ 40) (hu0 : 0 ≤ u0 ∧ u0 ≤ 40) (h0 : a7 0 = ej_i f0) (k0 : a8 0 = ej_i u0) (w0 : a9 0 = 0) (h10 : a10 f0.toNat = 0) (hl : f0 + p ≤ u0)
    (hJ : ∀ b : Nat → Int32, J (ej_i (f0 + p)) (x2 + 1) a1 a2 a3 a4 a5 a6 a7 a8 b a10 a11) : wX_dispatch_51 post J x2 (ej_i f0) (ej_i p) fc 1 fe fk a1 a2 a3 a4 a5 a6 a7 a8 a9 a10 a11 := by
  unfold wX_dispatch_51
  refine ej_openAtOrAfter hf0.1 (ej_oaf_at (by omega) h10) ?_
  refine ej_mu1 hf0 ⟨by omega, by omega⟩ h0 w0 ?_
  exact ej_lt 0 0 (fun z => absurd z (by omega)) (fun _ => ⟨ej_in0, ej_le (f0 + p) u0 (fun _ => ⟨ej_in0, nm_e (nm_r (ej_add f0 p) (nm_e (hJ _)))⟩) (fun z => absurd z (by omega)) (hx := ej_add f0 p) (hy := ej_g0 k0)⟩)
theorem ej_d51_1_2 {post : Int32 → St2 → Prop} {p f0 u0 : Int} {x2 : Int32} {J : Int32 → Int32 → (Nat → Int32) → (Nat → Int32) → (Nat → Int32) → (Nat → Int32) → (Nat → Int32) → (Nat → Int32) → (Nat → Int32) → (Nat → Int32) → (Nat → Int32) → (Nat → Int32) → (Nat → Int32) → Prop}
    (hq : 1 ≤ p ∧ p ≤ 6) (hf0 : 0 ≤ f0 ∧ f0 ≤ 40) (hu0 : 0 ≤ u0 ∧ u0 ≤ 40) (h0 : a7 0 = ej_i f0) (k0 : a8 0 = ej_i u0) (w0 : a9 0 = 0) (h10 : a10 f0.toNat = 0) (hl : f0 + p ≤ u0)
    (hJ : ∀ b : Nat → Int32, J (ej_i (f0 + p)) (x2 + 1) a1 a2 a3 a4 a5 a6 a7 a8 b a10 a11) : wX_dispatch_2_51 post J x2 (ej_i f0) (ej_i p) fc 1 fe fk a1 a2 a3 a4 a5 a6 a7 a8 a9 a10 a11 := by
  unfold wX_dispatch_2_51
  refine ej_openAtOrAfter hf0.1 (ej_oaf_at (by omega) h10) ?_
  refine ej_mu1 hf0 ⟨by omega, by omega⟩ h0 w0 ?_
  exact ej_lt 0 0 (fun z => absurd z (by omega)) (fun _ => ⟨ej_in0, ej_le (f0 + p) u0 (fun _ => ⟨ej_in0, nm_e (nm_r (ej_add f0 p) (nm_e (hJ _)))⟩) (fun z => absurd z (by omega)) (hx := ej_add f0 p) (hy := ej_g0 k0)⟩)
theorem ej_dispatch1 {post : Int32 → St2 → Prop} {p f0 u0 : Int} (hq : 1 ≤ p ∧ p ≤ 6) (hf0 : 0 ≤ f0 ∧ f0 ≤ 40) (hu0 : 0 ≤ u0 ∧ u0 ≤ 40) (h0 : a7 0 = ej_i f0) (k0 : a8 0 = ej_i u0) (h10 : a10 f0.toNat = 0) (hl : f0 + p ≤ u0)
    (hp : ∀ b : Nat → Int32, post 1 (ej_i p, fc, 1, ej_i (f0 + p), fk, a1, a2, a3, a4, a5, a6, a7, a8, b, a10, a11)) : wpX_dispatch post (ej_i p, fc, 1, fe, fk, a1, a2, a3, a4, a5, a6, a7, a8, a9, a10, a11) := by
  have w0 : upd a9 (0 : Int32).toNatClampNeg 0 0 = 0 := by
    rw [ej_c0, pk_us]
  have eE : ∀ b : Nat → Int32, wX_dispatch_27 post (ej_i p) fc 1 fe fk 1 (ej_i (f0 + p)) (0 + 1) a1 a2 a3 a4 a5 a6 a7 a8 b a10 a11 := fun b =>
    ej_le 1 1 (fun _ => hp b) (fun z => absurd z (by omega))
  have eD : wX_dispatch_51 post (wX_dispatch_27 post (ej_i p) fc 1 fe fk 1) 0 (ej_i f0) (ej_i p) fc 1 fe fk a1 a2 a3 a4 a5 a6 a7 a8 (upd a9 (0 : Int32).toNatClampNeg 0) a10 a11 :=
    ej_d51_1 hq hf0 hu0 h0 k0 w0 h10 hl eE
  refine ⟨2, ej_le 1 0 (fun z => absurd z (by omega)) (fun _ => ⟨ej_in0, nm_e (nm_r (e' := 1) (by decide) (ej_le 1 1 (fun _ => ⟨2, ej_le 1 0 (fun z => absurd z (by omega)) (fun _ => ?_)⟩) (fun z => absurd z (by omega))))⟩)⟩
  refine ej_lwr1 hf0 h0 w0 (ej_le f0 0 (fun c => ?_) (fun _ => eD))
  have e : f0 = 0 := by omega
  rw [e] at eD
  exact eD
theorem ej_dispatch1_2 {post : Int32 → St2 → Prop} {p f0 u0 : Int} (hq : 1 ≤ p ∧ p ≤ 6) (hf0 : 0 ≤ f0 ∧ f0 ≤ 40) (hu0 : 0 ≤ u0 ∧ u0 ≤ 40) (h0 : a7 0 = ej_i f0) (k0 : a8 0 = ej_i u0) (h10 : a10 f0.toNat = 0) (hl : f0 + p ≤ u0)
    (hp : ∀ b : Nat → Int32, post 1 (ej_i p, fc, 1, ej_i (f0 + p), fk, a1, a2, a3, a4, a5, a6, a7, a8, b, a10, a11)) : wpX_dispatch_2 post (ej_i p, fc, 1, fe, fk, a1, a2, a3, a4, a5, a6, a7, a8, a9, a10, a11) := by
  have w0 : upd a9 (0 : Int32).toNatClampNeg 0 0 = 0 := by
    rw [ej_c0, pk_us]
  have eE : ∀ b : Nat → Int32, wX_dispatch_2_27 post (ej_i p) fc 1 fe fk 1 (ej_i (f0 + p)) (0 + 1) a1 a2 a3 a4 a5 a6 a7 a8 b a10 a11 := fun b =>
    ej_le 1 1 (fun _ => hp b) (fun z => absurd z (by omega))
  have eD : wX_dispatch_2_51 post (wX_dispatch_2_27 post (ej_i p) fc 1 fe fk 1) 0 (ej_i f0) (ej_i p) fc 1 fe fk a1 a2 a3 a4 a5 a6 a7 a8 (upd a9 (0 : Int32).toNatClampNeg 0) a10 a11 :=
    ej_d51_1_2 hq hf0 hu0 h0 k0 w0 h10 hl eE
  refine ⟨2, ej_le 1 0 (fun z => absurd z (by omega)) (fun _ => ⟨ej_in0, nm_e (nm_r (e' := 1) (by decide) (ej_le 1 1 (fun _ => ⟨2, ej_le 1 0 (fun z => absurd z (by omega)) (fun _ => ?_)⟩) (fun z => absurd z (by omega))))⟩)⟩
  refine ej_lwr1 hf0 h0 w0 (ej_le f0 0 (fun c => ?_) (fun _ => eD))
  have e : f0 = 0 := by omega
  rw [e] at eD
  exact eD
theorem ej_d51_2 {post : Int32 → St2 → Prop} {p z s b ub f0 f1 u0 u1 w0 w1 : Int} {x2 : Int32} {J : Int32 → Int32 → (Nat → Int32) → (Nat → Int32) → (Nat → Int32) → (Nat → Int32) → (Nat → Int32) → (Nat → Int32) → (Nat → Int32) → (Nat → Int32) → (Nat → Int32) → (Nat → Int32) → (Nat → Int32) → Prop}
    (hq : 1 ≤ p ∧ p ≤ 6) (hf0 : 0 ≤ f0 ∧ f0 ≤ 40) (hf1 : 0 ≤ f1 ∧ f1 ≤ 40) (hu0 : 0 ≤ u0 ∧ u0 ≤ 40) (hu1 : 0 ≤ u1 ∧ u1 ≤ 40)
    (h0 : a7 0 = ej_i f0) (h1 : a7 1 = ej_i f1) (k0 : a8 0 = ej_i u0) (k1 : a8 1 = ej_i u1) (hw0 : w0 = 0 ∨ w0 = 1) (hw1 : w1 = 0 ∨ w1 = 1) (g0 : a9 0 = ej_i w0) (g1 : a9 1 = ej_i w1)
    (hz : 0 ≤ z) (ho : ej_oaf a10 z s)
    (hm : (b = 0 ∧ w0 = 0 ∧ f0 ≤ s ∧ (w1 = 1 ∨ s < f1 ∨ u0 ≤ u1)) ∨ (b = 1 ∧ w1 = 0 ∧ f1 ≤ s ∧ (w0 = 1 ∨ s < f0 ∨ u1 < u0)))
    (hub : a8 b.toNat = ej_i ub) (hub2 : 0 ≤ ub ∧ ub ≤ 40) (hl : s + p ≤ ub)
    (hJ : J (ej_i (s + p)) (x2 + 1) a1 a2 a3 a4 a5 a6 a7 a8 (upd a9 b.toNat 1) a10 a11) : wX_dispatch_51 post J x2 (ej_i z) (ej_i p) fc 2 fe fk a1 a2 a3 a4 a5 a6 a7 a8 a9 a10 a11 := by
  have hs : 0 ≤ s ∧ s ≤ 47 := ⟨by have := ho.1; omega, ho.2.1⟩
  have hb : 0 ≤ b ∧ b ≤ 1 := by omega
  unfold wX_dispatch_51
  refine ej_openAtOrAfter hz ho ?_
  refine ej_mu2 hf0 hf1 hu0 hu1 ⟨by omega, by omega⟩ h0 h1 k0 k1 hw0 hw1 g0 g1 hm ?_
  refine ej_lt b 0 (fun z => absurd z (by omega)) (fun _ => ⟨ej_in hb.1 (by omega) (by omega), ?_⟩)
  rw [ej_cl hb.1 (by omega), hub]
  exact ej_le (s + p) ub (fun _ => ⟨ej_in hb.1 (by omega) (by omega), nm_e (nm_r (ej_add s p) (nm_e hJ))⟩) (fun z => absurd z (by omega)) (hx := ej_add s p)
/- the table of the placed, wiped for two jobs -/
theorem ej_disp2 {post : Int32 → St2 → Prop} {p : Int}
    (hp : ∀ b : Nat → Int32, b 0 = 0 → b 1 = 0 → ∃ n, wX_dispatch_27 post (ej_i p) fc 2 fe fk n 0 0 a1 a2 a3 a4 a5 a6 a7 a8 b a10 a11) : wpX_dispatch post (ej_i p, fc, 2, fe, fk, a1, a2, a3, a4, a5, a6, a7, a8, a9, a10, a11) := by
  refine ⟨3, ej_le 2 0 (fun z => absurd z (by omega)) (fun _ => ⟨ej_in0, nm_e (nm_r (e' := 1) (by decide) (ej_le 2 1 (fun z => absurd z (by omega)) (fun _ => ⟨ej_in1, nm_e (nm_r (e' := 2) (by decide) (ej_le 2 2 (fun _ => ?_) (fun z => absurd z (by omega))))⟩)))⟩)⟩
  refine hp _ ?_ ?_
  · rw [ej_c1, pk_un (by omega), ej_c0, pk_us]
  · rw [ej_c1, pk_us]
/- the first job at its release, then the second at its own -/
theorem ej_disp01 {post : Int32 → St2 → Prop} {p f0 f1 u0 u1 : Int} (hq : 1 ≤ p ∧ p ≤ 6) (hf0 : 0 ≤ f0 ∧ f0 ≤ 40) (hf1 : 0 ≤ f1 ∧ f1 ≤ 40) (hu0 : 0 ≤ u0 ∧ u0 ≤ 40) (hu1 : 0 ≤ u1 ∧ u1 ≤ 40)
    (h0 : a7 0 = ej_i f0) (h1 : a7 1 = ej_i f1) (k0 : a8 0 = ej_i u0) (k1 : a8 1 = ej_i u1) (o0 : a10 f0.toNat = 0) (o1 : a10 f1.toNat = 0) (l : f0 + p ≤ f1) (l0 : f0 + p ≤ u0) (l1 : f1 + p ≤ u1)
    (hp : ∀ (e : Int32) (b : Nat → Int32), post 1 (ej_i p, fc, 2, e, fk, a1, a2, a3, a4, a5, a6, a7, a8, b, a10, a11)) : wpX_dispatch post (ej_i p, fc, 2, fe, fk, a1, a2, a3, a4, a5, a6, a7, a8, a9, a10, a11) := by
  refine ej_disp2 (fun b z0 z1 => ⟨3, ej_le 2 0 (fun z => absurd z (by omega)) (fun _ => ?_)⟩)
  have eE : ∀ c : Nat → Int32, wX_dispatch_27 post (ej_i p) fc 2 fe fk 1 (ej_i (f1 + p)) (0 + 1 + 1) a1 a2 a3 a4 a5 a6 a7 a8 c a10 a11 := fun c =>
    ej_le 2 2 (fun _ => hp _ c) (fun z => absurd z (by omega))
  have eD2 : wX_dispatch_51 post (wX_dispatch_27 post (ej_i p) fc 2 fe fk 1) (0 + 1) (ej_i f1) (ej_i p) fc 2 fe fk a1 a2 a3 a4 a5 a6 a7 a8 (upd b (Int.toNat 0) 1) a10 a11 :=
    ej_d51_2 (b := 1) (w0 := 1) (w1 := 0) hq hf0 hf1 hu0 hu1 h0 h1 k0 k1 (by omega) (by omega) (pk_us.trans (by decide)) ((pk_un (by decide)).trans (z1.trans (by decide))) hf1.1 (ej_oaf_at (by omega) o1) (by omega) k1 hu1 l1 (eE _)
  have e2 : wX_dispatch_27 post (ej_i p) fc 2 fe fk 2 (ej_i (f0 + p)) (0 + 1) a1 a2 a3 a4 a5 a6 a7 a8 (upd b (Int.toNat 0) 1) a10 a11 := by
    refine ej_le 2 1 (fun z => absurd z (by omega)) (fun _ => ej_lwr2 (b := f1) (w0 := 1) (w1 := 0) hf0 hf1 h0 h1 (by omega) (by omega) (pk_us.trans (by decide)) ((pk_un (by decide)).trans (z1.trans (by decide))) (by omega) (by omega) (by omega) (by omega) (ej_le f1 (f0 + p) (fun c => ?_) (fun _ => eD2)))
    have e : f1 = f0 + p := by omega
    rw [← e]
    exact eD2
  have eD1 : wX_dispatch_51 post (wX_dispatch_27 post (ej_i p) fc 2 fe fk 2) 0 (ej_i f0) (ej_i p) fc 2 fe fk a1 a2 a3 a4 a5 a6 a7 a8 b a10 a11 :=
    ej_d51_2 (b := 0) (w0 := 0) (w1 := 0) hq hf0 hf1 hu0 hu1 h0 h1 k0 k1 (by omega) (by omega) (z0.trans (by decide)) (z1.trans (by decide)) hf0.1 (ej_oaf_at (by omega) o0) (by omega) k0 hu0 l0 e2
  refine ej_lwr2 (b := f0) (w0 := 0) (w1 := 0) hf0 hf1 h0 h1 (by omega) (by omega) (z0.trans (by decide)) (z1.trans (by decide)) (by omega) (by omega) (by omega) (by omega) (ej_le f0 0 (fun c => ?_) (fun _ => eD1))
  have e : f0 = 0 := by omega
  rw [e] at eD1
  exact eD1
/- the second job at its release, then the first -/
theorem ej_disp10 {post : Int32 → St2 → Prop} {p f0 f1 u0 u1 z s : Int} (hq : 1 ≤ p ∧ p ≤ 6) (hf0 : 0 ≤ f0 ∧ f0 ≤ 40) (hf1 : 0 ≤ f1 ∧ f1 ≤ 40) (hu0 : 0 ≤ u0 ∧ u0 ≤ 40) (hu1 : 0 ≤ u1 ∧ u1 ≤ 40)
    (h0 : a7 0 = ej_i f0) (h1 : a7 1 = ej_i f1) (k0 : a8 0 = ej_i u0) (k1 : a8 1 = ej_i u1) (hz : (z = f0 ∧ f0 ≤ f1) ∨ (z = f1 ∧ f1 ≤ f0)) (ho : ej_oaf a10 z f1) (hu : f1 < f0 ∨ u1 < u0) (l1 : f1 + p ≤ u1)
    (hs : (s = f0 ∧ f1 + p ≤ f0) ∨ (s = f1 + p ∧ f0 ≤ f1 + p)) (os : a10 s.toNat = 0) (l0 : s + p ≤ u0)
    (hp : ∀ (e : Int32) (b : Nat → Int32), post 1 (ej_i p, fc, 2, e, fk, a1, a2, a3, a4, a5, a6, a7, a8, b, a10, a11)) : wpX_dispatch post (ej_i p, fc, 2, fe, fk, a1, a2, a3, a4, a5, a6, a7, a8, a9, a10, a11) := by
  refine ej_disp2 (fun b z0 z1 => ⟨3, ej_le 2 0 (fun z => absurd z (by omega)) (fun _ => ?_)⟩)
  have eE : ∀ c : Nat → Int32, wX_dispatch_27 post (ej_i p) fc 2 fe fk 1 (ej_i (s + p)) (0 + 1 + 1) a1 a2 a3 a4 a5 a6 a7 a8 c a10 a11 := fun c =>
    ej_le 2 2 (fun _ => hp _ c) (fun z => absurd z (by omega))
  have eD2 : wX_dispatch_51 post (wX_dispatch_27 post (ej_i p) fc 2 fe fk 1) (0 + 1) (ej_i s) (ej_i p) fc 2 fe fk a1 a2 a3 a4 a5 a6 a7 a8 (upd b (Int.toNat 1) 1) a10 a11 :=
    ej_d51_2 (b := 0) (w0 := 0) (w1 := 1) hq hf0 hf1 hu0 hu1 h0 h1 k0 k1 (by omega) (by omega) ((pk_un (by decide)).trans (z0.trans (by decide))) (pk_us.trans (by decide)) (by omega) (ej_oaf_at (by omega) os) (by omega) k0 hu0 l0 (eE _)
  have e2 : wX_dispatch_27 post (ej_i p) fc 2 fe fk 2 (ej_i (f1 + p)) (0 + 1) a1 a2 a3 a4 a5 a6 a7 a8 (upd b (Int.toNat 1) 1) a10 a11 := by
    refine ej_le 2 1 (fun z => absurd z (by omega)) (fun _ => ej_lwr2 (b := f0) (w0 := 0) (w1 := 1) hf0 hf1 h0 h1 (by omega) (by omega) ((pk_un (by decide)).trans (z0.trans (by decide))) (pk_us.trans (by decide)) (by omega) (by omega) (by omega) (by omega) (ej_le f0 (f1 + p) (fun c => ?_) (fun c => ?_)))
    · have e : s = f1 + p := by omega
      rw [← e]
      exact eD2
    · have e : s = f0 := by omega
      rw [← e]
      exact eD2
  have eD1 : wX_dispatch_51 post (wX_dispatch_27 post (ej_i p) fc 2 fe fk 2) 0 (ej_i z) (ej_i p) fc 2 fe fk a1 a2 a3 a4 a5 a6 a7 a8 b a10 a11 :=
    ej_d51_2 (b := 1) (w0 := 0) (w1 := 0) hq hf0 hf1 hu0 hu1 h0 h1 k0 k1 (by omega) (by omega) (z0.trans (by decide)) (z1.trans (by decide)) (by omega) ho (by omega) k1 hu1 l1 e2
  refine ej_lwr2 (b := z) (w0 := 0) (w1 := 0) hf0 hf1 h0 h1 (by omega) (by omega) (z0.trans (by decide)) (z1.trans (by decide)) (by omega) (by omega) (by omega) (by omega) (ej_le z 0 (fun c => ?_) (fun _ => eD1))
  have e : z = 0 := by omega
  rw [e] at eD1
  exact eD1
end
end
section
section
variable {fl fc fa fe fk : Int32} {a1 a2 a3 a4 a5 a6 a7 a8 a9 a10 a11 : Nat → Int32}
theorem ej_nb1 : narrow .boolean (.int 1) = .int 1 := by rfl
theorem ej_feas0 {post : Int32 → St2 → Prop} (h4 : ∀ j, j < 4 → a4 j = 0) (hp : ∀ b : Nat → Int32, post 1 (fl, fc, 0, 0, fk, a1, a2, a3, a4, a5, a6, a7, a8, a9, b, a11)) : wpX_feasible post (fl, fc, 0, fe, fk, a1, a2, a3, a4, a5, a6, a7, a8, a9, a10, a11) := by
  unfold wpX_feasible
  dsimp only
  refine ej_shutBlocks h4 (fun b hb => ?_)
  dsimp only
  refine ⟨1, ej_le 8 0 (fun z => absurd z (by omega)) (fun _ => ej_grb0 (ej_le 0 (-1) (fun z => absurd z (by omega)) (fun _ => ej_dispatch0 ?_)))⟩
  exact ⟨ej_nb1, hp b⟩
theorem ej_feas1 {post : Int32 → St2 → Prop} {p f0 u0 : Int} (hq : 1 ≤ p ∧ p ≤ 6) (hf0 : 0 ≤ f0 ∧ f0 ≤ 40) (hu0 : p ≤ u0 ∧ u0 ≤ 40) (h4 : ∀ j, j < 4 → a4 j = 0) (h0 : a7 0 = ej_i f0) (k0 : a8 0 = ej_i u0)
    (hy : f0 + p ≤ u0 → ∀ b c : Nat → Int32, post 1 (ej_i p, fc, 1, ej_i (f0 + p), fk, a1, a2, a3, a4, a5, a6, a7, a8, b, c, a11))
    (hn : u0 < f0 + p → ∀ c : Nat → Int32, post 0 (ej_i p, fc, 1, fe, fk, a1, a2, a3, a4, a5, a6, a7, a8, a9, c, a11)) : wpX_feasible post (ej_i p, fc, 1, fe, fk, a1, a2, a3, a4, a5, a6, a7, a8, a9, a10, a11) := by
  unfold wpX_feasible
  dsimp only
  refine ej_shutBlocks h4 (fun b hb => ?_)
  dsimp only
  have hu : 0 ≤ u0 ∧ u0 ≤ 40 := ⟨by omega, by omega⟩
  have R : f0 + p ≤ u0 → ∀ c : Nat → Int32, c f0.toNat = 0 → wX_feasible_9 post 1 (ej_i f0) 1 (ej_i p) fc 1 fe fk a1 a2 a3 a4 a5 a6 a7 a8 a9 c a11 := fun hl c hc =>
    ej_le 8 1 (fun z => absurd z (by omega)) (fun _ => ej_grb1 (b := -1) hf0 ⟨by omega, by omega⟩ h0 (by omega) (by omega)
      (ej_le 0 (-1) (fun z => absurd z (by omega)) (fun _ => ej_dispatch1 hq hf0 hu h0 k0 hc hl (fun b9 => ⟨ej_nb1, hy hl b9 c⟩))))
  refine ⟨2, ej_le 8 0 (fun z => absurd z (by omega)) (fun _ => ej_grb1 (ab := 41) (b := f0) hf0 ⟨by omega, by omega⟩ h0 (by omega) (by omega)
    (ej_le 0 f0 (fun _ => ej_shutBefore1 (cnt := 1) (c := u0 - p) (cr := u0 - p) hq hf0 hf0 hu h0 k0 (by omega) (Or.inr (Or.inl ⟨rfl, ej_oab_at (by omega) rfl (hb _ (by omega))⟩)) (by omega) ?_ ?_ ?_) (fun z => absurd z (by omega))))⟩
  · intro c
    exact br_t rfl (hn (by omega) b)
  · intro c
    exact br_f (by decide) (nm_r (e' := 1) (by decide) (R (by omega) b (hb _ (by omega))))
  · intro c c2 b2 hb2
    exact br_f (by decide) (nm_r (e' := 1) (by decide) (R (by omega) b2 ((hb2 _ (by omega)).mpr ⟨hb _ (by omega), by omega⟩)))
theorem ej_feas1_2 {post : Int32 → St2 → Prop} {p f0 u0 : Int} (hq : 1 ≤ p ∧ p ≤ 6) (hf0 : 0 ≤ f0 ∧ f0 ≤ 40) (hu0 : p ≤ u0 ∧ u0 ≤ 40) (h4 : ∀ j, j < 4 → a4 j = 0) (h0 : a7 0 = ej_i f0) (k0 : a8 0 = ej_i u0)
    (hy : f0 + p ≤ u0 → ∀ b c : Nat → Int32, post 1 (ej_i p, fc, 1, ej_i (f0 + p), fk, a1, a2, a3, a4, a5, a6, a7, a8, b, c, a11))
    (hn : u0 < f0 + p → ∀ c : Nat → Int32, post 0 (ej_i p, fc, 1, fe, fk, a1, a2, a3, a4, a5, a6, a7, a8, a9, c, a11)) : wpX_feasible_2 post (ej_i p, fc, 1, fe, fk, a1, a2, a3, a4, a5, a6, a7, a8, a9, a10, a11) := by
  unfold wpX_feasible_2
  dsimp only
  refine ej_shutBlocks_2 h4 (fun b hb => ?_)
  dsimp only
  have hu : 0 ≤ u0 ∧ u0 ≤ 40 := ⟨by omega, by omega⟩
  have R : f0 + p ≤ u0 → ∀ c : Nat → Int32, c f0.toNat = 0 → wX_feasible_2_9 post 1 (ej_i f0) 1 (ej_i p) fc 1 fe fk a1 a2 a3 a4 a5 a6 a7 a8 a9 c a11 := fun hl c hc =>
    ej_le 8 1 (fun z => absurd z (by omega)) (fun _ => ej_grb1 (b := -1) hf0 ⟨by omega, by omega⟩ h0 (by omega) (by omega)
      (ej_le 0 (-1) (fun z => absurd z (by omega)) (fun _ => ej_dispatch1_2 hq hf0 hu h0 k0 hc hl (fun b9 => ⟨ej_nb1, hy hl b9 c⟩))))
  refine ⟨2, ej_le 8 0 (fun z => absurd z (by omega)) (fun _ => ej_grb1 (ab := 41) (b := f0) hf0 ⟨by omega, by omega⟩ h0 (by omega) (by omega)
    (ej_le 0 f0 (fun _ => ej_shutBefore1_2 (cnt := 1) (c := u0 - p) (cr := u0 - p) hq hf0 hf0 hu h0 k0 (by omega) (Or.inr (Or.inl ⟨rfl, ej_oab_at (by omega) rfl (hb _ (by omega))⟩)) (by omega) ?_ ?_ ?_) (fun z => absurd z (by omega))))⟩
  · intro c
    exact br_t rfl (hn (by omega) b)
  · intro c
    exact br_f (by decide) (nm_r (e' := 1) (by decide) (R (by omega) b (hb _ (by omega))))
  · intro c c2 b2 hb2
    exact br_f (by decide) (nm_r (e' := 1) (by decide) (R (by omega) b2 ((hb2 _ (by omega)).mpr ⟨hb _ (by omega), by omega⟩)))
/- the last round over two jobs: no release is left, the plan is worked out -/
theorem ej_fin01 {post : Int32 → St2 → Prop} {p r d t ab : Int} {x2 : Int32} (hx : ¬ 8 ≤ x2) (hq : 1 ≤ p ∧ p ≤ 6) (hr : 0 ≤ r ∧ r + p ≤ d ∧ d ≤ 40) (ht : 0 ≤ t ∧ t + p ≤ 40) (hab : 0 ≤ ab ∧ ab ≤ r ∧ ab ≤ t)
    (h0 : a7 0 = ej_i r) (k0 : a8 0 = ej_i d) (h1 : a7 1 = ej_i t) (k1 : a8 1 = ej_i (t + p)) (l : r + p ≤ t) (o0 : a10 r.toNat = 0) (o1 : a10 t.toNat = 0)
    (hy : ∀ (e : Int32) (b : Nat → Int32), post 1 (ej_i p, fc, 2, e, fk, a1, a2, a3, a4, a5, a6, a7, a8, b, a10, a11)) : wX_feasible_9 post 1 (ej_i ab) x2 (ej_i p) fc 2 fe fk a1 a2 a3 a4 a5 a6 a7 a8 a9 a10 a11 :=
  br_f hx (ej_grb2 (b := -1) (f0 := r) (f1 := t) ⟨by omega, by omega⟩ ⟨by omega, by omega⟩ ⟨by omega, by omega⟩ h0 h1 (by omega) (by omega) (by omega) (by omega)
    (ej_le 0 (-1) (fun z => absurd z (by omega)) (fun _ => ej_disp01 (f0 := r) (f1 := t) (u0 := d) (u1 := t + p) hq ⟨by omega, by omega⟩ ⟨by omega, by omega⟩ ⟨by omega, by omega⟩ ⟨by omega, by omega⟩ h0 h1 k0 k1 o0 o1 l (by omega) (by omega) (fun e b9 => ⟨ej_nb1, hy e b9⟩))))
theorem ej_fin10 {post : Int32 → St2 → Prop} {p r d t ab z s : Int} {x2 : Int32} (hx : ¬ 8 ≤ x2) (hq : 1 ≤ p ∧ p ≤ 6) (hr : 0 ≤ r ∧ r + p ≤ d ∧ d ≤ 40) (ht : 0 ≤ t ∧ t + p ≤ 40) (hab : 0 ≤ ab ∧ ab ≤ r ∧ ab ≤ t)
    (h0 : a7 0 = ej_i r) (k0 : a8 0 = ej_i d) (h1 : a7 1 = ej_i t) (k1 : a8 1 = ej_i (t + p)) (hz : (z = r ∧ r ≤ t) ∨ (z = t ∧ t ≤ r)) (ho : ej_oaf a10 z t) (hu : t < r ∨ t + p < d)
    (hs : (s = r ∧ t + p ≤ r) ∨ (s = t + p ∧ r ≤ t + p)) (os : a10 s.toNat = 0) (l0 : s + p ≤ d)
    (hy : ∀ (e : Int32) (b : Nat → Int32), post 1 (ej_i p, fc, 2, e, fk, a1, a2, a3, a4, a5, a6, a7, a8, b, a10, a11)) : wX_feasible_9 post 1 (ej_i ab) x2 (ej_i p) fc 2 fe fk a1 a2 a3 a4 a5 a6 a7 a8 a9 a10 a11 :=
  br_f hx (ej_grb2 (b := -1) (f0 := r) (f1 := t) ⟨by omega, by omega⟩ ⟨by omega, by omega⟩ ⟨by omega, by omega⟩ h0 h1 (by omega) (by omega) (by omega) (by omega)
    (ej_le 0 (-1) (fun z => absurd z (by omega)) (fun _ => ej_disp10 (f0 := r) (f1 := t) (u0 := d) (u1 := t + p) hq ⟨by omega, by omega⟩ ⟨by omega, by omega⟩ ⟨by omega, by omega⟩ ⟨by omega, by omega⟩ h0 h1 k0 k1 hz ho hu (by omega) hs os l0 (fun e b9 => ⟨ej_nb1, hy e b9⟩))))
/- r < t -/
theorem ej_two_A {post : Int32 → St2 → Prop} {p r d t : Int} (hq : 1 ≤ p ∧ p ≤ 6) (hr : 0 ≤ r ∧ r + p ≤ d ∧ d ≤ 40) (ht : 0 ≤ t ∧ t + p ≤ 40) (hA : r < t)
    (h0 : a7 0 = ej_i r) (k0 : a8 0 = ej_i d) (h1 : a7 1 = ej_i t) (k1 : a8 1 = ej_i (t + p)) (hB : ∀ j : Nat, j < 48 → (a10 j = 0 ↔ ¬ (t - p < (j : Int) ∧ (j : Int) < t)))
    (hy : (r + p ≤ t ∨ t + 2 * p ≤ d) → ∀ (e : Int32) (b c : Nat → Int32), post 1 (ej_i p, fc, 2, e, fk, a1, a2, a3, a4, a5, a6, a7, a8, b, c, a11))
    (hn : ¬ (r + p ≤ t ∨ t + 2 * p ≤ d) → ∀ c : Nat → Int32, post 0 (ej_i p, fc, 2, fe, fk, a1, a2, a3, a4, a5, a6, a7, a8, a9, c, a11)) : wX_feasible_9 post 2 (ej_i t) 1 (ej_i p) fc 2 fe fk a1 a2 a3 a4 a5 a6 a7 a8 a9 a10 a11 := by
  have R : (r + p ≤ t ∨ t + 2 * p ≤ d) → ∀ (q : Int) (c : Nat → Int32), (∀ j : Nat, j < 48 → (c j = 0 ↔ a10 j = 0 ∧ ¬ (q < (j : Int) ∧ (j : Int) < r))) → wX_feasible_9 post 1 (ej_i r) 2 (ej_i p) fc 2 fe fk a1 a2 a3 a4 a5 a6 a7 a8 a9 c a11 := by
    intro hl q c hc
    have o : ∀ x : Int, 0 ≤ x → x ≤ 40 → r ≤ x → (x ≤ t - p ∨ t ≤ x) → c x.toNat = 0 := fun x g1 g2 g3 g4 => (hc _ (by omega)).mpr ⟨(hB _ (by omega)).mpr (by omega), by omega⟩
    by_cases g : r + p ≤ t
    · exact ej_fin01 (d := d) (t := t) (by decide) hq hr ht ⟨by omega, by omega⟩ h0 k0 h1 k1 g (o r (by omega) (by omega) (by omega) (by omega)) (o t (by omega) (by omega) (by omega) (by omega)) (fun e b => hy hl e b c)
    · refine ej_fin10 (d := d) (t := t) (z := r) (s := t + p) (by decide) hq hr ht ⟨by omega, by omega⟩ h0 k0 h1 k1 (by omega) ⟨by omega, by omega, fun _ => o t (by omega) (by omega) (by omega) (by omega), fun j g1 g2 g3 => ?_⟩ (by omega) (by omega) (o (t + p) (by omega) (by omega) (by omega) (by omega)) (by omega) (fun e b => hy hl e b c)
      have g4 := (hB j (by omega)).mp ((hc j (by omega)).mp g3).1
      omega
  have S : ∀ {n01 n10 c0 c1 cr : Int}, ((n01 = 1 ∧ r ≤ t ∧ t + p ≤ d) ∨ (n01 = 0 ∧ (t < r ∨ d < t + p))) → ((n10 = 1 ∧ r ≤ r ∧ d ≤ t + p) ∨ (n10 = 0 ∧ (r < r ∨ t + p < d))) → ej_bf a10 p d (1 + n01) c0 → ej_bf a10 p (t + p) (n10 + 1) c1 → (cr ≤ 41 ∧ cr ≤ c0 ∧ cr ≤ c1 ∧ (cr = 41 ∨ cr = c0 ∨ cr = c1)) → (r ≤ cr ↔ (r + p ≤ t ∨ t + 2 * p ≤ d)) → wX_feasible_9 post 2 (ej_i t) 1 (ej_i p) fc 2 fe fk a1 a2 a3 a4 a5 a6 a7 a8 a9 a10 a11 := by
    intro n01 n10 c0 c1 cr g1 g2 g3 g4 g5 g6
    refine ej_le 8 1 (fun z => absurd z (by omega)) (fun _ => ej_grb2 (b := r) (f0 := r) (f1 := t) ⟨by omega, by omega⟩ ⟨by omega, by omega⟩ ⟨by omega, by omega⟩ h0 h1 (by omega) (by omega) (by omega) (by omega)
      (ej_le 0 r (fun _ => ej_shutBefore2 (n00 := 1) (n01 := n01) (n10 := n10) (n11 := 1) (c0 := c0) (c1 := c1) (cr := cr) (f0 := r) (f1 := t) (u0 := d) (u1 := t + p) hq ⟨by omega, by omega⟩ ⟨by omega, by omega⟩ ⟨by omega, by omega⟩ ⟨by omega, by omega⟩ ⟨by omega, by omega⟩ h0 k0 h1 k1 (by omega) g1 g2 (by omega) g3 g4 g5 ?_ ?_ ?_) (fun z => absurd z (by omega))))
    · intro c
      exact br_t rfl (hn (by omega) a10)
    · intro c
      exact br_f (by decide) (nm_r (e' := 2) (by decide) (R (by omega) r a10 (fun j hj => ⟨fun g => ⟨g, by omega⟩, fun g => g.1⟩)))
    · intro c c2 b2 hb2
      exact br_f (by decide) (nm_r (e' := 2) (by decide) (R (by omega) _ b2 hb2))
  by_cases g1 : t + p < d
  · by_cases g2 : t + 2 * p ≤ d
    · exact S (n01 := 1) (n10 := 0) (c0 := d - p - p) (c1 := t) (cr := t) (by omega) (by omega) (Or.inr (Or.inr ⟨by omega, d - p, ej_oab_sh hB (by omega) (by omega), ej_oab_sh hB (by omega) (by omega)⟩)) (Or.inr (Or.inl ⟨by omega, ej_oab_sh hB (by omega) (by omega)⟩)) (by omega) (by omega)
    · by_cases g3 : 0 ≤ t - p
      · exact S (n01 := 1) (n10 := 0) (c0 := t - p) (c1 := t) (cr := t - p) (by omega) (by omega) (Or.inr (Or.inr ⟨by omega, d - p, ej_oab_sh hB (by omega) (by omega), ej_oab_sh hB (by omega) (by omega)⟩)) (Or.inr (Or.inl ⟨by omega, ej_oab_sh hB (by omega) (by omega)⟩)) (by omega) (by omega)
      · exact S (n01 := 1) (n10 := 0) (c0 := -1) (c1 := t) (cr := -1) (by omega) (by omega) (Or.inr (Or.inr ⟨by omega, d - p, ej_oab_sh hB (by omega) (by omega), ej_oab_sh hB (by omega) (by omega)⟩)) (Or.inr (Or.inl ⟨by omega, ej_oab_sh hB (by omega) (by omega)⟩)) (by omega) (by omega)
  · by_cases g2 : t + p = d
    · by_cases g3 : 0 ≤ t - p
      · exact S (n01 := 1) (n10 := 1) (c0 := t - p) (c1 := t - p) (cr := t - p) (by omega) (by omega) (Or.inr (Or.inr ⟨by omega, t, ej_oab_sh hB (by omega) (by omega), ej_oab_sh hB (by omega) (by omega)⟩)) (Or.inr (Or.inr ⟨by omega, t, ej_oab_sh hB (by omega) (by omega), ej_oab_sh hB (by omega) (by omega)⟩)) (by omega) (by omega)
      · exact S (n01 := 1) (n10 := 1) (c0 := -1) (c1 := -1) (cr := -1) (by omega) (by omega) (Or.inr (Or.inr ⟨by omega, t, ej_oab_sh hB (by omega) (by omega), ej_oab_sh hB (by omega) (by omega)⟩)) (Or.inr (Or.inr ⟨by omega, t, ej_oab_sh hB (by omega) (by omega), ej_oab_sh hB (by omega) (by omega)⟩)) (by omega) (by omega)
    · by_cases g3 : d ≤ t
      · exact S (n01 := 0) (n10 := 1) (c0 := d - p) (c1 := t - p) (cr := d - p) (by omega) (by omega) (Or.inr (Or.inl ⟨by omega, ej_oab_sh hB (by omega) (by omega)⟩)) (Or.inr (Or.inr ⟨by omega, t, ej_oab_sh hB (by omega) (by omega), ej_oab_sh hB (by omega) (by omega)⟩)) (by omega) (by omega)
      · by_cases g4 : 0 ≤ t - p
        · exact S (n01 := 0) (n10 := 1) (c0 := t - p) (c1 := t - p) (cr := t - p) (by omega) (by omega) (Or.inr (Or.inl ⟨by omega, ej_oab_sh hB (by omega) (by omega)⟩)) (Or.inr (Or.inr ⟨by omega, t, ej_oab_sh hB (by omega) (by omega), ej_oab_sh hB (by omega) (by omega)⟩)) (by omega) (by omega)
        · exact S (n01 := 0) (n10 := 1) (c0 := -1) (c1 := -1) (cr := -1) (by omega) (by omega) (Or.inr (Or.inl ⟨by omega, ej_oab_sh hB (by omega) (by omega)⟩)) (Or.inr (Or.inr ⟨by omega, t, ej_oab_sh hB (by omega) (by omega), ej_oab_sh hB (by omega) (by omega)⟩)) (by omega) (by omega)
/- t < r -/
theorem ej_two_C {post : Int32 → St2 → Prop} {p r d t : Int} (hq : 1 ≤ p ∧ p ≤ 6) (hr : 0 ≤ r ∧ r + p ≤ d ∧ d ≤ 40) (ht : 0 ≤ t ∧ t + p ≤ 40) (hA : t < r)
    (h0 : a7 0 = ej_i r) (k0 : a8 0 = ej_i d) (h1 : a7 1 = ej_i t) (k1 : a8 1 = ej_i (t + p)) (hB : ∀ j : Nat, j < 48 → (a10 j = 0 ↔ ¬ (d - p - p < (j : Int) ∧ (j : Int) < r)))
    (hy : (r + p ≤ t ∨ t + 2 * p ≤ d) → ∀ (e : Int32) (b c : Nat → Int32), post 1 (ej_i p, fc, 2, e, fk, a1, a2, a3, a4, a5, a6, a7, a8, b, c, a11))
    (hn : ¬ (r + p ≤ t ∨ t + 2 * p ≤ d) → ∀ c : Nat → Int32, post 0 (ej_i p, fc, 2, fe, fk, a1, a2, a3, a4, a5, a6, a7, a8, a9, c, a11)) : wX_feasible_9 post 2 (ej_i r) 1 (ej_i p) fc 2 fe fk a1 a2 a3 a4 a5 a6 a7 a8 a9 a10 a11 := by
  have S : ∀ {c0 c1 cr : Int}, ej_bf a10 p d (1 + 1) c0 → ej_bf a10 p (t + p) (0 + 1) c1 → (cr ≤ 41 ∧ cr ≤ c0 ∧ cr ≤ c1 ∧ (cr = 41 ∨ cr = c0 ∨ cr = c1)) → ((cr = t ∧ t + 2 * p ≤ d) ∨ (cr < t ∧ d < t + 2 * p)) → wX_feasible_9 post 2 (ej_i r) 1 (ej_i p) fc 2 fe fk a1 a2 a3 a4 a5 a6 a7 a8 a9 a10 a11 := by
    intro c0 c1 cr g3 g4 g5 g6
    refine ej_le 8 1 (fun z => absurd z (by omega)) (fun _ => ej_grb2 (b := t) (f0 := r) (f1 := t) ⟨by omega, by omega⟩ ⟨by omega, by omega⟩ ⟨by omega, by omega⟩ h0 h1 (by omega) (by omega) (by omega) (by omega)
      (ej_le 0 t (fun _ => ej_shutBefore2 (n00 := 1) (n01 := 1) (n10 := 0) (n11 := 1) (c0 := c0) (c1 := c1) (cr := cr) (f0 := r) (f1 := t) (u0 := d) (u1 := t + p) hq ⟨by omega, by omega⟩ ⟨by omega, by omega⟩ ⟨by omega, by omega⟩ ⟨by omega, by omega⟩ ⟨by omega, by omega⟩ h0 k0 h1 k1 (by omega) (by omega) (by omega) (by omega) g3 g4 g5 ?_ ?_ ?_) (fun z => absurd z (by omega))))
    · intro c
      exact br_t rfl (hn (by omega) a10)
    · intro c
      exact absurd c (by omega)
    · intro c c2 b2 hb2
      have o : ∀ x : Int, 0 ≤ x → x ≤ 40 → t ≤ x → (x ≤ d - p - p ∨ r ≤ x) → b2 x.toNat = 0 := fun x g1 g2 g3 g4 => (hb2 _ (by omega)).mpr ⟨(hB _ (by omega)).mpr (by omega), by omega⟩
      refine br_f (by decide) (nm_r (e' := 2) (by decide) ?_)
      by_cases g : t + p ≤ r
      · exact ej_fin10 (d := d) (t := t) (z := t) (s := r) (by decide) hq hr ht ⟨by omega, by omega⟩ h0 k0 h1 k1 (by omega) (ej_oaf_at (by omega) (o t (by omega) (by omega) (by omega) (by omega))) (by omega) (by omega) (o r (by omega) (by omega) (by omega) (by omega)) (by omega) (fun e b => hy (by omega) e b b2)
      · exact ej_fin10 (d := d) (t := t) (z := t) (s := t + p) (by decide) hq hr ht ⟨by omega, by omega⟩ h0 k0 h1 k1 (by omega) (ej_oaf_at (by omega) (o t (by omega) (by omega) (by omega) (by omega))) (by omega) (by omega) (o (t + p) (by omega) (by omega) (by omega) (by omega)) (by omega) (fun e b => hy (by omega) e b b2)
  by_cases g1 : t + 2 * p ≤ d
  · exact S (c0 := d - p - p) (c1 := t) (cr := t) (Or.inr (Or.inr ⟨by omega, d - p, ej_oab_sh hB (by omega) (by omega), ej_oab_sh hB (by omega) (by omega)⟩)) (Or.inr (Or.inl ⟨by omega, ej_oab_sh hB (by omega) (by omega)⟩)) (by omega) (by omega)
  · by_cases g2 : 0 ≤ d - p - p
    · exact S (c0 := d - p - p) (c1 := d - p - p) (cr := d - p - p) (Or.inr (Or.inr ⟨by omega, d - p, ej_oab_sh hB (by omega) (by omega), ej_oab_sh hB (by omega) (by omega)⟩)) (Or.inr (Or.inl ⟨by omega, ej_oab_sh hB (by omega) (by omega)⟩)) (by omega) (by omega)
    · exact S (c0 := -1) (c1 := -1) (cr := -1) (Or.inr (Or.inr ⟨by omega, d - p, ej_oab_sh hB (by omega) (by omega), ej_oab_sh hB (by omega) (by omega)⟩)) (Or.inr (Or.inl ⟨by omega, ej_oab_sh hB (by omega) (by omega)⟩)) (by omega) (by omega)
/- two jobs, the second of no slack -/
theorem ej_feas2 {post : Int32 → St2 → Prop} {p r d t : Int} (hq : 1 ≤ p ∧ p ≤ 6) (hr : 0 ≤ r ∧ r + p ≤ d ∧ d ≤ 40) (ht : 0 ≤ t ∧ t + p ≤ 40) (h4 : ∀ j, j < 4 → a4 j = 0)
    (h0 : a7 0 = ej_i r) (k0 : a8 0 = ej_i d) (h1 : a7 1 = ej_i t) (k1 : a8 1 = ej_i (t + p))
    (hy : (r + p ≤ t ∨ t + 2 * p ≤ d) → ∀ (e : Int32) (b c : Nat → Int32), post 1 (ej_i p, fc, 2, e, fk, a1, a2, a3, a4, a5, a6, a7, a8, b, c, a11))
    (hn : ¬ (r + p ≤ t ∨ t + 2 * p ≤ d) → ∀ c : Nat → Int32, post 0 (ej_i p, fc, 2, fe, fk, a1, a2, a3, a4, a5, a6, a7, a8, a9, c, a11)) : wpX_feasible post (ej_i p, fc, 2, fe, fk, a1, a2, a3, a4, a5, a6, a7, a8, a9, a10, a11) := by
  unfold wpX_feasible
  dsimp only
  refine ej_shutBlocks h4 (fun b hb => ⟨3, ?_⟩)
  have o : ∀ x : Int, 0 ≤ x → x ≤ 40 → b x.toNat = 0 := fun x g1 g2 => hb _ (by omega)
  have S : ∀ {m n00 n01 n10 n11 c0 c1 cr : Int}, ((m = r ∧ t ≤ r) ∨ (m = t ∧ r ≤ t)) → ((n00 = 1 ∧ m ≤ r ∧ d ≤ d) ∨ (n00 = 0 ∧ (r < m ∨ d < d))) → ((n01 = 1 ∧ m ≤ t ∧ t + p ≤ d) ∨ (n01 = 0 ∧ (t < m ∨ d < t + p))) → ((n10 = 1 ∧ m ≤ r ∧ d ≤ t + p) ∨ (n10 = 0 ∧ (r < m ∨ t + p < d))) → ((n11 = 1 ∧ m ≤ t ∧ t + p ≤ t + p) ∨ (n11 = 0 ∧ (t < m ∨ t + p < t + p))) →
      ej_bf b p d (n00 + n01) c0 → ej_bf b p (t + p) (n10 + n11) c1 → (cr ≤ 41 ∧ cr ≤ c0 ∧ cr ≤ c1 ∧ (cr = 41 ∨ cr = c0 ∨ cr = c1)) → (cr < m → ¬ (r + p ≤ t ∨ t + 2 * p ≤ d)) →
      (m ≤ cr → ∀ c : Nat → Int32, (∀ j : Nat, j < 48 → (c j = 0 ↔ ¬ (cr - p < (j : Int) ∧ (j : Int) < m))) → wX_feasible_9 post 2 (ej_i m) 1 (ej_i p) fc 2 fe fk a1 a2 a3 a4 a5 a6 a7 a8 a9 c a11) → wX_feasible_9 post 3 41 0 (ej_i p) fc 2 fe fk a1 a2 a3 a4 a5 a6 a7 a8 a9 b a11 := by
    intro m n00 n01 n10 n11 c0 c1 cr gm s00 s01 s10 s11 g3 g4 g5 g6 g7
    refine ej_le 8 0 (fun z => absurd z (by omega)) (fun _ => ej_grb2 (ab := 41) (b := m) (f0 := r) (f1 := t) ⟨by omega, by omega⟩ ⟨by omega, by omega⟩ ⟨by omega, by omega⟩ h0 h1 (by omega) (by omega) (by omega) (by omega)
      (ej_le 0 m (fun _ => ej_shutBefore2 (n00 := n00) (n01 := n01) (n10 := n10) (n11 := n11) (c0 := c0) (c1 := c1) (cr := cr) (f0 := r) (f1 := t) (u0 := d) (u1 := t + p) hq ⟨by omega, by omega⟩ ⟨by omega, by omega⟩ ⟨by omega, by omega⟩ ⟨by omega, by omega⟩ ⟨by omega, by omega⟩ h0 k0 h1 k1 s00 s01 s10 s11 g3 g4 g5 ?_ ?_ ?_) (fun z => absurd z (by omega))))
    · intro c
      exact br_t rfl (hn (g6 c) b)
    · intro c
      exact br_f (by decide) (nm_r (e' := 1) (by decide) (g7 (by omega) b (fun j hj => ⟨fun _ => by omega, fun _ => hb j hj⟩)))
    · intro c c2 b2 hb2
      exact br_f (by decide) (nm_r (e' := 1) (by decide) (g7 c b2 (fun j hj => ⟨fun g => ((hb2 j hj).mp g).2, fun g => (hb2 j hj).mpr ⟨hb j hj, g⟩⟩)))
  by_cases gA : r < t
  · by_cases g1 : t + p ≤ d
    · exact S (m := t) (n00 := 0) (n01 := 1) (n10 := 0) (n11 := 1) (c0 := d - p) (c1 := t) (cr := t) (by omega) (by omega) (by omega) (by omega) (by omega) (Or.inr (Or.inl ⟨by omega, ej_oab_at (by omega) rfl (o _ (by omega) (by omega))⟩)) (Or.inr (Or.inl ⟨by omega, ej_oab_at (by omega) (by omega) (o _ (by omega) (by omega))⟩)) (by omega) (by omega) (fun _ c hc => ej_two_A hq hr ht gA h0 k0 h1 k1 hc hy hn)
    · exact S (m := t) (n00 := 0) (n01 := 0) (n10 := 0) (n11 := 1) (c0 := 41) (c1 := t) (cr := t) (by omega) (by omega) (by omega) (by omega) (by omega) (Or.inl ⟨by omega, rfl⟩) (Or.inr (Or.inl ⟨by omega, ej_oab_at (by omega) (by omega) (o _ (by omega) (by omega))⟩)) (by omega) (by omega) (fun _ c hc => ej_two_A hq hr ht gA h0 k0 h1 k1 hc hy hn)
  · by_cases gC : t < r
    · exact S (m := r) (n00 := 1) (n01 := 0) (n10 := 0) (n11 := 0) (c0 := d - p) (c1 := 41) (cr := d - p) (by omega) (by omega) (by omega) (by omega) (by omega) (Or.inr (Or.inl ⟨by omega, ej_oab_at (by omega) rfl (o _ (by omega) (by omega))⟩)) (Or.inl ⟨by omega, rfl⟩) (by omega) (by omega) (fun _ c hc => ej_two_C hq hr ht gC h0 k0 h1 k1 hc hy hn)
    · have e : r = t := by omega
      have F : t + 2 * p ≤ d → ∀ c : Nat → Int32, (∀ j : Nat, j < 48 → (c j = 0 ↔ ¬ (t - p < (j : Int) ∧ (j : Int) < t))) → wX_feasible_9 post 2 (ej_i t) 1 (ej_i p) fc 2 fe fk a1 a2 a3 a4 a5 a6 a7 a8 a9 c a11 := by
        intro g c hc
        exact br_f (by decide) (ej_grb2 (b := -1) (f0 := r) (f1 := t) ⟨by omega, by omega⟩ ⟨by omega, by omega⟩ ⟨by omega, by omega⟩ h0 h1 (by omega) (by omega) (by omega) (by omega)
          (ej_le 0 (-1) (fun z => absurd z (by omega)) (fun _ => ej_disp10 (f0 := r) (f1 := t) (u0 := d) (u1 := t + p) (z := t) (s := t + p) hq ⟨by omega, by omega⟩ ⟨by omega, by omega⟩ ⟨by omega, by omega⟩ ⟨by omega, by omega⟩ h0 h1 k0 k1 (by omega) (ej_oaf_at (by omega) ((hc _ (by omega)).mpr (by omega))) (by omega) (by omega) (by omega) ((hc _ (by omega)).mpr (by omega)) (by omega) (fun e b9 => ⟨ej_nb1, hy (by omega) e b9 c⟩))))
      by_cases g1 : t + 2 * p ≤ d
      · exact S (m := t) (n00 := 1) (n01 := 1) (n10 := 0) (n11 := 1) (c0 := d - p - p) (c1 := t) (cr := t) (by omega) (by omega) (by omega) (by omega) (by omega) (Or.inr (Or.inr ⟨by omega, d - p, ej_oab_at (by omega) rfl (o _ (by omega) (by omega)), ej_oab_at (by omega) rfl (o _ (by omega) (by omega))⟩)) (Or.inr (Or.inl ⟨by omega, ej_oab_at (by omega) (by omega) (o _ (by omega) (by omega))⟩)) (by omega) (by omega) (fun _ c hc => F g1 c hc)
      · have B : ∃ x : Int, x < t ∧ -1 ≤ x ∧ ej_oab b (d - p - p) x := by
          by_cases g2 : 0 ≤ d - p - p
          · exact ⟨d - p - p, by omega, by omega, ej_oab_at (by omega) rfl (o _ (by omega) (by omega))⟩
          · exact ⟨-1, by omega, by omega, ej_oab_neg (by omega)⟩
        obtain ⟨x, x1, x2, x3⟩ := B
        by_cases g3 : d = t + p
        · have x4 : ej_oab b (t - p) x := by
            rw [show t - p = d - p - p by omega]
            exact x3
          exact S (m := t) (n00 := 1) (n01 := 1) (n10 := 1) (n11 := 1) (c0 := x) (c1 := x) (cr := x) (by omega) (by omega) (by omega) (by omega) (by omega) (Or.inr (Or.inr ⟨by omega, d - p, ej_oab_at (by omega) rfl (o _ (by omega) (by omega)), x3⟩)) (Or.inr (Or.inr ⟨by omega, t, ej_oab_at (by omega) (by omega) (o _ (by omega) (by omega)), x4⟩)) (by omega) (by omega) (fun g => absurd g (by omega))
        · exact S (m := t) (n00 := 1) (n01 := 1) (n10 := 0) (n11 := 1) (c0 := x) (c1 := t) (cr := x) (by omega) (by omega) (by omega) (by omega) (by omega) (Or.inr (Or.inr ⟨by omega, d - p, ej_oab_at (by omega) rfl (o _ (by omega) (by omega)), x3⟩)) (Or.inr (Or.inl ⟨by omega, ej_oab_at (by omega) (by omega) (o _ (by omega) (by omega))⟩)) (by omega) (by omega) (fun g => absurd g (by omega))
end
end
section
section
variable {fl fc fa fe fk : Int32} {a1 a2 a3 a4 a5 a6 a7 a8 a9 a10 a11 : Nat → Int32}
/-- one job, number 0, of window (r, d); no blocks -/
def ej_G (p c r d : Int) (a1 a2 a3 a4 : Nat → Int32) : Prop := (1 ≤ p ∧ p ≤ 6) ∧ (1 ≤ c ∧ c ≤ 6) ∧ (0 ≤ r ∧ r + p ≤ d ∧ d ≤ 40) ∧ ¬ a1 0 = 0 ∧ (∀ j, 1 ≤ j → j < 8 → a1 j = 0) ∧ a2 0 = ej_i r ∧ a3 0 = ej_i d ∧ ∀ j, j < 4 → a4 j = 0
/-- no job; no blocks -/
def ej_Z (p c : Int) (a1 a4 : Nat → Int32) : Prop := (1 ≤ p ∧ p ≤ 6) ∧ (1 ≤ c ∧ c ≤ 6) ∧ (∀ j, j < 8 → a1 j = 0) ∧ ∀ j, j < 4 → a4 j = 0
theorem ej_windowOk {post : Int32 → Prop} {p0 p1 : Int32} (hy : ¬ p0 < 0 → ¬ 40 < p1 → ¬ 40 < p0 → ¬ p1 < 0 → ¬ (p1 - p0) < fl → post 1)
    (hn : (p0 < 0 ∨ 40 < p1 ∨ 40 < p0 ∨ p1 < 0 ∨ (p1 - p0) < fl) → post 0) : wpX_windowOk post (fl, fc, fa, fe, fk, a1, a2, a3, a4, a5, a6, a7, a8, a9, a10, a11) p0 p1 :=
  br_c (fun h => hn (Or.inl h)) (fun h1 => br_c (fun h => hn (Or.inr (Or.inl h))) (fun h2 => br_c (fun h => hn (Or.inr (Or.inr (Or.inl h)))) (fun h3 => br_c (fun h => hn (Or.inr (Or.inr (Or.inr (Or.inl h))))) (fun h4 => br_c (fun h => hn (Or.inr (Or.inr (Or.inr (Or.inr h))))) (fun h5 => hy h1 h2 h3 h4 h5)))))
theorem ej_freeNumber {post : Int32 → Prop} {c : Int} (hc : 1 ≤ c ∧ c ≤ 6) (h : a1 0 = 0) (hp : post 0) : wpX_freeNumber post (fl, ej_i c, fa, fe, fk, a1, a2, a3, a4, a5, a6, a7, a8, a9, a10, a11) :=
  ⟨1, ej_le c 0 (fun z => absurd z (by omega)) (fun _ => ⟨ej_in0, br_t (ej_g0 h) hp⟩)⟩
theorem ej_holds0 {post : Int32 → Prop} {c : Int} (hc : 1 ≤ c ∧ c ≤ 6) (h : a1 0 = 0) (hp : post 0) : wpX_holds post (fl, ej_i c, fa, fe, fk, a1, a2, a3, a4, a5, a6, a7, a8, a9, a10, a11) 0 :=
  br_f (by decide) (ej_le c 0 (fun z => absurd z (by omega)) (fun _ => ⟨ej_in0, br_t (ej_g0 h) hp⟩))
theorem ej_holds1 {post : Int32 → Prop} {c : Int} (hc : 1 ≤ c ∧ c ≤ 6) (h : ¬ a1 0 = 0) (hp : post 1) : wpX_holds post (fl, ej_i c, fa, fe, fk, a1, a2, a3, a4, a5, a6, a7, a8, a9, a10, a11) 0 :=
  br_f (by decide) (ej_le c 0 (fun z => absurd z (by omega)) (fun _ => ⟨ej_in0, br_f (by rw [ej_c0]; exact h) hp⟩))
theorem ej_ask0 {post : St2 → Prop} {f u : Int} (hf : 0 ≤ f ∧ f ≤ 100) (hu : 0 ≤ u ∧ u ≤ 100) (hp : post (fl, fc, 1, fe, fk, a1, a2, a3, a4, a5, a6, upd a7 0 (ej_i f), upd a8 0 (ej_i u), a9, a10, a11)) : wpX_ask post (fl, fc, 0, fe, fk, a1, a2, a3, a4, a5, a6, a7, a8, a9, a10, a11) (ej_i f) (ej_i u) := by
  refine br_f (by decide) ⟨ej_in0, nm_r (e' := upd a7 0 (ej_i f)) ?_ ⟨ej_in0, nm_r (e' := upd a8 0 (ej_i u)) ?_ (nm_r (e' := 1) (by decide) hp)⟩⟩
  · rw [ej_c0, ej_b8 (by omega) (by omega)]
  · rw [ej_c0, ej_b8 (by omega) (by omega)]
theorem ej_ask0_2 {post : St2 → Prop} {f u : Int} (hf : 0 ≤ f ∧ f ≤ 100) (hu : 0 ≤ u ∧ u ≤ 100) (hp : post (fl, fc, 1, fe, fk, a1, a2, a3, a4, a5, a6, upd a7 0 (ej_i f), upd a8 0 (ej_i u), a9, a10, a11)) : wpX_ask_2 post (fl, fc, 0, fe, fk, a1, a2, a3, a4, a5, a6, a7, a8, a9, a10, a11) (ej_i f) (ej_i u) := by
  refine br_f (by decide) ⟨ej_in0, nm_r (e' := upd a7 0 (ej_i f)) ?_ ⟨ej_in0, nm_r (e' := upd a8 0 (ej_i u)) ?_ (nm_r (e' := 1) (by decide) hp)⟩⟩
  · rw [ej_c0, ej_b8 (by omega) (by omega)]
  · rw [ej_c0, ej_b8 (by omega) (by omega)]
theorem ej_ask1 {post : St2 → Prop} {f u : Int} (hf : 0 ≤ f ∧ f ≤ 100) (hu : 0 ≤ u ∧ u ≤ 100) (hp : post (fl, fc, 2, fe, fk, a1, a2, a3, a4, a5, a6, upd a7 1 (ej_i f), upd a8 1 (ej_i u), a9, a10, a11)) : wpX_ask post (fl, fc, 1, fe, fk, a1, a2, a3, a4, a5, a6, a7, a8, a9, a10, a11) (ej_i f) (ej_i u) := by
  refine br_f (by decide) ⟨ej_in1, nm_r (e' := upd a7 1 (ej_i f)) ?_ ⟨ej_in1, nm_r (e' := upd a8 1 (ej_i u)) ?_ (nm_r (e' := 2) (by decide) hp)⟩⟩
  · rw [ej_c1, ej_b8 (by omega) (by omega)]
  · rw [ej_c1, ej_b8 (by omega) (by omega)]
theorem ej_ask1_2 {post : St2 → Prop} {f u : Int} (hf : 0 ≤ f ∧ f ≤ 100) (hu : 0 ≤ u ∧ u ≤ 100) (hp : post (fl, fc, 2, fe, fk, a1, a2, a3, a4, a5, a6, upd a7 1 (ej_i f), upd a8 1 (ej_i u), a9, a10, a11)) : wpX_ask_2 post (fl, fc, 1, fe, fk, a1, a2, a3, a4, a5, a6, a7, a8, a9, a10, a11) (ej_i f) (ej_i u) := by
  refine br_f (by decide) ⟨ej_in1, nm_r (e' := upd a7 1 (ej_i f)) ?_ ⟨ej_in1, nm_r (e' := upd a8 1 (ej_i u)) ?_ (nm_r (e' := 2) (by decide) hp)⟩⟩
  · rw [ej_c1, ej_b8 (by omega) (by omega)]
  · rw [ej_c1, ej_b8 (by omega) (by omega)]
theorem ej_apT {post : St2 → Prop} {c : Int} {x1 x2 : Int32} (hc : 1 ≤ c ∧ c ≤ 6) (hp : post (fl, ej_i c, fa, fe, fk, a1, a2, a3, a4, a5, a6, a7, a8, a9, a10, a11)) : ∀ (n : Nat) (k : Int), 0 ≤ k → k ≤ c → c < k + n → (∀ j : Nat, k ≤ (j : Int) → j < 8 → a1 j = 0) → wX_askPinned_7 post x1 x2 n (ej_i k) fl (ej_i c) fa fe fk a1 a2 a3 a4 a5 a6 a7 a8 a9 a10 a11 := by
  intro n
  induction n with
  | zero =>
    intro k _ h1 h2
    exact absurd h2 (by omega)
  | succ n ih =>
    intro k hk hk2 hn h
    refine ej_le c k (fun z => hp) (fun z => ⟨ej_in hk (by omega) (by omega), br_t ?_ (nm_r (ej_p1 k) (ih (k + 1) (by omega) (by omega) (by omega) (fun j h1 h2 => h j (by omega) h2)))⟩)
    rw [ej_cl hk (by omega)]
    exact h _ (by omega) (by omega)
theorem ej_apT_2 {post : St2 → Prop} {c : Int} {x1 x2 : Int32} (hc : 1 ≤ c ∧ c ≤ 6) (hp : post (fl, ej_i c, fa, fe, fk, a1, a2, a3, a4, a5, a6, a7, a8, a9, a10, a11)) : ∀ (n : Nat) (k : Int), 0 ≤ k → k ≤ c → c < k + n → (∀ j : Nat, k ≤ (j : Int) → j < 8 → a1 j = 0) → wX_askPinned_2_7 post x1 x2 n (ej_i k) fl (ej_i c) fa fe fk a1 a2 a3 a4 a5 a6 a7 a8 a9 a10 a11 := by
  intro n
  induction n with
  | zero =>
    intro k _ h1 h2
    exact absurd h2 (by omega)
  | succ n ih =>
    intro k hk hk2 hn h
    refine ej_le c k (fun z => hp) (fun z => ⟨ej_in hk (by omega) (by omega), br_t ?_ (nm_r (ej_p1 k) (ih (k + 1) (by omega) (by omega) (by omega) (fun j h1 h2 => h j (by omega) h2)))⟩)
    rw [ej_cl hk (by omega)]
    exact h _ (by omega) (by omega)
theorem ej_apSkip {post : St2 → Prop} {p c r d : Int} (G : ej_G p c r d a1 a2 a3 a4) (hp : post (ej_i p, ej_i c, 0, fe, fk, a1, a2, a3, a4, a5, a6, a7, a8, a9, a10, a11)) : wpX_askPinned post (ej_i p, ej_i c, fa, fe, fk, a1, a2, a3, a4, a5, a6, a7, a8, a9, a10, a11) 0 0 := by
  obtain ⟨_, hc, _, h1, h2, _⟩ := G
  exact ⟨8, ej_le c 0 (fun z => absurd z (by omega)) (fun _ => ⟨ej_in0, br_f (by rw [ej_c0]; exact h1) (br_t rfl (nm_r (e' := ej_i 1) (by decide) (ej_apT hc hp 7 1 (by omega) (by omega) (by omega) (fun j g1 g2 => h2 j (by omega) g2))))⟩)⟩
theorem ej_apSkip_2 {post : St2 → Prop} {p c r d : Int} (G : ej_G p c r d a1 a2 a3 a4) (hp : post (ej_i p, ej_i c, 0, fe, fk, a1, a2, a3, a4, a5, a6, a7, a8, a9, a10, a11)) : wpX_askPinned_2 post (ej_i p, ej_i c, fa, fe, fk, a1, a2, a3, a4, a5, a6, a7, a8, a9, a10, a11) 0 0 := by
  obtain ⟨_, hc, _, h1, h2, _⟩ := G
  exact ⟨8, ej_le c 0 (fun z => absurd z (by omega)) (fun _ => ⟨ej_in0, br_f (by rw [ej_c0]; exact h1) (br_t rfl (nm_r (e' := ej_i 1) (by decide) (ej_apT_2 hc hp 7 1 (by omega) (by omega) (by omega) (fun j g1 g2 => h2 j (by omega) g2))))⟩)⟩
theorem ej_askAll0 {post : St2 → Prop} {p c : Int} (Z : ej_Z p c a1 a4) (hp : post (ej_i p, ej_i c, 0, fe, fk, a1, a2, a3, a4, a5, a6, a7, a8, a9, a10, a11)) : wpX_askAll post (ej_i p, ej_i c, fa, fe, fk, a1, a2, a3, a4, a5, a6, a7, a8, a9, a10, a11) := by
  obtain ⟨_, hc, h1, _⟩ := Z
  unfold wpX_askAll
  dsimp only
  unfold wpX_askAllBut
  dsimp only
  exact ⟨8, ej_apT hc hp 8 0 (by omega) (by omega) (by omega) (fun j _ g2 => h1 j g2)⟩
theorem ej_askAll1 {post : St2 → Prop} {p c r d : Int} (G : ej_G p c r d a1 a2 a3 a4) (hp : post (ej_i p, ej_i c, 1, fe, fk, a1, a2, a3, a4, a5, a6, upd a7 0 (ej_i r), upd a8 0 (ej_i d), a9, a10, a11)) : wpX_askAll post (ej_i p, ej_i c, fa, fe, fk, a1, a2, a3, a4, a5, a6, a7, a8, a9, a10, a11) := by
  obtain ⟨hq, hc, hr, h1, h2, e2, e3, _⟩ := G
  unfold wpX_askAll
  dsimp only
  unfold wpX_askAllBut
  dsimp only
  refine ⟨8, ej_le c 0 (fun z => absurd z (by omega)) (fun _ => ⟨ej_in0, br_f (by rw [ej_c0]; exact h1) (br_f (by decide) (br_t (by decide) (br_t rfl ⟨ej_in0, br_t rfl ⟨ej_in0, ?_⟩⟩)))⟩)⟩
  unfold wX_askPinned_88
  rw [ej_c0, e2, e3]
  refine ej_ask0 ⟨by omega, by omega⟩ ⟨by omega, by omega⟩ ?_
  dsimp only
  exact nm_r (e' := ej_i 1) (by decide) (ej_apT hc hp 7 1 (by omega) (by omega) (by omega) (fun j g1 g2 => h2 j (by omega) g2))
theorem ej_askBut {post : St2 → Prop} {p c r d : Int} (G : ej_G p c r d a1 a2 a3 a4) (hp : post (ej_i p, ej_i c, 0, fe, fk, a1, a2, a3, a4, a5, a6, a7, a8, a9, a10, a11)) : wpX_askAllBut post (ej_i p, ej_i c, fa, fe, fk, a1, a2, a3, a4, a5, a6, a7, a8, a9, a10, a11) 0 := by
  unfold wpX_askAllBut
  dsimp only
  exact ej_apSkip G hp
theorem ej_raise0 {post : St2 → Prop} {m : Int32} (hp : post (fl, fc, 0, fe, fk, a1, a2, a3, a4, a5, a6, a7, a8, a9, a10, a11)) : wpX_raise post (fl, fc, 0, fe, fk, a1, a2, a3, a4, a5, a6, a7, a8, a9, a10, a11) m :=
  ⟨1, ej_le 0 0 (fun _ => hp) (fun z => absurd z (by omega))⟩
theorem ej_raise1 {post : St2 → Prop} {m f0 : Int} (hf0 : 0 ≤ f0 ∧ f0 ≤ 40) (hm : 0 ≤ m ∧ m ≤ 40) (h0 : a7 0 = ej_i f0) (hp : ∀ (b : Nat → Int32) (f : Int), ((f = f0 ∧ m ≤ f0) ∨ (f = m ∧ f0 ≤ m)) → b 0 = ej_i f → post (fl, fc, 1, fe, fk, a1, a2, a3, a4, a5, a6, b, a8, a9, a10, a11)) : wpX_raise post (fl, fc, 1, fe, fk, a1, a2, a3, a4, a5, a6, a7, a8, a9, a10, a11) (ej_i m) := by
  refine ⟨2, ej_le 1 0 (fun z => absurd z (by omega)) (fun _ => ⟨ej_in0, ej_le m f0 (fun c => nm_r (e' := 1) (by decide) (ej_le 1 1 (fun _ => hp a7 f0 (by omega) h0) (fun z => absurd z (by omega))))
    (fun c => ⟨ej_in0, nm_e (nm_r (e' := 1) (by decide) (ej_le 1 1 (fun _ => hp _ m (by omega) ?_) (fun z => absurd z (by omega))))⟩) (hy := ej_g0 h0)⟩)⟩
  rw [ej_c0, pk_us, ej_b8 (by omega) (by omega)]
theorem ej_jobsT {post : Int32 → Prop} {c : Int} {x1 : Int32} (hc : 1 ≤ c ∧ c ≤ 6) (hp : post x1) : ∀ (n : Nat) (k : Int), 0 ≤ k → k ≤ c → c < k + n → (∀ j : Nat, k ≤ (j : Int) → j < 8 → a1 j = 0) → wX_jobs_4 post fl (ej_i c) fa fe fk a1 a2 a3 a4 a5 a6 a7 a8 a9 a10 a11 n x1 (ej_i k) := by
  intro n
  induction n with
  | zero =>
    intro k _ h1 h2
    exact absurd h2 (by omega)
  | succ n ih =>
    intro k hk hk2 hn h
    refine ej_le c k (fun z => hp) (fun z => ⟨ej_in hk (by omega) (by omega), br_t ?_ (nm_r (ej_p1 k) (ih (k + 1) (by omega) (by omega) (by omega) (fun j h1 h2 => h j (by omega) h2)))⟩)
    rw [ej_cl hk (by omega)]
    exact h _ (by omega) (by omega)
theorem ej_jobs0 {post : Int32 → Prop} {p c : Int} (Z : ej_Z p c a1 a4) (hp : post 0) : wpX_jobs post (ej_i p, ej_i c, fa, fe, fk, a1, a2, a3, a4, a5, a6, a7, a8, a9, a10, a11) := by
  obtain ⟨_, hc, h1, _⟩ := Z
  exact ⟨8, ej_jobsT hc hp 8 0 (by omega) (by omega) (by omega) (fun j _ g2 => h1 j g2)⟩
theorem ej_jobs1 {post : Int32 → Prop} {p c r d : Int} (G : ej_G p c r d a1 a2 a3 a4) (hp : post 1) : wpX_jobs post (ej_i p, ej_i c, fa, fe, fk, a1, a2, a3, a4, a5, a6, a7, a8, a9, a10, a11) := by
  obtain ⟨_, hc, _, h1, h2, _⟩ := G
  exact ⟨8, ej_le c 0 (fun z => absurd z (by omega)) (fun _ => ⟨ej_in0, br_f (by rw [ej_c0]; exact h1) (nm_r (e' := 1) (by decide) (nm_r (e' := ej_i 1) (by decide) (ej_jobsT hc hp 7 1 (by omega) (by omega) (by omega) (fun j g1 g2 => h2 j (by omega) g2))))⟩)⟩
end
end
section
section
variable {fl fc fa fe fk : Int32} {a1 a2 a3 a4 a5 a6 a7 a8 a9 a10 a11 : Nat → Int32}
def ej_w : Nat → Int
  | 0 => 1
  | n + 1 => 2 * ej_w n
theorem ej_w8 : ej_w 8 = 256 := by decide
theorem ej_eo23 {post : Int32 → St2 → Prop} {p c r d : Int} (G : ej_G p c r d a1 a2 a3 a4) (hp : ∀ (fa fe : Int32) (a7 a8 a9 a10 : Nat → Int32), post (ej_i r) (ej_i p, ej_i c, fa, fe, fk, a1, a2, a3, a4, a5, a6, a7, a8, a9, a10, a11)) :
    ∀ (n : Nat) (k h : Int) (fa fe : Int32) (a7 a8 a9 a10 : Nat → Int32), 0 ≤ k → k ≤ 8 → 8 < k + n → r ≤ h → h ≤ d - p → wX_earliestOf_23 post 0 0 n (ej_i r) (ej_i h) (ej_i k) (ej_i p) (ej_i c) fa fe fk a1 a2 a3 a4 a5 a6 a7 a8 a9 a10 a11 := by
  have G' := G
  obtain ⟨hq, hc, hr, h1, h2, e2, e3, h4⟩ := G'
  intro n
  induction n with
  | zero =>
    intro k h fa fe a7 a8 a9 a10 _ z1 z2
    exact absurd z2 (by omega)
  | succ n ih =>
    intro k h fa fe a7 a8 a9 a10 hk hk2 hn hh hh2
    refine ej_le 8 k (fun _ => hp _ _ _ _ _ _) (fun c1 => ej_le h r (fun _ => hp _ _ _ _ _ _) (fun c2 => nm_r (e' := ej_i ((r + h) / 2)) ?_ ?_))
    · rw [ej_add, ej_half (by omega) (by omega)]
    · refine ej_apSkip G ?_
      dsimp only
      refine ⟨ej_in0, ?_⟩
      rw [ej_c0, e2, ej_add]
      refine ej_ask0 ⟨by omega, by omega⟩ ⟨by omega, by omega⟩ ?_
      dsimp only
      refine ej_feas1 (f0 := r) (u0 := (r + h) / 2 + p) hq ⟨by omega, by omega⟩ ⟨by omega, by omega⟩ h4 pk_us pk_us (fun _ b9 b10 => ?_) (fun z => absurd z (by omega))
      dsimp only
      exact br_f (by decide) (nm_r (ej_p1 k) (ih (k + 1) _ _ _ _ _ _ _ (by omega) (by omega) (by omega) (by omega) (by omega)))
theorem ej_eo23_2 {post : Int32 → St2 → Prop} {p c r d : Int} (G : ej_G p c r d a1 a2 a3 a4) (hp : ∀ (fa fe : Int32) (a7 a8 a9 a10 : Nat → Int32), post (ej_i r) (ej_i p, ej_i c, fa, fe, fk, a1, a2, a3, a4, a5, a6, a7, a8, a9, a10, a11)) :
    ∀ (n : Nat) (k h : Int) (fa fe : Int32) (a7 a8 a9 a10 : Nat → Int32), 0 ≤ k → k ≤ 8 → 8 < k + n → r ≤ h → h ≤ d - p → wX_earliestOf_2_23 post 0 0 n (ej_i r) (ej_i h) (ej_i k) (ej_i p) (ej_i c) fa fe fk a1 a2 a3 a4 a5 a6 a7 a8 a9 a10 a11 := by
  have G' := G
  obtain ⟨hq, hc, hr, h1, h2, e2, e3, h4⟩ := G'
  intro n
  induction n with
  | zero =>
    intro k h fa fe a7 a8 a9 a10 _ z1 z2
    exact absurd z2 (by omega)
  | succ n ih =>
    intro k h fa fe a7 a8 a9 a10 hk hk2 hn hh hh2
    refine ej_le 8 k (fun _ => hp _ _ _ _ _ _) (fun c1 => ej_le h r (fun _ => hp _ _ _ _ _ _) (fun c2 => nm_r (e' := ej_i ((r + h) / 2)) ?_ ?_))
    · rw [ej_add, ej_half (by omega) (by omega)]
    · refine ej_apSkip_2 G ?_
      dsimp only
      refine ⟨ej_in0, ?_⟩
      rw [ej_c0, e2, ej_add]
      refine ej_ask0_2 ⟨by omega, by omega⟩ ⟨by omega, by omega⟩ ?_
      dsimp only
      refine ej_feas1_2 (f0 := r) (u0 := (r + h) / 2 + p) hq ⟨by omega, by omega⟩ ⟨by omega, by omega⟩ h4 pk_us pk_us (fun _ b9 b10 => ?_) (fun z => absurd z (by omega))
      dsimp only
      exact br_f (by decide) (nm_r (ej_p1 k) (ih (k + 1) _ _ _ _ _ _ _ (by omega) (by omega) (by omega) (by omega) (by omega)))
theorem ej_earliestOf {post : Int32 → St2 → Prop} {p c r d : Int} (G : ej_G p c r d a1 a2 a3 a4) (hp : ∀ (fa fe : Int32) (a7 a8 a9 a10 : Nat → Int32), post (ej_i r) (ej_i p, ej_i c, fa, fe, fk, a1, a2, a3, a4, a5, a6, a7, a8, a9, a10, a11)) : wpX_earliestOf post (ej_i p, ej_i c, fa, fe, fk, a1, a2, a3, a4, a5, a6, a7, a8, a9, a10, a11) 0 0 := by
  have G' := G
  obtain ⟨hq, hc, hr, h1, h2, e2, e3, h4⟩ := G'
  refine ⟨ej_in0, nm_r (e' := ej_i r) ?_ ⟨ej_in0, nm_r (e' := ej_i (d - p)) ?_ ⟨9, ej_eo23 G hp 9 0 (d - p) _ _ _ _ _ _ (by omega) (by omega) (by omega) (by omega) (by omega)⟩⟩⟩
  · exact ej_g0 e2
  · rw [ej_c0, e3, ej_sub]
theorem ej_earliestOf_2 {post : Int32 → St2 → Prop} {p c r d : Int} (G : ej_G p c r d a1 a2 a3 a4) (hp : ∀ (fa fe : Int32) (a7 a8 a9 a10 : Nat → Int32), post (ej_i r) (ej_i p, ej_i c, fa, fe, fk, a1, a2, a3, a4, a5, a6, a7, a8, a9, a10, a11)) : wpX_earliestOf_2 post (ej_i p, ej_i c, fa, fe, fk, a1, a2, a3, a4, a5, a6, a7, a8, a9, a10, a11) 0 0 := by
  have G' := G
  obtain ⟨hq, hc, hr, h1, h2, e2, e3, h4⟩ := G'
  refine ⟨ej_in0, nm_r (e' := ej_i r) ?_ ⟨ej_in0, nm_r (e' := ej_i (d - p)) ?_ ⟨9, ej_eo23_2 G hp 9 0 (d - p) _ _ _ _ _ _ (by omega) (by omega) (by omega) (by omega) (by omega)⟩⟩⟩
  · exact ej_g0 e2
  · rw [ej_c0, e3, ej_sub]
theorem ej_earliestStart0 {post : Int32 → St2 → Prop} {p c : Int} (Z : ej_Z p c a1 a4) (hp : post (-1) (ej_i p, ej_i c, fa, fe, fk, a1, a2, a3, a4, a5, a6, a7, a8, a9, a10, a11)) : wpX_earliestStart post (ej_i p, ej_i c, fa, fe, fk, a1, a2, a3, a4, a5, a6, a7, a8, a9, a10, a11) 0 := by
  unfold wpX_earliestStart
  dsimp only
  exact ej_holds0 Z.2.1 (Z.2.2.1 0 (by omega)) (br_t rfl hp)
theorem ej_earliestStart1 {post : Int32 → St2 → Prop} {p c r d : Int} (G : ej_G p c r d a1 a2 a3 a4) (hp : ∀ (fa fe : Int32) (a7 a8 a9 a10 : Nat → Int32), post (ej_i r) (ej_i p, ej_i c, fa, fe, fk, a1, a2, a3, a4, a5, a6, a7, a8, a9, a10, a11)) : wpX_earliestStart post (ej_i p, ej_i c, fa, fe, fk, a1, a2, a3, a4, a5, a6, a7, a8, a9, a10, a11) 0 := by
  unfold wpX_earliestStart
  dsimp only
  exact ej_holds1 G.2.1 G.2.2.2.1 (br_f (by decide) (ej_earliestOf G hp))
theorem ej_ls32 {post : Int32 → St2 → Prop} {p c r d : Int} (G : ej_G p c r d a1 a2 a3 a4) (hp : ∀ (fa fe : Int32) (a7 a8 a9 a10 : Nat → Int32), post (ej_i (d - p)) (ej_i p, ej_i c, fa, fe, fk, a1, a2, a3, a4, a5, a6, a7, a8, a9, a10, a11)) :
    ∀ (n : Nat) (k l : Int) (fa fe : Int32) (a7 a8 a9 a10 : Nat → Int32), 0 ≤ k → k + n = 8 → r ≤ l → l ≤ d - p → d - p - l < ej_w n → wX_latestStart_32 post 0 (n + 1) (ej_i l) (ej_i (d - p)) (ej_i k) (ej_i p) (ej_i c) fa fe fk a1 a2 a3 a4 a5 a6 a7 a8 a9 a10 a11 := by
  have G' := G
  obtain ⟨hq, hc, hr, h1, h2, e2, e3, h4⟩ := G'
  intro n
  induction n with
  | zero =>
    intro k l fa fe a7 a8 a9 a10 hk hk2 hl hl2 hw
    have e : l = d - p := by
      have e1 : ej_w 0 = 1 := rfl
      omega
    rw [e]
    exact ej_le 8 k (fun _ => hp _ _ _ _ _ _) (fun z => absurd z (by omega))
  | succ n ih =>
    intro k l fa fe a7 a8 a9 a10 hk hk2 hl hl2 hw
    have e1 : ej_w (n + 1) = 2 * ej_w n := rfl
    refine ej_le 8 k (fun z => absurd z (by omega)) (fun c1 => ej_le (d - p) l (fun c2 => ?_) (fun c2 => nm_r (e' := ej_i ((l + (d - p) + 1) / 2)) ?_ ?_))
    · have e : l = d - p := by omega
      rw [e]
      exact hp _ _ _ _ _ _
    · rw [ej_add, ej_p1, ej_half (by omega) (by omega)]
    · refine ej_askBut G ?_
      dsimp only
      refine ⟨ej_in0, ?_⟩
      rw [ej_c0, e3]
      refine ej_ask0 ⟨by omega, by omega⟩ ⟨by omega, by omega⟩ ?_
      dsimp only
      refine ej_feas1 (f0 := (l + (d - p) + 1) / 2) (u0 := d) hq ⟨by omega, by omega⟩ ⟨by omega, by omega⟩ h4 pk_us pk_us (fun _ b9 b10 => ?_) (fun z => absurd z (by omega))
      dsimp only
      exact br_f (by decide) (nm_r (ej_p1 k) (ih (k + 1) _ _ _ _ _ _ _ (by omega) (by omega) (by omega) (by omega) (by omega)))
theorem ej_latestStart0 {post : Int32 → St2 → Prop} {p c : Int} (Z : ej_Z p c a1 a4) (hp : post (-1) (ej_i p, ej_i c, fa, fe, fk, a1, a2, a3, a4, a5, a6, a7, a8, a9, a10, a11)) : wpX_latestStart post (ej_i p, ej_i c, fa, fe, fk, a1, a2, a3, a4, a5, a6, a7, a8, a9, a10, a11) 0 := by
  unfold wpX_latestStart
  dsimp only
  exact ej_holds0 Z.2.1 (Z.2.2.1 0 (by omega)) (br_t rfl hp)
theorem ej_latestStart1 {post : Int32 → St2 → Prop} {p c r d : Int} (G : ej_G p c r d a1 a2 a3 a4) (hp : ∀ (fa fe : Int32) (a7 a8 a9 a10 : Nat → Int32), post (ej_i (d - p)) (ej_i p, ej_i c, fa, fe, fk, a1, a2, a3, a4, a5, a6, a7, a8, a9, a10, a11)) : wpX_latestStart post (ej_i p, ej_i c, fa, fe, fk, a1, a2, a3, a4, a5, a6, a7, a8, a9, a10, a11) 0 := by
  have G' := G
  obtain ⟨hq, hc, hr, h1, h2, e2, e3, h4⟩ := G'
  have e8 := ej_w8
  unfold wpX_latestStart
  dsimp only
  refine ej_holds1 hc h1 (br_f (by decide) ⟨ej_in0, nm_r (e' := ej_i r) (ej_g0 e2) ⟨ej_in0, nm_r (e' := ej_i (d - p)) ?_ ⟨9, ej_ls32 G hp 8 0 r _ _ _ _ _ _ (by omega) (by omega) (by omega) (by omega) (by omega)⟩⟩⟩)
  rw [ej_c0, e3, ej_sub]
theorem ej_mpT {post : St2 → Prop} {c : Int} (hc : 1 ≤ c ∧ c ≤ 6) (hp : post (fl, ej_i c, fa, fe, fk, a1, a2, a3, a4, a5, a6, a7, a8, a9, a10, a11)) : ∀ (n : Nat) (k : Int), 0 ≤ k → k ≤ c → c < k + n → (∀ j : Nat, k ≤ (j : Int) → j < 8 → a1 j = 0) → wX_makePlan_7 post n (ej_i k) fl (ej_i c) fa fe fk a1 a2 a3 a4 a5 a6 a7 a8 a9 a10 a11 := by
  intro n
  induction n with
  | zero =>
    intro k _ h1 h2
    exact absurd h2 (by omega)
  | succ n ih =>
    intro k hk hk2 hn h
    refine ej_le c k (fun z => hp) (fun z => ⟨ej_in hk (by omega) (by omega), br_t ?_ (nm_r (ej_p1 k) (ih (k + 1) (by omega) (by omega) (by omega) (fun j h1 h2 => h j (by omega) h2)))⟩)
    rw [ej_cl hk (by omega)]
    exact h _ (by omega) (by omega)
theorem ej_makePlan {post : St2 → Prop} {p c r d : Int} (G : ej_G p c r d a1 a2 a3 a4) (hp : ∀ (fa fe : Int32) (a7 a8 a9 a10 a11 : Nat → Int32), a11 0 = ej_i r → post (ej_i p, ej_i c, fa, fe, 1, a1, a2, a3, a4, a5, a6, a7, a8, a9, a10, a11)) : wpX_makePlan post (ej_i p, ej_i c, fa, fe, fk, a1, a2, a3, a4, a5, a6, a7, a8, a9, a10, a11) := by
  have G' := G
  obtain ⟨hq, hc, hr, h1, h2, e2, e3, h4⟩ := G'
  refine ⟨8, ej_le c 0 (fun z => absurd z (by omega)) (fun _ => ⟨ej_in0, br_f (by rw [ej_c0]; exact h1) ?_⟩)⟩
  refine ej_earliestOf_2 G (fun fa fe a7 a8 a9 a10 => ?_)
  dsimp only
  refine ⟨ej_in0, nm_e (nm_r (e' := ej_i 1) (by decide) (ej_mpT hc (hp _ _ _ _ _ _ _ ?_) 7 1 (by omega) (by omega) (by omega) (fun j g1 g2 => h2 j (by omega) g2)))⟩
  rw [ej_c0, pk_us, ej_b8 (by omega) (by omega)]
theorem ej_plannedStart0 {post : Int32 → St2 → Prop} {p c : Int} (Z : ej_Z p c a1 a4) (hp : post (-1) (ej_i p, ej_i c, fa, fe, fk, a1, a2, a3, a4, a5, a6, a7, a8, a9, a10, a11)) : wpX_plannedStart post (ej_i p, ej_i c, fa, fe, fk, a1, a2, a3, a4, a5, a6, a7, a8, a9, a10, a11) 0 := by
  unfold wpX_plannedStart
  dsimp only
  exact ej_holds0 Z.2.1 (Z.2.2.1 0 (by omega)) (br_t rfl hp)
theorem ej_plannedStart1 {post : Int32 → St2 → Prop} {p c r d : Int} (G : ej_G p c r d a1 a2 a3 a4) (hp : ∀ (fa fe : Int32) (a7 a8 a9 a10 a11 : Nat → Int32), post (ej_i r) (ej_i p, ej_i c, fa, fe, 1, a1, a2, a3, a4, a5, a6, a7, a8, a9, a10, a11)) : wpX_plannedStart post (ej_i p, ej_i c, fa, fe, 0, a1, a2, a3, a4, a5, a6, a7, a8, a9, a10, a11) 0 := by
  unfold wpX_plannedStart
  dsimp only
  refine ej_holds1 G.2.1 G.2.2.2.1 (br_f (by decide) (br_t rfl (ej_makePlan G (fun fa fe a7 a8 a9 a10 a11 e => ?_))))
  dsimp only
  refine ⟨ej_in0, ?_⟩
  rw [ej_c0, e]
  exact hp _ _ _ _ _ _ _
theorem ej_earliestEnd0 {post : Int32 → St2 → Prop} {p c : Int} (Z : ej_Z p c a1 a4) (hp : ∀ (fa fe : Int32) (a10 : Nat → Int32), post 0 (ej_i p, ej_i c, fa, fe, fk, a1, a2, a3, a4, a5, a6, a7, a8, a9, a10, a11)) : wpX_earliestEnd post (ej_i p, ej_i c, fa, fe, fk, a1, a2, a3, a4, a5, a6, a7, a8, a9, a10, a11) := by
  unfold wpX_earliestEnd
  dsimp only
  refine ej_askAll0 Z ?_
  dsimp only
  refine ej_feas0 Z.2.2.2 (fun b => ?_)
  dsimp only
  exact hp _ _ _
theorem ej_earliestEnd1 {post : Int32 → St2 → Prop} {p c r d : Int} (G : ej_G p c r d a1 a2 a3 a4) (hp : ∀ (fa fe : Int32) (a7 a8 a9 a10 : Nat → Int32), post (ej_i (r + p)) (ej_i p, ej_i c, fa, fe, fk, a1, a2, a3, a4, a5, a6, a7, a8, a9, a10, a11)) : wpX_earliestEnd post (ej_i p, ej_i c, fa, fe, fk, a1, a2, a3, a4, a5, a6, a7, a8, a9, a10, a11) := by
  have G' := G
  obtain ⟨hq, hc, hr, h1, h2, e2, e3, h4⟩ := G'
  unfold wpX_earliestEnd
  dsimp only
  refine ej_askAll1 G ?_
  dsimp only
  refine ej_feas1 (f0 := r) (u0 := d) hq ⟨by omega, by omega⟩ ⟨by omega, by omega⟩ h4 pk_us pk_us (fun _ b9 b10 => ?_) (fun z => absurd z (by omega))
  dsimp only
  exact hp _ _ _ _ _ _
theorem ej_lb0 {post : Int32 → St2 → Prop} {p c : Int} (Z : ej_Z p c a1 a4) (hp : ∀ (fa fe : Int32) (a10 : Nat → Int32), post (ej_i 40) (ej_i p, ej_i c, fa, fe, fk, a1, a2, a3, a4, a5, a6, a7, a8, a9, a10, a11)) :
    ∀ (n : Nat) (k l : Int) (fa fe : Int32) (a10 : Nat → Int32), 0 ≤ k → k + n = 8 → 0 ≤ l → l ≤ 40 → 40 - l < ej_w n → wX_latestBegin_7 post (n + 1) (ej_i l) (ej_i 40) (ej_i k) (ej_i p) (ej_i c) fa fe fk a1 a2 a3 a4 a5 a6 a7 a8 a9 a10 a11 := by
  intro n
  induction n with
  | zero =>
    intro k l fa fe a10 hk hk2 hl hl2 hw
    have e : l = 40 := by
      have e1 : ej_w 0 = 1 := rfl
      omega
    rw [e]
    exact ej_le 8 k (fun _ => hp _ _ _) (fun z => absurd z (by omega))
  | succ n ih =>
    intro k l fa fe a10 hk hk2 hl hl2 hw
    have e1 : ej_w (n + 1) = 2 * ej_w n := rfl
    refine ej_le 8 k (fun z => absurd z (by omega)) (fun c1 => ej_le 40 l (fun c2 => ?_) (fun c2 => nm_r (e' := ej_i ((l + 40 + 1) / 2)) ?_ ?_))
    · have e : l = 40 := by omega
      rw [e]
      exact hp _ _ _
    · rw [ej_add, ej_p1, ej_half (by omega) (by omega)]
    · refine ej_askAll0 Z ?_
      dsimp only
      refine ej_raise0 ?_
      dsimp only
      refine ej_feas0 Z.2.2.2 (fun b => ?_)
      dsimp only
      exact br_f (by decide) (nm_r (ej_p1 k) (ih (k + 1) _ _ _ _ (by omega) (by omega) (by omega) (by omega) (by omega)))
theorem ej_latestBegin0 {post : Int32 → St2 → Prop} {p c : Int} (Z : ej_Z p c a1 a4) (hp : ∀ (fa fe : Int32) (a10 : Nat → Int32), post (ej_i 40) (ej_i p, ej_i c, fa, fe, fk, a1, a2, a3, a4, a5, a6, a7, a8, a9, a10, a11)) : wpX_latestBegin post (ej_i p, ej_i c, fa, fe, fk, a1, a2, a3, a4, a5, a6, a7, a8, a9, a10, a11) := by
  have e8 := ej_w8
  exact ⟨9, ej_lb0 Z hp 8 0 0 _ _ _ (by omega) (by omega) (by omega) (by omega) (by omega)⟩
theorem ej_lb1 {post : Int32 → St2 → Prop} {p c r d : Int} (G : ej_G p c r d a1 a2 a3 a4) (hp : ∀ (fa fe : Int32) (a7 a8 a9 a10 : Nat → Int32), post (ej_i (d - p)) (ej_i p, ej_i c, fa, fe, fk, a1, a2, a3, a4, a5, a6, a7, a8, a9, a10, a11)) :
    ∀ (n : Nat) (k l h : Int) (fa fe : Int32) (a7 a8 a9 a10 : Nat → Int32), 0 ≤ k → k + n = 8 → 0 ≤ l → l ≤ d - p → d - p ≤ h → h ≤ 40 → h - l < ej_w n → wX_latestBegin_7 post (n + 1) (ej_i l) (ej_i h) (ej_i k) (ej_i p) (ej_i c) fa fe fk a1 a2 a3 a4 a5 a6 a7 a8 a9 a10 a11 := by
  have G' := G
  obtain ⟨hq, hc, hr, h1, h2, e2, e3, h4⟩ := G'
  intro n
  induction n with
  | zero =>
    intro k l h fa fe a7 a8 a9 a10 hk hk2 hl hl2 hh hh2 hw
    have e : l = d - p := by
      have e1 : ej_w 0 = 1 := rfl
      omega
    rw [e]
    exact ej_le 8 k (fun _ => hp _ _ _ _ _ _) (fun z => absurd z (by omega))
  | succ n ih =>
    intro k l h fa fe a7 a8 a9 a10 hk hk2 hl hl2 hh hh2 hw
    have e1 : ej_w (n + 1) = 2 * ej_w n := rfl
    refine ej_le 8 k (fun z => absurd z (by omega)) (fun c1 => ej_le h l (fun c2 => ?_) (fun c2 => nm_r (e' := ej_i ((l + h + 1) / 2)) ?_ ?_))
    · have e : l = d - p := by omega
      rw [e]
      exact hp _ _ _ _ _ _
    · rw [ej_add, ej_p1, ej_half (by omega) (by omega)]
    · refine ej_askAll1 G ?_
      dsimp only
      refine ej_raise1 (f0 := r) ⟨by omega, by omega⟩ ⟨by omega, by omega⟩ pk_us (fun b f hf hb => ?_)
      dsimp only
      refine ej_feas1 (f0 := f) (u0 := d) hq ⟨by omega, by omega⟩ ⟨by omega, by omega⟩ h4 hb pk_us (fun g b9 b10 => ?_) (fun g b10 => ?_)
      · dsimp only
        exact br_f (by decide) (nm_r (ej_p1 k) (ih (k + 1) _ _ _ _ _ _ _ _ (by omega) (by omega) (by omega) (by omega) (by omega) (by omega) (by omega)))
      · dsimp only
        exact br_t rfl (nm_r (ej_s1 _) (nm_r (ej_p1 k) (ih (k + 1) _ _ _ _ _ _ _ _ (by omega) (by omega) (by omega) (by omega) (by omega) (by omega) (by omega))))
theorem ej_latestBegin1 {post : Int32 → St2 → Prop} {p c r d : Int} (G : ej_G p c r d a1 a2 a3 a4) (hp : ∀ (fa fe : Int32) (a7 a8 a9 a10 : Nat → Int32), post (ej_i (d - p)) (ej_i p, ej_i c, fa, fe, fk, a1, a2, a3, a4, a5, a6, a7, a8, a9, a10, a11)) : wpX_latestBegin post (ej_i p, ej_i c, fa, fe, fk, a1, a2, a3, a4, a5, a6, a7, a8, a9, a10, a11) := by
  have G' := G
  obtain ⟨hq, hc, hr, h1, h2, e2, e3, h4⟩ := G'
  have e8 := ej_w8
  exact ⟨9, ej_lb1 G hp 8 0 0 40 _ _ _ _ _ _ (by omega) (by omega) (by omega) (by omega) (by omega) (by omega) (by omega)⟩
theorem ej_nb0 : narrow .boolean (.int 0) = .int 0 := by rfl
theorem ej_open0 {post : Int32 → St2 → Prop} {p c : Int} {x : Int32} (Z : ej_Z p c a1 a4) (ho : (x < 0 ∨ ¬ x ≤ ej_i (40 - p)) → post 0 (ej_i p, ej_i c, fa, fe, fk, a1, a2, a3, a4, a5, a6, a7, a8, a9, a10, a11))
    (hi : ∀ t : Int, x = ej_i t → 0 ≤ t → t ≤ 40 - p → ∀ (fa fe : Int32) (a7 a8 a9 a10 : Nat → Int32), post 1 (ej_i p, ej_i c, fa, fe, fk, a1, a2, a3, a4, a5, a6, a7, a8, a9, a10, a11)) : wpX_open post (ej_i p, ej_i c, fa, fe, fk, a1, a2, a3, a4, a5, a6, a7, a8, a9, a10, a11) x := by
  obtain ⟨hq, hc, h1, h4⟩ := Z
  unfold wpX_open
  dsimp only
  rw [ej_l40, ej_sub]
  refine br_c (fun g => ho (Or.inl g)) (fun g => br_c (fun g2 => ?_) (fun g2 => ho (Or.inr g2)))
  have ex := ej_of x
  have t0 : 0 ≤ x.toInt := by
    have h9 : ¬ x.toInt < (0 : Int32).toInt := fun h => g (Int32.lt_iff_toInt_lt.mpr h)
    have e0 : (0 : Int32).toInt = 0 := by decide
    omega
  have t1 : x.toInt ≤ 40 - p := by
    have := Int32.le_iff_toInt_le.mp g2
    rw [ej_ti ⟨by omega, by omega⟩] at this
    exact this
  have hi' := hi x.toInt ex t0 t1
  refine ej_askAll0 ⟨hq, hc, h1, h4⟩ ?_
  dsimp only
  rw [ex, ej_add]
  refine ej_ask0 ⟨by omega, by omega⟩ ⟨by omega, by omega⟩ ?_
  dsimp only
  refine ej_feas1 (f0 := x.toInt) (u0 := x.toInt + p) hq ⟨by omega, by omega⟩ ⟨by omega, by omega⟩ h4 pk_us pk_us (fun _ b9 b10 => ?_) (fun z => absurd z (by omega))
  dsimp only
  exact ⟨ej_nb1, hi' _ _ _ _ _ _⟩
theorem ej_open1 {post : Int32 → St2 → Prop} {p c r d : Int} {x : Int32} (G : ej_G p c r d a1 a2 a3 a4) (ho : (x < 0 ∨ ¬ x ≤ ej_i (40 - p)) → post 0 (ej_i p, ej_i c, fa, fe, fk, a1, a2, a3, a4, a5, a6, a7, a8, a9, a10, a11))
    (hi : ∀ t : Int, x = ej_i t → 0 ≤ t → t ≤ 40 - p → ∀ (fa fe : Int32) (a7 a8 a9 a10 : Nat → Int32), ((r + p ≤ t ∨ t + 2 * p ≤ d) → post 1 (ej_i p, ej_i c, fa, fe, fk, a1, a2, a3, a4, a5, a6, a7, a8, a9, a10, a11)) ∧ (¬ (r + p ≤ t ∨ t + 2 * p ≤ d) → post 0 (ej_i p, ej_i c, fa, fe, fk, a1, a2, a3, a4, a5, a6, a7, a8, a9, a10, a11))) : wpX_open post (ej_i p, ej_i c, fa, fe, fk, a1, a2, a3, a4, a5, a6, a7, a8, a9, a10, a11) x := by
  have G' := G
  obtain ⟨hq, hc, hr, h1, h2, e2, e3, h4⟩ := G'
  unfold wpX_open
  dsimp only
  rw [ej_l40, ej_sub]
  refine br_c (fun g => ho (Or.inl g)) (fun g => br_c (fun g2 => ?_) (fun g2 => ho (Or.inr g2)))
  have ex := ej_of x
  have t0 : 0 ≤ x.toInt := by
    have h9 : ¬ x.toInt < (0 : Int32).toInt := fun h => g (Int32.lt_iff_toInt_lt.mpr h)
    have e0 : (0 : Int32).toInt = 0 := by decide
    omega
  have t1 : x.toInt ≤ 40 - p := by
    have := Int32.le_iff_toInt_le.mp g2
    rw [ej_ti ⟨by omega, by omega⟩] at this
    exact this
  have hi' := hi x.toInt ex t0 t1
  refine ej_askAll1 G ?_
  dsimp only
  rw [ex, ej_add]
  refine ej_ask1 ⟨by omega, by omega⟩ ⟨by omega, by omega⟩ ?_
  dsimp only
  refine ej_feas2 (r := r) (d := d) (t := x.toInt) hq hr ⟨by omega, by omega⟩ h4 ((pk_un (by decide)).trans pk_us) ((pk_un (by decide)).trans pk_us) pk_us pk_us (fun g e b9 b10 => ?_) (fun g b10 => ?_)
  · dsimp only
    exact ⟨ej_nb1, (hi' _ _ _ _ _ _).1 g⟩
  · dsimp only
    exact ⟨ej_nb0, (hi' _ _ _ _ _ _).2 g⟩
end
end
section
section
variable {fl fc fa fe fk : Int32} {a1 a2 a3 a4 a5 a6 a7 a8 a9 a10 a11 : Nat → Int32}
theorem ej_nlt {x y : Int32} (h : x ≤ y) : ¬ y < x := by
  rw [Int32.le_iff_toInt_le] at h
  rw [Int32.lt_iff_toInt_lt]
  omega
theorem ej_nle {x y : Int32} (h : ¬ x ≤ y) : y < x := by
  rw [Int32.le_iff_toInt_le] at h
  rw [Int32.lt_iff_toInt_lt]
  omega
/-- p is a, cut to 1 .. 6 -/
def ej_L (a : Int32) (p : Int) : Prop := (1 ≤ a ∧ a ≤ 6 ∧ a = ej_i p) ∨ (1 ≤ a ∧ ¬ a ≤ 6 ∧ p = 6) ∨ (¬ 1 ≤ a ∧ p = 1)
theorem ej_cut (a : Int32) (h1 : 1 ≤ a) (h6 : a ≤ 6) : a = ej_i a.toInt ∧ 1 ≤ a.toInt ∧ a.toInt ≤ 6 := by
  have e1 : (1 : Int32).toInt = 1 := by decide
  have e6 : (6 : Int32).toInt = 6 := by decide
  rw [Int32.le_iff_toInt_le] at h1 h6
  exact ⟨ej_of a, by omega, by omega⟩
theorem ej_len {P : Int32 → Prop} {a : Int32} {p : Int} (h : ej_L a p) (hp : P (ej_i p)) : ((1 ≤ a → ((a ≤ 6 → P a) ∧ (¬ a ≤ 6 → P 6))) ∧ (¬ 1 ≤ a → P 1)) := by
  rcases h with ⟨h1, h6, e⟩ | ⟨h1, h6, e⟩ | ⟨h1, e⟩
  · rw [← e] at hp
    exact br_t h1 (br_t h6 hp)
  · rw [e] at hp
    exact br_t h1 (br_f h6 hp)
  · rw [e] at hp
    exact br_f h1 hp
theorem ej_init111 {post : St2 → Prop} {mc ms kc ks : Nat} {p1 z0 g1 g2 g3 : Int32} (hp : ∀ c : Int, 1 ≤ c ∧ c ≤ 6 → post (z0, ej_i c, g1, g2, g3, a1, a2, a3, a4, a5, a6, a7, a8, a9, a10, a11)) : wX_init_111 post mc ms p1 z0 kc ks fl fc g1 g2 g3 a1 a2 a3 a4 a5 a6 a7 a8 a9 a10 a11 := by
  unfold wX_init_111
  refine br_c (fun h1 => br_c (fun h6 => ?_) (fun _ => hp 6 (by omega))) (fun _ => hp 1 (by omega))
  have h := ej_cut p1 h1 h6
  have e := hp p1.toInt h.2
  rw [← h.1] at e
  exact e
theorem ej_init {post : St2 → Prop} {mc ms : Nat} {p0 p1 : Int32} (hm : 11 ≤ mc) (hs : 116 ≤ ms) (hp : ∀ p c : Int, 1 ≤ p ∧ p ≤ 6 → 1 ≤ c ∧ c ≤ 6 → ej_L p0 p → post (ej_i p, ej_i c, 0, 0, 0, fun _ => 0, fun _ => 0, fun _ => 0, fun _ => 0, fun _ => 0, fun _ => 0, fun _ => 0, fun _ => 0, fun _ => 0, fun _ => 0, fun _ => 0)) : wpX_init post mc ms (0, 0, 0, 0, 0) p0 p1 := by
  unfold wpX_init
  dsimp only
  refine ⟨by omega, by omega, by omega, by omega, by omega, by omega, by omega, by omega, by omega, by omega, by omega, by omega, by omega, by omega, by omega, by omega, by omega, by omega, by omega, by omega, by omega, by omega, br_c (fun h1 => br_c (fun h6 => ej_init111 (fun c hc => ?_)) (fun h6 => ej_init111 (fun c hc => hp 6 c (by omega) hc (Or.inr (Or.inl ⟨h1, h6, rfl⟩))))) (fun h1 => ej_init111 (fun c hc => hp 1 c (by omega) hc (Or.inr (Or.inr ⟨h1, rfl⟩))))⟩
  have h := ej_cut p0 h1 h6
  have e := hp p0.toInt c h.2 hc (Or.inl ⟨h1, h6, h.1⟩)
  rw [← h.1] at e
  exact e
theorem ej_offer {post : Int32 → St2 → Prop} {p c : Int} {x y : Int32} (Z : ej_Z p c a1 a4)
    (hb : (x < 0 ∨ 40 < y ∨ 40 < x ∨ y < 0 ∨ (y - x) < ej_i p) → post (-1) (ej_i p, ej_i c, fa, fe, fk, a1, a2, a3, a4, a5, a6, a7, a8, a9, a10, a11))
    (hg : ∀ r d : Int, x = ej_i r → y = ej_i d → (0 ≤ r ∧ r + p ≤ d ∧ d ≤ 40) → ∀ (fa fe : Int32) (a7 a8 a9 a10 : Nat → Int32), post 0 (ej_i p, ej_i c, fa, fe, 0, upd a1 0 1, upd a2 0 (ej_i r), upd a3 0 (ej_i d), a4, a5, a6, a7, a8, a9, a10, a11)) : wpX_offer post (ej_i p, ej_i c, fa, fe, fk, a1, a2, a3, a4, a5, a6, a7, a8, a9, a10, a11) x y := by
  have Z' := Z
  obtain ⟨hq, hc, h1, h4⟩ := Z'
  unfold wpX_offer
  dsimp only
  unfold wpX_probe
  dsimp only
  refine ej_windowOk (fun g1 g2 g3 g4 g5 => ?_) (fun g => br_t rfl (br_t (by decide) (hb g)))
  obtain ⟨r, er, r0, r1⟩ : ∃ r : Int, x = ej_i r ∧ 0 ≤ r ∧ r ≤ 40 := by
    have e0 : (0 : Int32).toInt = 0 := by decide
    have e4 : (40 : Int32).toInt = 40 := by decide
    rw [Int32.lt_iff_toInt_lt] at g1 g3
    exact ⟨x.toInt, ej_of x, by omega, by omega⟩
  obtain ⟨d, ed, d0, d1⟩ : ∃ d : Int, y = ej_i d ∧ 0 ≤ d ∧ d ≤ 40 := by
    have e0 : (0 : Int32).toInt = 0 := by decide
    have e4 : (40 : Int32).toInt = 40 := by decide
    rw [Int32.lt_iff_toInt_lt] at g2 g4
    exact ⟨y.toInt, ej_of y, by omega, by omega⟩
  have hg' := hg r d er ed
  subst er
  subst ed
  have hl : r + p ≤ d := by
    rw [ej_sub, ej_ltI ⟨by omega, by omega⟩ ⟨by omega, by omega⟩] at g5
    omega
  refine br_f (by decide) (ej_freeNumber hc (h1 0 (by omega)) (br_t (by decide) (ej_askAll0 Z ?_)))
  dsimp only
  refine ej_ask0 ⟨by omega, by omega⟩ ⟨by omega, by omega⟩ ?_
  dsimp only
  refine ej_feas1 (f0 := r) (u0 := d) hq ⟨by omega, by omega⟩ ⟨by omega, by omega⟩ h4 pk_us pk_us (fun _ b9 b10 => ?_) (fun z => absurd z (by omega))
  dsimp only
  refine br_f (by decide) (br_f (by decide) ⟨ej_in0, nm_r (e' := upd a1 0 1) (by rw [ej_c0]) ⟨ej_in0, nm_r (e' := upd a2 0 (ej_i r)) ?_ ⟨ej_in0, nm_r (e' := upd a3 0 (ej_i d)) ?_ (hg' ⟨by omega, by omega, by omega⟩ _ _ _ _ _ _)⟩⟩⟩)
  · rw [ej_c0, ej_b8 (by omega) (by omega)]
  · rw [ej_c0, ej_b8 (by omega) (by omega)]
theorem ej_ZG {p c r d : Int} (Z : ej_Z p c a1 a4) (hr : 0 ≤ r ∧ r + p ≤ d ∧ d ≤ 40) : ej_G p c r d (upd a1 0 1) (upd a2 0 (ej_i r)) (upd a3 0 (ej_i d)) a4 := by
  obtain ⟨hq, hc, h1, h4⟩ := Z
  refine ⟨hq, hc, hr, ?_, fun j g1 g2 => ?_, pk_us, pk_us, h4⟩
  · rw [pk_us]
    decide
  · rw [pk_un (by omega)]
    exact h1 j g2
end
/- the law's own checks -/
section
variable {post : Int32 → St0 → Prop} {mc ms kc ks : Nat} {x2 x3 x4 op z0 : Int32} {p r d : Int}
/-- what the question about t answers where no job is there -/
def ej_op0 (p : Int) (x4 op : Int32) : Prop := ((x4 < 0 ∨ ¬ x4 ≤ ej_i (40 - p)) ∧ op = 0) ∨ (¬ x4 < 0 ∧ x4 ≤ ej_i (40 - p) ∧ op = 1)
/-- what the question about t answers where one job is there -/
def ej_op1 (p r d : Int) (x4 op : Int32) : Prop := ((x4 < 0 ∨ ¬ x4 ≤ ej_i (40 - p)) ∧ op = 0) ∨ ∃ t : Int, x4 = ej_i t ∧ 0 ≤ t ∧ t ≤ 40 - p ∧ (((r + p ≤ t ∨ t + 2 * p ≤ d) ∧ op = 1) ∨ (¬ (r + p ≤ t ∨ t + 2 * p ≤ d) ∧ op = 0))
theorem ej_164b (hp : post 1 ()) : wL_lawOf_164 post mc ms x2 x3 x4 (-1) (-1) (-1) (-1) 0 (ej_i 40) z0 0 (ej_i p) 1 z0 kc ks :=
  br_f (by decide) (br_t rfl (br_t rfl (br_t rfl (br_t rfl (br_t rfl (br_t rfl (br_t ej_l40.symm (br_t rfl hp))))))))
theorem ej_144b (hp : post 1 ()) (ho : ej_op0 p x4 op) : wL_lawOf_144 post mc ms x2 x3 x4 (-1) (-1) (-1) (-1) 0 (ej_i 40) op 0 (ej_i p) 1 kc ks := by
  unfold wL_lawOf_144
  rw [ej_l40, ej_sub, ← ej_l40]
  rcases ho with ⟨h | h, rfl⟩ | ⟨h, h2, rfl⟩
  · exact br_t h (ej_164b hp)
  · exact br_c (fun _ => ej_164b hp) (fun _ => br_t (ej_nle h) (ej_164b hp))
  · exact br_f h (br_f (ej_nlt h2) (ej_164b hp))
theorem ej_95b (hp : post 1 ()) (ho : ej_op0 p x4 op) (hb : x2 < 0 ∨ 40 < x3 ∨ 40 < x2 ∨ x3 < 0 ∨ (x3 - x2) < ej_i p) : wL_lawOf_95 post mc ms x2 x3 x4 (-1) (-1) (-1) (-1) 0 (ej_i 40) op 0 (ej_i p) kc ks := by
  have e : wL_lawOf_144 post mc ms x2 x3 x4 (-1) (-1) (-1) (-1) 0 (ej_i 40) op 0 (ej_i p) 1 kc ks := ej_144b hp ho
  have e117 : wL_lawOf_117 post mc ms x2 x3 x4 (-1) (-1) (-1) (-1) 0 (ej_i 40) op 0 (ej_i p) kc ks := br_f (by decide) e
  refine br_c (fun _ => e117) (fun g1 => br_c (fun _ => e117) (fun g2 => br_c (fun _ => e117) (fun g3 => br_c (fun g4 => ?_) (fun _ => e117))))
  refine br_t rfl (br_c (fun g5 => ?_) (fun _ => e))
  rcases hb with h | h | h | h | h
  · exact absurd h g1
  · exact absurd h (ej_nlt g4)
  · exact absurd h g2
  · exact absurd h g3
  · exact absurd h (ej_nlt g5)
theorem ej_256g (hp : post 1 ()) : wL_lawOf_256 post mc ms (ej_i r) (ej_i d) 0 (ej_i r) (ej_i (d - p)) (ej_i r) (ej_i (r + p)) (ej_i (d - p)) z0 1 (ej_i p) z0 kc ks :=
  br_t rfl (br_t rfl (br_t rfl (br_t (ej_sub d p).symm (br_t rfl (br_t (ej_add r p).symm (br_t (ej_sub d p).symm (br_t rfl hp)))))))
theorem ej_144g (hq : 1 ≤ p ∧ p ≤ 6) (hr : 0 ≤ r ∧ r + p ≤ d ∧ d ≤ 40) (hp : post 1 ()) (ho : ej_op1 p r d x4 op) : wL_lawOf_144 post mc ms (ej_i r) (ej_i d) x4 0 (ej_i r) (ej_i (d - p)) (ej_i r) (ej_i (r + p)) (ej_i (d - p)) op 1 (ej_i p) 0 kc ks := by
  unfold wL_lawOf_144
  rcases ho with ⟨h, rfl⟩ | ⟨t, rfl, t0, t1, h⟩
  · have e : wL_lawOf_163 post mc ms (ej_i r) (ej_i d) x4 0 (ej_i r) (ej_i (d - p)) (ej_i r) (ej_i (r + p)) (ej_i (d - p)) 0 1 (ej_i p) 0 kc ks := br_t rfl (br_t rfl (ej_256g hp))
    refine br_c (fun _ => e) (fun g => br_t ?_ e)
    rw [ej_l40, ej_sub]
    rcases h with h | h
    · exact absurd h g
    · exact ej_nle h
  · refine ej_lt t 0 (fun z => absurd z (by omega)) (fun _ => ej_lt (40 - p) t (fun z => absurd z (by omega)) (fun _ => br_t rfl (br_f (by decide) ?_)) (hx := ej_sub 40 p))
    rcases h with ⟨h, rfl⟩ | ⟨h, rfl⟩
    · exact ej_le (r + p) t (fun _ => ej_256g hp) (fun g => ej_lt (d - p) (t + p) (fun z => absurd z (by omega)) (fun _ => ej_256g hp) (hx := ej_sub d p) (hy := ej_add t p)) (hx := ej_add r p)
    · exact ej_le (r + p) t (fun z => absurd z (by omega)) (fun g => ej_lt (d - p) (t + p) (fun _ => ej_256g hp) (fun z => absurd z (by omega)) (hx := ej_sub d p) (hy := ej_add t p)) (hx := ej_add r p)
theorem ej_95g (hq : 1 ≤ p ∧ p ≤ 6) (hr : 0 ≤ r ∧ r + p ≤ d ∧ d ≤ 40) (hp : post 1 ()) (ho : ej_op1 p r d x4 op) : wL_lawOf_95 post mc ms (ej_i r) (ej_i d) x4 0 (ej_i r) (ej_i (d - p)) (ej_i r) (ej_i (r + p)) (ej_i (d - p)) op 1 (ej_i p) kc ks :=
  ej_lt r 0 (fun z => absurd z (by omega)) (fun _ => ej_lt 40 r (fun z => absurd z (by omega)) (fun _ => ej_lt d 0 (fun z => absurd z (by omega)) (fun _ => ej_le d 40 (fun _ => br_t rfl (ej_le p (d - r) (fun _ => ej_144g hq hr hp ho) (fun z => absurd z (by omega)) (hy := ej_sub d r))) (fun z => absurd z (by omega)))))
end
theorem ej_lawOf (a b x y t : Int32) : wpL_lawOf (fun r _ => r = 1) 48 768 () a b x y t := by
  unfold wpL_lawOf
  refine ⟨by omega, by omega, 47, 752, by omega, by omega, ?_⟩
  refine ej_init (by omega) (by omega) (fun p c hq hc hL => ?_)
  have Z : ej_Z p c (fun _ => 0) (fun _ => 0) := ⟨hq, hc, fun _ _ => rfl, fun _ _ => rfl⟩
  dsimp only
  refine ej_offer Z (fun hb => ?_) (fun r d er ed hr fa fe a7 a8 a9 a10 => ?_)
  · dsimp only
    refine ej_earliestStart0 Z ?_
    dsimp only
    refine ej_latestStart0 Z ?_
    dsimp only
    refine ej_plannedStart0 Z ?_
    dsimp only
    refine ej_earliestEnd0 Z (fun fa fe a10 => ?_)
    dsimp only
    refine ej_latestBegin0 Z (fun fa fe a10 => ?_)
    dsimp only
    refine ej_open0 Z (fun h => ?_) (fun t' et t0 t1 fa fe a7 a8 a9 a10 => ?_)
    · dsimp only
      exact ej_jobs0 Z (ej_len (P := fun z => wL_lawOf_95 _ _ _ _ _ _ _ _ _ _ _ _ _ _ z _ _) hL (ej_95b rfl (Or.inl ⟨h, rfl⟩) hb))
    · dsimp only
      refine ej_jobs0 Z (ej_len (P := fun z => wL_lawOf_95 _ _ _ _ _ _ _ _ _ _ _ _ _ _ z _ _) hL (ej_95b rfl (Or.inr ⟨?_, ?_, rfl⟩) hb))
      · rw [et, ej_l0, ej_ltI ⟨by omega, by omega⟩ ⟨by omega, by omega⟩]
        omega
      · rw [et, ej_leI ⟨by omega, by omega⟩ ⟨by omega, by omega⟩]
        exact t1
  · subst er
    subst ed
    have G : ej_G p c r d (upd (fun _ => 0) 0 1) (upd (fun _ => 0) 0 (ej_i r)) (upd (fun _ => 0) 0 (ej_i d)) (fun _ => 0) := ej_ZG Z hr
    dsimp only
    refine ej_earliestStart1 G (fun fa fe a7 a8 a9 a10 => ?_)
    dsimp only
    refine ej_latestStart1 G (fun fa fe a7 a8 a9 a10 => ?_)
    dsimp only
    refine ej_plannedStart1 G (fun fa fe a7 a8 a9 a10 a11 => ?_)
    dsimp only
    refine ej_earliestEnd1 G (fun fa fe a7 a8 a9 a10 => ?_)
    dsimp only
    refine ej_latestBegin1 G (fun fa fe a7 a8 a9 a10 => ?_)
    dsimp only
    refine ej_open1 G (fun h => ?_) (fun t' et t0 t1 fa fe a7 a8 a9 a10 => ⟨fun h => ?_, fun h => ?_⟩)
    · dsimp only
      exact ej_jobs1 G (ej_len (P := fun z => wL_lawOf_95 _ _ _ _ _ _ _ _ _ _ _ _ _ _ z _ _) hL (ej_95g hq hr rfl (Or.inl ⟨h, rfl⟩)))
    · dsimp only
      exact ej_jobs1 G (ej_len (P := fun z => wL_lawOf_95 _ _ _ _ _ _ _ _ _ _ _ _ _ _ z _ _) hL (ej_95g hq hr rfl (Or.inr ⟨t', et, t0, t1, Or.inl ⟨h, rfl⟩⟩)))
    · dsimp only
      exact ej_jobs1 G (ej_len (P := fun z => wL_lawOf_95 _ _ _ _ _ _ _ _ _ _ _ _ _ _ z _ _) hL (ej_95g hq hr rfl (Or.inr ⟨t', et, t0, t1, Or.inr ⟨h, rfl⟩⟩)))
theorem ej_cell {post : Int32 → Prop} {L : Nat} {xs : Nat → Int32} {x : Int32} (hL : L ≤ 5) (k : Nat) (hk : k < 5) (hx : x = nI k) (h : ∀ v, post v) : wpL_cellAt post L xs () x := by
  subst hx
  exact pk_le L k (fun _ => h 0) (fun z => ⟨pk_in k L z, h _⟩)
end
section
theorem i_vc (xs : Nat → Int32) (L : Nat) (hL : L ≤ 5) : wpL_law (fun r => r = 1) L xs :=
  ej_cell hL 0 (by omega) rfl (fun r1 => ej_cell hL 1 (by omega) rfl (fun r2 => ej_cell hL 2 (by omega) rfl (fun r3 => ej_cell hL 3 (by omega) rfl (fun r4 => ej_cell hL 4 (by omega) rfl (fun r5 => ⟨48, 768, by omega, by omega, ej_lawOf r1 r2 r3 r4 r5⟩)))))
end
