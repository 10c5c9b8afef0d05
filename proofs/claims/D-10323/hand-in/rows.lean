section
/-! ===== whole numbers as Int32 ===== -/
def rl_z (z : Int) : Int32 := Int32.ofInt z
theorem rl_add (a b : Int) : rl_z a + rl_z b = rl_z (a + b) := (Int32.ofInt_add a b).symm
theorem rl_mul (a b : Int) : rl_z a * rl_z b = rl_z (a * b) := (Int32.ofInt_mul a b).symm
theorem rl_sub (a b : Int) : rl_z a - rl_z b = rl_z (a - b) := (Int32.ofInt_sub a b).symm
theorem rl_neg (a : Int) : -rl_z a = rl_z (-a) := (Int32.ofInt_neg a).symm
theorem rl_of (x : Int32) : x = rl_z x.toInt := (Int32.ofInt_toInt x).symm
theorem rl_nat (n : Nat) : nI n = rl_z (n : Int) := Int32.ofInt_eq_ofNat.symm
/-- in the range of an int -/
def rl_R (z : Int) : Prop := -2147483648 ≤ z ∧ z < 2147483648
theorem rl_ti {z : Int} (h : rl_R z) : (rl_z z).toInt = z := Int32.toInt_ofInt_of_le (by have := h.1; omega) (by have := h.2; omega)
theorem rl_tr (x : Int32) : rl_R x.toInt := ⟨by have := Int32.le_toInt x; omega, by have := Int32.toInt_lt x; omega⟩
theorem rl_le {a b : Int} (ha : rl_R a) (hb : rl_R b) : rl_z a ≤ rl_z b ↔ a ≤ b := by rw [Int32.le_iff_toInt_le, rl_ti ha, rl_ti hb]
theorem rl_lt {a b : Int} (ha : rl_R a) (hb : rl_R b) : rl_z a < rl_z b ↔ a < b := by rw [Int32.lt_iff_toInt_lt, rl_ti ha, rl_ti hb]
theorem rl_eq {a b : Int} (ha : rl_R a) (hb : rl_R b) : rl_z a = rl_z b ↔ a = b := by
  constructor
  · intro h
    have h2 := congrArg Int32.toInt h
    rwa [rl_ti ha, rl_ti hb] at h2
  · intro h
    rw [h]
theorem rl_R0 : rl_R 0 := ⟨by decide, by decide⟩
theorem rl_ble {x y : Int32} {A B : Prop} (a b : Int) (ha : rl_R a) (hb : rl_R b) (f : a ≤ b → A) (g : b < a → B) (hx : x = rl_z a := by rfl) (hy : y = rl_z b := by rfl) : (x ≤ y → A) ∧ (¬ x ≤ y → B) := by
  subst hx hy
  rw [rl_le ha hb]
  exact ⟨f, fun z => g (by omega)⟩
theorem rl_blt {x y : Int32} {A B : Prop} (a b : Int) (ha : rl_R a) (hb : rl_R b) (f : a < b → A) (g : b ≤ a → B) (hx : x = rl_z a := by rfl) (hy : y = rl_z b := by rfl) : (x < y → A) ∧ (¬ x < y → B) := by
  subst hx hy
  rw [rl_lt ha hb]
  exact ⟨f, fun z => g (by omega)⟩
theorem rl_beq {x y : Int32} {A B : Prop} (a b : Int) (ha : rl_R a) (hb : rl_R b) (f : a = b → A) (g : a ≠ b → B) (hx : x = rl_z a := by rfl) (hy : y = rl_z b := by rfl) : (x = y → A) ∧ (¬ x = y → B) := by
  subst hx hy
  rw [rl_eq ha hb]
  exact ⟨f, g⟩
/-! ===== bounds ===== -/
def rl_B (M z : Int) : Prop := -M ≤ z ∧ z ≤ M
theorem rl_BR {M z : Int} (h : rl_B M z) (hM : M < 2147483648) : rl_R z := ⟨by have := h.1; omega, by have := h.2; omega⟩
theorem rl_Bm {M M' z : Int} (h : rl_B M z) (hM : M ≤ M') : rl_B M' z := ⟨by have := h.1; omega, by have := h.2; omega⟩
theorem rl_B0 {M z : Int} (h : rl_B M z) : 0 ≤ M := by have := h.1; have := h.2; omega
theorem rl_Badd {A B a b : Int} (h1 : rl_B A a) (h2 : rl_B B b) : rl_B (A + B) (a + b) := ⟨by have := h1.1; have := h2.1; omega, by have := h1.2; have := h2.2; omega⟩
theorem rl_Bmul {A X a x : Int} (h1 : rl_B A a) (h2 : rl_B X x) : rl_B (A * X) (a * x) := by
  obtain ⟨p, q⟩ := h1
  obtain ⟨r, s⟩ := h2
  have e1 := Int.mul_nonneg (show 0 ≤ A - a by omega) (show 0 ≤ X + x by omega)
  have e2 := Int.mul_nonneg (show 0 ≤ A + a by omega) (show 0 ≤ X - x by omega)
  have e3 := Int.mul_nonneg (show 0 ≤ A - a by omega) (show 0 ≤ X - x by omega)
  have e4 := Int.mul_nonneg (show 0 ≤ A + a by omega) (show 0 ≤ X + x by omega)
  simp only [Int.sub_mul, Int.add_mul, Int.mul_sub, Int.mul_add] at e1 e2 e3 e4
  constructor <;> omega
theorem rl_mulB {F M z : Int} (h1 : rl_B 5 F) (h2 : rl_B M z) : rl_B (5 * M) (F * z) := rl_Bmul h1 h2
/-! ===== the clipped value; ends of a product ===== -/
def rl_r (z : Int) : Int := if z ≤ 0 then 0 else z
theorem rl_r0 {z : Int} (h : z ≤ 0) : rl_r z = 0 := if_pos h
theorem rl_r1 {z : Int} (h : 0 ≤ z) : rl_r z = z := by
  unfold rl_r
  split <;> omega
theorem rl_rB {M z : Int} (h : rl_B M z) : rl_B M (rl_r z) := by
  obtain ⟨p, q⟩ := h
  unfold rl_r rl_B
  split <;> omega
theorem rl_rm {a b : Int} (h : a ≤ b) : rl_r a ≤ rl_r b := by
  unfold rl_r
  split <;> split <;> omega
def rl_mn (f l h : Int) : Int := if f ≤ 0 then f * h else f * l
def rl_mx (f l h : Int) : Int := if f ≤ 0 then f * l else f * h
theorem rl_mnx {f x l h : Int} (h1 : l ≤ x) (h2 : x ≤ h) : rl_mn f l h ≤ f * x ∧ f * x ≤ rl_mx f l h := by
  unfold rl_mn rl_mx
  split
  · have e1 := Int.mul_nonneg (show 0 ≤ -f by omega) (show 0 ≤ x - l by omega)
    have e2 := Int.mul_nonneg (show 0 ≤ -f by omega) (show 0 ≤ h - x by omega)
    simp only [Int.neg_mul, Int.mul_sub] at e1 e2
    constructor <;> omega
  · have e1 := Int.mul_nonneg (show 0 ≤ f by omega) (show 0 ≤ x - l by omega)
    have e2 := Int.mul_nonneg (show 0 ≤ f by omega) (show 0 ≤ h - x by omega)
    simp only [Int.mul_sub] at e1 e2
    constructor <;> omega
theorem rl_mna (f : Int) {l h : Int} (e : l ≤ h) : ∃ x, l ≤ x ∧ x ≤ h ∧ f * x = rl_mn f l h := by
  unfold rl_mn
  split
  · exact ⟨h, e, Int.le_refl h, rfl⟩
  · exact ⟨l, Int.le_refl l, e, rfl⟩
theorem rl_mxa (f : Int) {l h : Int} (e : l ≤ h) : ∃ x, l ≤ x ∧ x ≤ h ∧ f * x = rl_mx f l h := by
  unfold rl_mx
  split
  · exact ⟨l, Int.le_refl l, e, rfl⟩
  · exact ⟨h, e, Int.le_refl h, rfl⟩
theorem rl_mnB {F M l h X : Int} (hF : rl_B F M) (hl : rl_B X l) (hh : rl_B X h) : rl_B (F * X) (rl_mn M l h) := by
  unfold rl_mn
  split
  · exact rl_Bmul hF hh
  · exact rl_Bmul hF hl
theorem rl_mxB {F M l h X : Int} (hF : rl_B F M) (hl : rl_B X l) (hh : rl_B X h) : rl_B (F * X) (rl_mx M l h) := by
  unfold rl_mx
  split
  · exact rl_Bmul hF hl
  · exact rl_Bmul hF hh
end
section
/-! ===== the net in whole numbers ===== -/
def rl_u (N : Nat → Int) (k : Nat) (x y : Int) : Int := N (2 * k) * x + N (2 * k + 1) * y + N (6 + k)
def rl_s2 (N : Nat → Int) (k : Nat) (x y : Int) : Nat → Int
  | 0 => N (15 + k)
  | i + 1 => rl_s2 N k x y i + N (9 + 3 * k + i) * rl_r (rl_u N i x y)
def rl_s3 (N : Nat → Int) (x y : Int) : Nat → Int
  | 0 => N 19
  | i + 1 => rl_s3 N x y i + N (17 + i) * rl_r (rl_s2 N i x y 3)
def rl_v (N : Nat → Int) (k : Nat) (x y : Int) : Int := if k < 3 then rl_u N k x y else if k < 5 then rl_s2 N (k - 3) x y 3 else rl_s3 N x y 2
theorem rl_v0 (N : Nat → Int) {k : Nat} (h : k < 3) (x y : Int) : rl_v N k x y = rl_u N k x y := if_pos h
theorem rl_v1 (N : Nat → Int) {k : Nat} (h : k < 2) (x y : Int) : rl_v N (3 + k) x y = rl_s2 N k x y 3 := by
  unfold rl_v
  rw [if_neg (by omega), if_pos (by omega), show 3 + k - 3 = k by omega]
theorem rl_v2 (N : Nat → Int) (x y : Int) : rl_v N 5 x y = rl_s3 N x y 2 := by
  unfold rl_v
  rw [if_neg (by omega), if_neg (by omega)]
/-- the numbers: offsets up to 50, factors up to 5 -/
def rl_NB (N : Nat → Int) : Prop := (∀ j, j < 20 → rl_B 50 (N j)) ∧ (∀ j, j < 6 → rl_B 5 (N j)) ∧ (∀ j, 9 ≤ j → j < 15 → rl_B 5 (N j)) ∧ (∀ j, 17 ≤ j → j < 19 → rl_B 5 (N j))
theorem rl_inB {x : Int} (h1 : -16 ≤ x) (h2 : x ≤ 15) : rl_B 16 x := ⟨by omega, by omega⟩
theorem rl_uB {N : Nat → Int} (hN : rl_NB N) {k : Nat} (hk : k < 3) {x y : Int} (hx : rl_B 16 x) (hy : rl_B 16 y) : rl_B 210 (rl_u N k x y) :=
  rl_Bm (rl_Badd (rl_Badd (rl_mulB (hN.2.1 (2 * k) (by omega)) hx) (rl_mulB (hN.2.1 (2 * k + 1) (by omega)) hy)) (hN.1 (6 + k) (by omega))) (by decide)
theorem rl_s2B {N : Nat → Int} (hN : rl_NB N) {k : Nat} (hk : k < 2) {x y : Int} (hx : rl_B 16 x) (hy : rl_B 16 y) : ∀ i : Nat, i ≤ 3 → rl_B (50 + 1050 * (i : Int)) (rl_s2 N k x y i) := by
  intro i
  induction i with
  | zero => exact fun _ => rl_Bm (hN.1 (15 + k) (by omega)) (by omega)
  | succ i ih => exact fun h => rl_Bm (rl_Badd (ih (by omega)) (rl_mulB (hN.2.2.1 (9 + 3 * k + i) (by omega) (by omega)) (rl_rB (rl_uB hN (show i < 3 by omega) hx hy)))) (by omega)
theorem rl_s3B {N : Nat → Int} (hN : rl_NB N) {x y : Int} (hx : rl_B 16 x) (hy : rl_B 16 y) : ∀ i : Nat, i ≤ 2 → rl_B (50 + 16000 * (i : Int)) (rl_s3 N x y i) := by
  intro i
  induction i with
  | zero => exact fun _ => rl_Bm (hN.1 19 (by omega)) (by omega)
  | succ i ih => exact fun h => rl_Bm (rl_Badd (ih (by omega)) (rl_mulB (hN.2.2.2 (17 + i) (by omega) (by omega)) (rl_rB (rl_s2B hN (show i < 2 by omega) hx hy 3 (by omega))))) (by omega)
theorem rl_vB {N : Nat → Int} (hN : rl_NB N) (k : Nat) {x y : Int} (hx : rl_B 16 x) (hy : rl_B 16 y) : rl_B 32050 (rl_v N k x y) := by
  unfold rl_v
  split
  · exact rl_Bm (rl_uB hN (by assumption) hx hy) (by decide)
  · split
    · exact rl_Bm (rl_s2B hN (by omega) hx hy 3 (by omega)) (by decide)
    · exact rl_Bm (rl_s3B hN hx hy 2 (by omega)) (by decide)
/-! ===== a unit over a box: under way, and finished ===== -/
def rl_five (M lo hi f0 f1 r : Int) : Prop := rl_B M lo ∧ rl_B M hi ∧ rl_B M f0 ∧ rl_B M f1 ∧ rl_B M r
def rl_PB (M l0 h0 l1 h1 : Int) (g : Int → Int → Int) (lo hi f0 f1 r : Int) (lin : Int32) : Prop :=
  rl_five M lo hi f0 f1 r ∧ (∀ x y, l0 ≤ x → x ≤ h0 → l1 ≤ y → y ≤ h1 → f0 * x + f1 * y + r + lo ≤ g x y ∧ g x y ≤ f0 * x + f1 * y + r + hi) ∧ (lin ≠ 0 → lo = 0 ∧ hi = 0) ∧ (l0 = h0 → l1 = h1 → lin ≠ 0)
def rl_UB (M l0 h0 l1 h1 : Int) (g : Int → Int → Int) (lo hi f0 f1 r : Int) (lin : Int32) : Prop :=
  rl_five M lo hi f0 f1 r ∧ (∀ x y, l0 ≤ x → x ≤ h0 → l1 ≤ y → y ≤ h1 → lo ≤ g x y ∧ g x y ≤ hi) ∧
  (lin ≠ 0 → (∀ x y, l0 ≤ x → x ≤ h0 → l1 ≤ y → y ≤ h1 → g x y = f0 * x + f1 * y + r) ∧ (∃ x y, l0 ≤ x ∧ x ≤ h0 ∧ l1 ≤ y ∧ y ≤ h1 ∧ g x y = lo) ∧ (∃ x y, l0 ≤ x ∧ x ≤ h0 ∧ l1 ≤ y ∧ y ≤ h1 ∧ g x y = hi)) ∧
  (l0 = h0 → l1 = h1 → lin ≠ 0)
/-- a good box -/
def rl_bok (l0 h0 l1 h1 : Int) : Prop := -16 ≤ l0 ∧ l0 ≤ h0 ∧ h0 ≤ 15 ∧ -16 ≤ l1 ∧ l1 ≤ h1 ∧ h1 ≤ 15
def rl_lo (f0 f1 r l0 h0 l1 h1 : Int) : Int := r + rl_mn f0 l0 h0 + rl_mn f1 l1 h1
def rl_hi (f0 f1 r l0 h0 l1 h1 : Int) : Int := r + rl_mx f0 l0 h0 + rl_mx f1 l1 h1
theorem rl_fin {M l0 h0 l1 h1 : Int} {g : Int → Int → Int} {lo hi f0 f1 r : Int} {lin : Int32} (hb : rl_bok l0 h0 l1 h1) (h : rl_PB M l0 h0 l1 h1 g lo hi f0 f1 r lin) :
    rl_UB (34 * M) l0 h0 l1 h1 g (rl_lo f0 f1 r l0 h0 l1 h1 + lo) (rl_hi f0 f1 r l0 h0 l1 h1 + hi) f0 f1 r lin := by
  obtain ⟨⟨b1, b2, b3, b4, b5⟩, hg, hl, hp⟩ := h
  obtain ⟨g1, g2, g3, g4, g5, g6⟩ := hb
  have M0 : 0 ≤ M := rl_B0 b1
  have L0 : rl_B 16 l0 := rl_inB (by omega) (by omega)
  have H0 : rl_B 16 h0 := rl_inB (by omega) (by omega)
  have L1 : rl_B 16 l1 := rl_inB (by omega) (by omega)
  have H1 : rl_B 16 h1 := rl_inB (by omega) (by omega)
  refine ⟨⟨?_, ?_, rl_Bm b3 (by omega), rl_Bm b4 (by omega), rl_Bm b5 (by omega)⟩, ?_, ?_, hp⟩
  · exact rl_Bm (rl_Badd (rl_Badd (rl_Badd b5 (rl_mnB b3 L0 H0)) (rl_mnB b4 L1 H1)) b1) (by omega)
  · exact rl_Bm (rl_Badd (rl_Badd (rl_Badd b5 (rl_mxB b3 L0 H0)) (rl_mxB b4 L1 H1)) b2) (by omega)
  · intro x y x1 x2 y1 y2
    have e := hg x y x1 x2 y1 y2
    have e0 := rl_mnx (f := f0) x1 x2
    have e1 := rl_mnx (f := f1) y1 y2
    unfold rl_lo rl_hi
    constructor <;> omega
  · intro hn
    obtain ⟨z1, z2⟩ := hl hn
    have E : ∀ x y, l0 ≤ x → x ≤ h0 → l1 ≤ y → y ≤ h1 → g x y = f0 * x + f1 * y + r := by
      intro x y x1 x2 y1 y2
      have e := hg x y x1 x2 y1 y2
      omega
    refine ⟨E, ?_, ?_⟩
    · obtain ⟨x, x1, x2, x3⟩ := rl_mna f0 g2
      obtain ⟨y, y1, y2, y3⟩ := rl_mna f1 g5
      refine ⟨x, y, x1, x2, y1, y2, ?_⟩
      rw [E x y x1 x2 y1 y2]
      unfold rl_lo
      omega
    · obtain ⟨x, x1, x2, x3⟩ := rl_mxa f0 g2
      obtain ⟨y, y1, y2, y3⟩ := rl_mxa f1 g5
      refine ⟨x, y, x1, x2, y1, y2, ?_⟩
      rw [E x y x1 x2 y1 y2]
      unfold rl_hi
      omega
/-- a unit enters a sum: it is off, or its factor is 0 -/
theorem rl_brg0 {M M' M2 l0 h0 l1 h1 : Int} {g u : Int → Int → Int} {lo hi f0 f1 r lo' hi' f0' f1' r' F : Int} {lin lin' : Int32} (hM : M ≤ M') (h : rl_PB M l0 h0 l1 h1 g lo hi f0 f1 r lin) (hu : rl_UB M2 l0 h0 l1 h1 u lo' hi' f0' f1' r' lin')
    (hF : F = 0 ∨ hi' ≤ 0) : rl_PB M' l0 h0 l1 h1 (fun x y => g x y + F * rl_r (u x y)) lo hi f0 f1 r lin := by
  obtain ⟨⟨b1, b2, b3, b4, b5⟩, hg, hl, hp⟩ := h
  refine ⟨⟨rl_Bm b1 hM, rl_Bm b2 hM, rl_Bm b3 hM, rl_Bm b4 hM, rl_Bm b5 hM⟩, ?_, hl, hp⟩
  intro x y x1 x2 y1 y2
  have e : F * rl_r (u x y) = 0 := by
    rcases hF with e | e
    · rw [e, Int.zero_mul]
    · have := (hu.2.1 x y x1 x2 y1 y2).2
      rw [rl_r0 (by omega), Int.mul_zero]
  show _ ≤ g x y + F * rl_r (u x y) ∧ g x y + F * rl_r (u x y) ≤ _
  rw [e, Int.add_zero]
  exact hg x y x1 x2 y1 y2
/-- it is on and linear -/
theorem rl_brg1 {M M' M2 l0 h0 l1 h1 : Int} {g u : Int → Int → Int} {lo hi f0 f1 r lo' hi' f0' f1' r' F : Int} {lin lin' : Int32} (h : rl_PB M l0 h0 l1 h1 g lo hi f0 f1 r lin) (hu : rl_UB M2 l0 h0 l1 h1 u lo' hi' f0' f1' r' lin')
    (hF : rl_B 5 F) (hM : M + 5 * M2 ≤ M') (hn : lin' ≠ 0) (h0' : 0 ≤ lo') : rl_PB M' l0 h0 l1 h1 (fun x y => g x y + F * rl_r (u x y)) lo hi (f0 + F * f0') (f1 + F * f1') (r + F * r') lin := by
  obtain ⟨⟨b1, b2, b3, b4, b5⟩, hg, hl, hp⟩ := h
  obtain ⟨⟨d1, d2, d3, d4, d5⟩, hu1, hu2, hu3⟩ := hu
  have m2 := rl_B0 d1
  refine ⟨⟨rl_Bm b1 (by omega), rl_Bm b2 (by omega), rl_Bm (rl_Badd b3 (rl_mulB hF d3)) hM, rl_Bm (rl_Badd b4 (rl_mulB hF d4)) hM, rl_Bm (rl_Badd b5 (rl_mulB hF d5)) hM⟩, ?_, hl, hp⟩
  intro x y x1 x2 y1 y2
  have e := hg x y x1 x2 y1 y2
  have e1 := hu1 x y x1 x2 y1 y2
  have e2 := (hu2 hn).1 x y x1 x2 y1 y2
  show _ ≤ g x y + F * rl_r (u x y) ∧ g x y + F * rl_r (u x y) ≤ _
  rw [rl_r1 (show 0 ≤ u x y by omega), e2]
  have e3 : (f0 + F * f0') * x + (f1 + F * f1') * y + (r + F * r') = f0 * x + f1 * y + r + F * (f0' * x + f1' * y + r') := by grind
  rw [e3]
  omega
/-- it is mixed -/
theorem rl_brg2 {M M' M2 l0 h0 l1 h1 : Int} {g u : Int → Int → Int} {lo hi f0 f1 r lo' hi' f0' f1' r' F : Int} {lin lin' : Int32} (h : rl_PB M l0 h0 l1 h1 g lo hi f0 f1 r lin) (hu : rl_UB M2 l0 h0 l1 h1 u lo' hi' f0' f1' r' lin')
    (hF : rl_B 5 F) (hM : M + 5 * M2 ≤ M') (hb : rl_bok l0 h0 l1 h1) (hh : 0 < hi') (hn : ¬ (lin' ≠ 0 ∧ 0 ≤ lo')) : rl_PB M' l0 h0 l1 h1 (fun x y => g x y + F * rl_r (u x y)) (lo + rl_mn F (rl_r lo') hi') (hi + rl_mx F (rl_r lo') hi') f0 f1 r 0 := by
  obtain ⟨⟨b1, b2, b3, b4, b5⟩, hg, hl, hp⟩ := h
  obtain ⟨⟨d1, d2, d3, d4, d5⟩, hu1, hu2, hu3⟩ := hu
  have m2 := rl_B0 d1
  refine ⟨⟨rl_Bm (rl_Badd b1 (rl_mnB hF (rl_rB d1) d2)) hM, rl_Bm (rl_Badd b2 (rl_mxB hF (rl_rB d1) d2)) hM, rl_Bm b3 (by omega), rl_Bm b4 (by omega), rl_Bm b5 (by omega)⟩, ?_, fun z => absurd rfl z, ?_⟩
  · intro x y x1 x2 y1 y2
    have e := hg x y x1 x2 y1 y2
    have e1 := hu1 x y x1 x2 y1 y2
    have e2 : rl_r (u x y) ≤ hi' := by
      have := rl_rm e1.2
      rw [rl_r1 (show 0 ≤ hi' by omega)] at this
      exact this
    have e3 := rl_mnx (f := F) (rl_rm e1.1) e2
    show _ ≤ g x y + F * rl_r (u x y) ∧ g x y + F * rl_r (u x y) ≤ _
    constructor <;> omega
  · intro p q
    exfalso
    have hn' := hu3 p q
    obtain ⟨_, ⟨x, y, x1, x2, y1, y2, e⟩, ⟨x', y', x1', x2', y1', y2', e'⟩⟩ := hu2 hn'
    have ex : x = x' := by omega
    have ey : y = y' := by omega
    rw [ex, ey] at e
    exact hn ⟨hn', by omega⟩
end
section
/-! ===== walks of begin, exact, finish, bring ===== -/
theorem rl_ck {k : Nat} (h : k < 2048) : (nI k).toNatClampNeg = k := nI_clamp (by omega)
def rl_P (M l0 h0 l1 h1 : Int) (g : Int → Int → Int) (v3 v4 v5 v6 v7 v8 : Int32) : Prop :=
  ∃ lo hi f0 f1 r : Int, v3 = rl_z lo ∧ v4 = rl_z hi ∧ v5 = rl_z f0 ∧ v6 = rl_z f1 ∧ v7 = rl_z r ∧ rl_PB M l0 h0 l1 h1 g lo hi f0 f1 r v8
def rl_U (M l0 h0 l1 h1 : Int) (g : Int → Int → Int) (v3 v4 v5 v6 v7 v8 : Int32) : Prop :=
  ∃ lo hi f0 f1 r : Int, v3 = rl_z lo ∧ v4 = rl_z hi ∧ v5 = rl_z f0 ∧ v6 = rl_z f1 ∧ v7 = rl_z r ∧ rl_UB M l0 h0 l1 h1 g lo hi f0 f1 r v8
/-- nothing but place k has changed -/
def rl_fr (k : Nat) (a3 a4 a5 a6 a7 a8 c3 c4 c5 c6 c7 c8 : Nat → Int32) : Prop :=
  ∀ j, j ≠ k → c3 j = a3 j ∧ c4 j = a4 j ∧ c5 j = a5 j ∧ c6 j = a6 j ∧ c7 j = a7 j ∧ c8 j = a8 j
theorem rl_fr0 (k : Nat) (a3 a4 a5 a6 a7 a8 : Nat → Int32) : rl_fr k a3 a4 a5 a6 a7 a8 a3 a4 a5 a6 a7 a8 := fun _ _ => ⟨rfl, rfl, rfl, rfl, rfl, rfl⟩
theorem rl_frt {k : Nat} {a3 a4 a5 a6 a7 a8 c3 c4 c5 c6 c7 c8 d3 d4 d5 d6 d7 d8 : Nat → Int32} (h : rl_fr k a3 a4 a5 a6 a7 a8 c3 c4 c5 c6 c7 c8) (h' : rl_fr k c3 c4 c5 c6 c7 c8 d3 d4 d5 d6 d7 d8) : rl_fr k a3 a4 a5 a6 a7 a8 d3 d4 d5 d6 d7 d8 := by
  intro j hj
  obtain ⟨p3, p4, p5, p6, p7, p8⟩ := h j hj
  obtain ⟨q3, q4, q5, q6, q7, q8⟩ := h' j hj
  exact ⟨q3.trans p3, q4.trans p4, q5.trans p5, q6.trans p6, q7.trans p7, q8.trans p8⟩
section
variable {w b : Int32} {a1 a2 a3 a4 a5 a6 a7 a8 a9 a10 a11 a12 : Nat → Int32}
theorem rl_begin {post : St1 → Prop} {k : Nat} (hk : k < 6) {x : Int32} (H : post (w, b, a1, a2, upd a3 k 0, upd a4 k 0, upd a5 k 0, upd a6 k 0, upd a7 k x, upd a8 k 1, a9, a10, a11, a12)) :
    wpX_begin post (w, b, a1, a2, a3, a4, a5, a6, a7, a8, a9, a10, a11, a12) (nI k) x := by
  unfold wpX_begin
  rw [rl_ck (by omega)]
  exact ⟨pk_in k 6 hk, nm_e ⟨pk_in k 6 hk, nm_e ⟨pk_in k 6 hk, nm_e ⟨pk_in k 6 hk, nm_e ⟨pk_in k 6 hk, nm_e ⟨pk_in k 6 hk, nm_e H⟩⟩⟩⟩⟩⟩
theorem rl_beginP {post : St1 → Prop} {k : Nat} (hk : k < 6) {O : Int} (hO : rl_B 50 O) {l0 h0 l1 h1 : Int}
    (H : ∀ c3 c4 c5 c6 c7 c8, rl_fr k a3 a4 a5 a6 a7 a8 c3 c4 c5 c6 c7 c8 → rl_P 50 l0 h0 l1 h1 (fun _ _ => O) (c3 k) (c4 k) (c5 k) (c6 k) (c7 k) (c8 k) → post (w, b, a1, a2, c3, c4, c5, c6, c7, c8, a9, a10, a11, a12)) :
    wpX_begin post (w, b, a1, a2, a3, a4, a5, a6, a7, a8, a9, a10, a11, a12) (nI k) (rl_z O) := by
  refine rl_begin hk (H _ _ _ _ _ _ (fun j hj => ⟨pk_un hj, pk_un hj, pk_un hj, pk_un hj, pk_un hj, pk_un hj⟩) ?_)
  have z0 : rl_B 50 0 := ⟨by decide, by decide⟩
  refine ⟨0, 0, 0, 0, O, pk_us, pk_us, pk_us, pk_us, pk_us, ⟨z0, z0, z0, z0, hO⟩, ?_, fun _ => ⟨rfl, rfl⟩, fun _ _ => ?_⟩
  · intro x y _ _ _ _
    show 0 * x + 0 * y + O + 0 ≤ O ∧ O ≤ 0 * x + 0 * y + O + 0
    omega
  · rw [pk_us]
    decide
theorem rl_e91 {post : St1 → Prop} {k : Nat} (hk : k < 6) {f l1 h1 C R : Int} (hf : rl_R f) (H : post (w, b, a1, a2, a3, upd a4 k (rl_z (R + C + rl_mx f l1 h1)), a5, a6, a7, a8, a9, a10, a11, a12)) :
    wX_exact_91 post (rl_z l1) (rl_z h1) (rl_z f) (rl_z C) (rl_z R) (nI k) w b a1 a2 a3 a4 a5 a6 a7 a8 a9 a10 a11 a12 := by
  unfold wX_exact_91
  rw [rl_ck (by omega)]
  exact rl_ble f 0 hf rl_R0 (fun p => ⟨pk_in k 6 hk, nm_r (by rw [rl_mul, rl_add, rl_add, rl_mx, if_pos p]) H⟩) (fun p => ⟨pk_in k 6 hk, nm_r (by rw [rl_mul, rl_add, rl_add, rl_mx, if_neg (by omega)]) H⟩)
theorem rl_e62 {post : St1 → Prop} {k : Nat} (hk : k < 6) {f0 f1 r l0 h0 l1 h1 C R : Int} (hf0 : rl_R f0) (hf1 : rl_R f1) (e7 : a7 k = rl_z r)
    (H : post (w, b, a1, a2, upd a3 k (rl_z (R + C)), upd a4 k (rl_z (rl_hi f0 f1 r l0 h0 l1 h1)), a5, a6, a7, a8, a9, a10, a11, a12)) :
    wX_exact_62 post (nI k) (rl_z l0) (rl_z h0) (rl_z l1) (rl_z h1) (rl_z f0) (rl_z f1) (rl_z C) (rl_z R) (nI k) w b a1 a2 a3 a4 a5 a6 a7 a8 a9 a10 a11 a12 := by
  unfold wX_exact_62
  rw [rl_ck (by omega), e7, rl_add]
  refine ⟨pk_in k 6 hk, nm_e ⟨pk_in k 6 hk, rl_ble f0 0 hf0 rl_R0 (fun p => ?_) (fun p => ?_)⟩⟩
  · rw [rl_mul]
    refine rl_e91 hk hf1 ?_
    have e : rl_mx f0 l0 h0 = f0 * l0 := if_pos p
    rw [← e]
    exact H
  · rw [rl_mul]
    refine rl_e91 hk hf1 ?_
    have e : rl_mx f0 l0 h0 = f0 * h0 := if_neg (by omega)
    rw [← e]
    exact H
theorem rl_exact {post : St1 → Prop} {k : Nat} (hk : k < 6) {f0 f1 r l0 h0 l1 h1 : Int} (hf0 : rl_R f0) (hf1 : rl_R f1) (e5 : a5 k = rl_z f0) (e6 : a6 k = rl_z f1) (e7 : a7 k = rl_z r)
    (H : post (w, b, a1, a2, upd a3 k (rl_z (rl_lo f0 f1 r l0 h0 l1 h1)), upd a4 k (rl_z (rl_hi f0 f1 r l0 h0 l1 h1)), a5, a6, a7, a8, a9, a10, a11, a12)) :
    wpX_exact post (w, b, a1, a2, a3, a4, a5, a6, a7, a8, a9, a10, a11, a12) (nI k) (rl_z l0) (rl_z h0) (rl_z l1) (rl_z h1) := by
  unfold wpX_exact
  dsimp only
  rw [rl_ck (by omega), e5, e6, e7]
  refine ⟨pk_in k 6 hk, nm_e ⟨pk_in k 6 hk, nm_e ⟨pk_in k 6 hk, rl_ble f0 0 hf0 rl_R0 (fun p => ?_) (fun p => ?_)⟩⟩⟩
  · refine rl_ble f1 0 hf1 rl_R0 (fun q => ?_) (fun q => ?_)
    · rw [rl_mul, rl_mul, rl_add]
      refine rl_e62 hk hf0 hf1 e7 ?_
      have e : rl_lo f0 f1 r l0 h0 l1 h1 = r + f0 * h0 + f1 * h1 := by rw [rl_lo, rl_mn, rl_mn, if_pos p, if_pos q]
      rw [← e]
      exact H
    · rw [rl_mul, rl_mul, rl_add]
      refine rl_e62 hk hf0 hf1 e7 ?_
      have e : rl_lo f0 f1 r l0 h0 l1 h1 = r + f0 * h0 + f1 * l1 := by rw [rl_lo, rl_mn, rl_mn, if_pos p, if_neg (show ¬ f1 ≤ 0 by omega)]
      rw [← e]
      exact H
  · refine rl_ble f1 0 hf1 rl_R0 (fun q => ?_) (fun q => ?_)
    · rw [rl_mul, rl_mul, rl_add]
      refine rl_e62 hk hf0 hf1 e7 ?_
      have e : rl_lo f0 f1 r l0 h0 l1 h1 = r + f0 * l0 + f1 * h1 := by rw [rl_lo, rl_mn, rl_mn, if_neg (show ¬ f0 ≤ 0 by omega), if_pos q]
      rw [← e]
      exact H
    · rw [rl_mul, rl_mul, rl_add]
      refine rl_e62 hk hf0 hf1 e7 ?_
      have e : rl_lo f0 f1 r l0 h0 l1 h1 = r + f0 * l0 + f1 * l1 := by rw [rl_lo, rl_mn, rl_mn, if_neg (show ¬ f0 ≤ 0 by omega), if_neg (show ¬ f1 ≤ 0 by omega)]
      rw [← e]
      exact H
theorem rl_finish {post : St1 → Prop} {k : Nat} (hk : k < 6) {lo hi f0 f1 r l0 h0 l1 h1 : Int} (hf0 : rl_R f0) (hf1 : rl_R f1) (e3 : a3 k = rl_z lo) (e4 : a4 k = rl_z hi) (e5 : a5 k = rl_z f0) (e6 : a6 k = rl_z f1) (e7 : a7 k = rl_z r)
    (H : ∀ c3 c4, (∀ j, j ≠ k → c3 j = a3 j) → (∀ j, j ≠ k → c4 j = a4 j) → c3 k = rl_z (rl_lo f0 f1 r l0 h0 l1 h1 + lo) → c4 k = rl_z (rl_hi f0 f1 r l0 h0 l1 h1 + hi) → post (w, b, a1, a2, c3, c4, a5, a6, a7, a8, a9, a10, a11, a12)) :
    wpX_finish post (w, b, a1, a2, a3, a4, a5, a6, a7, a8, a9, a10, a11, a12) (nI k) (rl_z l0) (rl_z h0) (rl_z l1) (rl_z h1) := by
  unfold wpX_finish
  dsimp only
  rw [rl_ck (by omega), e3, e4]
  refine ⟨pk_in k 6 hk, nm_e ⟨pk_in k 6 hk, nm_e (rl_exact hk hf0 hf1 e5 e6 e7 ?_)⟩⟩
  dsimp only
  refine ⟨pk_in k 6 hk, pk_in k 6 hk, nm_e ⟨pk_in k 6 hk, pk_in k 6 hk, nm_e (H _ _ ?_ ?_ ?_ ?_)⟩⟩
  · intro j hj
    rw [pk_un hj, pk_un hj]
  · intro j hj
    rw [pk_un hj, pk_un hj]
  · rw [pk_us, pk_us, rl_add]
  · rw [pk_us, pk_us, rl_add]
theorem rl_finishP {post : St1 → Prop} {k : Nat} (hk : k < 6) {M l0 h0 l1 h1 : Int} {g : Int → Int → Int} (hb : rl_bok l0 h0 l1 h1) (hM : M < 2147483648) (hP : rl_P M l0 h0 l1 h1 g (a3 k) (a4 k) (a5 k) (a6 k) (a7 k) (a8 k))
    (H : ∀ c3 c4, rl_fr k a3 a4 a5 a6 a7 a8 c3 c4 a5 a6 a7 a8 → rl_U (34 * M) l0 h0 l1 h1 g (c3 k) (c4 k) (a5 k) (a6 k) (a7 k) (a8 k) → post (w, b, a1, a2, c3, c4, a5, a6, a7, a8, a9, a10, a11, a12)) :
    wpX_finish post (w, b, a1, a2, a3, a4, a5, a6, a7, a8, a9, a10, a11, a12) (nI k) (rl_z l0) (rl_z h0) (rl_z l1) (rl_z h1) := by
  obtain ⟨lo, hi, f0, f1, r, e3, e4, e5, e6, e7, hp⟩ := hP
  refine rl_finish hk (rl_BR hp.1.2.2.1 hM) (rl_BR hp.1.2.2.2.1 hM) e3 e4 e5 e6 e7 (fun c3 c4 s3 s4 d3 d4 => H c3 c4 (fun j hj => ⟨s3 j hj, s4 j hj, rfl, rfl, rfl, rfl⟩) ?_)
  exact ⟨_, _, f0, f1, r, d3, d4, e5, e6, e7, rl_fin hb hp⟩
theorem rl_b159 {post : St1 → Prop} {k : Nat} (hk : k < 6) {C R : Int} (H : post (w, b, a1, a2, a3, upd a4 k (rl_z (R + C)), a5, a6, a7, upd a8 k 0, a9, a10, a11, a12)) :
    wX_bring_159 post (nI k) (rl_z C) (rl_z R) (nI k) w b a1 a2 a3 a4 a5 a6 a7 a8 a9 a10 a11 a12 := by
  unfold wX_bring_159
  rw [rl_ck (by omega), rl_add]
  exact ⟨pk_in k 6 hk, nm_e ⟨pk_in k 6 hk, nm_e H⟩⟩
theorem rl_b103 {post : St1 → Prop} {k i : Nat} (hk : k < 6) (hi : i < 6) {F A B lo h : Int} (hF : rl_R F) (e4i : a4 i = rl_z B) (e3 : a3 k = rl_z lo) (e4 : a4 k = rl_z h)
    (H : post (w, b, a1, a2, upd a3 k (rl_z (lo + rl_mn F A B)), upd a4 k (rl_z (h + rl_mx F A B)), a5, a6, a7, upd a8 k 0, a9, a10, a11, a12)) :
    wX_bring_103 post (nI k) (nI i) (rl_z F) (rl_z A) w b a1 a2 a3 a4 a5 a6 a7 a8 a9 a10 a11 a12 := by
  unfold wX_bring_103
  rw [rl_ck (show i < 2048 by omega), rl_ck (show k < 2048 by omega), e4i, e3]
  refine ⟨pk_in i 6 hi, nm_e ⟨pk_in k 6 hk, rl_ble F 0 hF rl_R0 (fun p => ?_) (fun p => ?_)⟩⟩
  · unfold wX_bring_135
    rw [rl_ck (show k < 2048 by omega), e4, rl_mul, rl_mul, rl_add]
    have e : rl_mn F A B = F * B := if_pos p
    have e' : rl_mx F A B = F * A := if_pos p
    rw [e, e'] at H
    exact ⟨pk_in k 6 hk, nm_e ⟨pk_in k 6 hk, br_t ((rl_le hF rl_R0).mpr p) (rl_b159 hk H)⟩⟩
  · unfold wX_bring_135
    rw [rl_ck (show k < 2048 by omega), e4, rl_mul, rl_mul, rl_add]
    have e : rl_mn F A B = F * A := if_neg (by omega)
    have e' : rl_mx F A B = F * B := if_neg (by omega)
    rw [e, e'] at H
    exact ⟨pk_in k 6 hk, nm_e ⟨pk_in k 6 hk, br_f (fun z => absurd ((rl_le hF rl_R0).mp z) (by omega)) (rl_b159 hk H)⟩⟩
theorem rl_b84 {post : St1 → Prop} {k i : Nat} (hk : k < 6) (hi : i < 6) {F A B lo h : Int} (hF : rl_R F) (hA : rl_R A) (e3i : a3 i = rl_z A) (e4i : a4 i = rl_z B) (e3 : a3 k = rl_z lo) (e4 : a4 k = rl_z h)
    (H : post (w, b, a1, a2, upd a3 k (rl_z (lo + rl_mn F (rl_r A) B)), upd a4 k (rl_z (h + rl_mx F (rl_r A) B)), a5, a6, a7, upd a8 k 0, a9, a10, a11, a12)) :
    wX_bring_84 post (nI k) (nI i) (rl_z F) w b a1 a2 a3 a4 a5 a6 a7 a8 a9 a10 a11 a12 := by
  unfold wX_bring_84
  rw [rl_ck (show i < 2048 by omega), e3i]
  refine ⟨pk_in i 6 hi, rl_ble A 0 hA rl_R0 (fun p => ?_) (fun p => ⟨pk_in i 6 hi, ?_⟩)⟩
  · rw [rl_r0 p] at H
    exact rl_b103 (A := 0) hk hi hF e4i e3 e4 H
  · rw [rl_r1 (show 0 ≤ A by omega)] at H
    exact rl_b103 (A := A) hk hi hF e4i e3 e4 H
theorem rl_bring {post : St1 → Prop} {k i : Nat} (hk : k < 6) (hi : i < 6) {F lo h f0 f1 r A B f0' f1' r' : Int} (hF : rl_R F) (hA : rl_R A) (hB : rl_R B)
    (e3 : a3 k = rl_z lo) (e4 : a4 k = rl_z h) (e5 : a5 k = rl_z f0) (e6 : a6 k = rl_z f1) (e7 : a7 k = rl_z r) (e3i : a3 i = rl_z A) (e4i : a4 i = rl_z B) (e5i : a5 i = rl_z f0') (e6i : a6 i = rl_z f1') (e7i : a7 i = rl_z r')
    (H0 : F = 0 ∨ B ≤ 0 → post (w, b, a1, a2, a3, a4, a5, a6, a7, a8, a9, a10, a11, a12))
    (H1 : a8 i ≠ 0 → 0 ≤ A → post (w, b, a1, a2, a3, a4, upd a5 k (rl_z (f0 + F * f0')), upd a6 k (rl_z (f1 + F * f1')), upd a7 k (rl_z (r + F * r')), a8, a9, a10, a11, a12))
    (H2 : 0 < B → ¬ (a8 i ≠ 0 ∧ 0 ≤ A) → post (w, b, a1, a2, upd a3 k (rl_z (lo + rl_mn F (rl_r A) B)), upd a4 k (rl_z (h + rl_mx F (rl_r A) B)), a5, a6, a7, upd a8 k 0, a9, a10, a11, a12)) :
    wpX_bring post (w, b, a1, a2, a3, a4, a5, a6, a7, a8, a9, a10, a11, a12) (nI k) (nI i) (rl_z F) := by
  unfold wpX_bring
  dsimp only
  rw [rl_ck (show i < 2048 by omega), rl_ck (show k < 2048 by omega), e4i, e3i, e5, e5i, e6, e6i, e7, e7i, rl_mul, rl_mul, rl_mul, rl_add, rl_add, rl_add]
  refine rl_beq F 0 hF rl_R0 (fun p => H0 (Or.inl p)) (fun p => ⟨pk_in i 6 hi, rl_blt 0 B rl_R0 hB (fun q => ⟨pk_in i 6 hi, br_c (fun z => ?_) (fun z => ⟨pk_in i 6 hi, rl_blt A 0 hA rl_R0 (fun q2 => ?_) (fun q2 => ?_)⟩)⟩) (fun q => H0 (Or.inr q))⟩)
  · exact rl_b84 hk hi hF hA e3i e4i e3 e4 (H2 q (fun t => t.1 z))
  · exact rl_b84 hk hi hF hA e3i e4i e3 e4 (H2 q (fun t => absurd t.2 (by omega)))
  · exact ⟨pk_in k 6 hk, pk_in i 6 hi, pk_in k 6 hk, nm_e ⟨pk_in k 6 hk, pk_in i 6 hi, pk_in k 6 hk, nm_e ⟨pk_in k 6 hk, pk_in i 6 hi, pk_in k 6 hk, nm_e (H1 z q2)⟩⟩⟩
theorem rl_bringP {post : St1 → Prop} {k i : Nat} (hk : k < 6) (hi : i < 6) {F M M2 M' l0 h0 l1 h1 : Int} {g u : Int → Int → Int} (hF : rl_B 5 F) (hb : rl_bok l0 h0 l1 h1) (hM : M + 5 * M2 ≤ M') (hM2 : M2 < 2147483648)
    (hP : rl_P M l0 h0 l1 h1 g (a3 k) (a4 k) (a5 k) (a6 k) (a7 k) (a8 k)) (hU : rl_U M2 l0 h0 l1 h1 u (a3 i) (a4 i) (a5 i) (a6 i) (a7 i) (a8 i))
    (H : ∀ c3 c4 c5 c6 c7 c8, rl_fr k a3 a4 a5 a6 a7 a8 c3 c4 c5 c6 c7 c8 → rl_P M' l0 h0 l1 h1 (fun x y => g x y + F * rl_r (u x y)) (c3 k) (c4 k) (c5 k) (c6 k) (c7 k) (c8 k) → post (w, b, a1, a2, c3, c4, c5, c6, c7, c8, a9, a10, a11, a12)) :
    wpX_bring post (w, b, a1, a2, a3, a4, a5, a6, a7, a8, a9, a10, a11, a12) (nI k) (nI i) (rl_z F) := by
  obtain ⟨lo, h, f0, f1, r, e3, e4, e5, e6, e7, hp⟩ := hP
  obtain ⟨A, B, f0', f1', r', e3i, e4i, e5i, e6i, e7i, hu⟩ := hU
  have m2 : 0 ≤ M2 := rl_B0 hu.1.1
  refine rl_bring hk hi (rl_BR hF (by decide)) (rl_BR hu.1.1 hM2) (rl_BR hu.1.2.1 hM2) e3 e4 e5 e6 e7 e3i e4i e5i e6i e7i (fun p => ?_) (fun p q => ?_) (fun p q => ?_)
  · exact H _ _ _ _ _ _ (rl_fr0 k _ _ _ _ _ _) ⟨lo, h, f0, f1, r, e3, e4, e5, e6, e7, rl_brg0 (by omega) hp hu p⟩
  · exact H _ _ _ _ _ _ (fun j hj => ⟨rfl, rfl, pk_un hj, pk_un hj, pk_un hj, rfl⟩) ⟨lo, h, _, _, _, e3, e4, pk_us, pk_us, pk_us, rl_brg1 hp hu hF hM p q⟩
  · refine H _ _ _ _ _ _ (fun j hj => ⟨pk_un hj, pk_un hj, rfl, rfl, rfl, pk_un hj⟩) ⟨_, _, f0, f1, r, pk_us, pk_us, e5, e6, e7, ?_⟩
    rw [pk_us]
    exact rl_brg2 hp hu hF hM hb p q
end
end
section
/-! ===== work: the sums of all units for two inputs ===== -/
theorem rl_cadd (c : Nat) {i : Nat} {x : Int32} (h : c + i < 2048) (hx : x = nI c := by rfl) : (x + nI i).toNatClampNeg = c + i := by
  subst hx
  rw [nI_add]
  exact rl_ck h
theorem rl_i2 (i : Nat) : (2 : Int32) * nI i = nI (2 * i) := pk_mul 2 i
theorem rl_i21 (i : Nat) : (2 : Int32) * nI i + 1 = nI (2 * i + 1) := by rw [rl_i2, nI_1]
theorem rl_c2 {i : Nat} (h : i < 20) : ((2 : Int32) * nI i).toNatClampNeg = 2 * i := by
  rw [rl_i2]
  exact rl_ck (by omega)
theorem rl_c21 {i : Nat} (h : i < 20) : ((2 : Int32) * nI i + 1).toNatClampNeg = 2 * i + 1 := by
  rw [rl_i21]
  exact rl_ck (by omega)
theorem rl_i9 (k i : Nat) : (9 : Int32) + 3 * nI k + nI i = nI (9 + 3 * k + i) := by
  rw [show (3 : Int32) * nI k = nI (3 * k) from pk_mul 3 k, show (9 : Int32) + nI (3 * k) = nI (9 + 3 * k) from nI_add 9 (3 * k), nI_add]
theorem rl_c9 {k i : Nat} (h : k < 20) (h' : i < 20) : ((9 : Int32) + 3 * nI k + nI i).toNatClampNeg = 9 + 3 * k + i := by
  rw [rl_i9]
  exact rl_ck (by omega)
theorem rl_s3p {N : Nat → Int} {x y : Int} {i : Nat} (h : rl_s2 N i x y 3 ≤ 0) : rl_s3 N x y (i + 1) = rl_s3 N x y i := by
  show rl_s3 N x y i + N (17 + i) * rl_r (rl_s2 N i x y 3) = _
  rw [rl_r0 h, Int.mul_zero, Int.add_zero]
theorem rl_s3n {N : Nat → Int} {x y : Int} {i : Nat} (h : 0 < rl_s2 N i x y 3) : rl_s3 N x y (i + 1) = rl_s3 N x y i + N (17 + i) * rl_s2 N i x y 3 := by
  show rl_s3 N x y i + N (17 + i) * rl_r (rl_s2 N i x y 3) = _
  rw [rl_r1 (by omega)]
theorem rl_s2p {N : Nat → Int} {x y : Int} {k i : Nat} (h : rl_u N i x y ≤ 0) : rl_s2 N k x y (i + 1) = rl_s2 N k x y i := by
  show rl_s2 N k x y i + N (9 + 3 * k + i) * rl_r (rl_u N i x y) = _
  rw [rl_r0 h, Int.mul_zero, Int.add_zero]
theorem rl_s2n {N : Nat → Int} {x y : Int} {k i : Nat} (h : 0 < rl_u N i x y) : rl_s2 N k x y (i + 1) = rl_s2 N k x y i + N (9 + 3 * k + i) * rl_u N i x y := by
  show rl_s2 N k x y i + N (9 + 3 * k + i) * rl_r (rl_u N i x y) = _
  rw [rl_r1 (by omega)]
section
variable {w b : Int32} {a1 a2 a3 a4 a5 a6 a7 a8 a9 a10 a11 a12 : Nat → Int32}
theorem rl_w153 {post : St1 → Prop} {N : Nat → Int} {x y : Int} (hN : ∀ j, a1 j = rl_z (N j)) (hB : ∀ j, j < 2 → rl_R (rl_s2 N j x y 3)) (h2 : ∀ j, j < 2 → a2 (3 + j) = rl_z (rl_s2 N j x y 3))
    (H : post (w, b, a1, upd a2 5 (rl_z (rl_s3 N x y 2)), a3, a4, a5, a6, a7, a8, a9, a10, a11, a12)) : ∃ n, wX_work_153 post w b a1 a2 a3 a4 a5 a6 a7 a8 a9 a10 a11 a12 n (rl_z (N 19)) 0 :=
  pk_loop (fun n i s => wX_work_153 post w b a1 a2 a3 a4 a5 a6 a7 a8 a9 a10 a11 a12 n s (nI i)) (fun i s => s = rl_z (rl_s3 N x y i)) 2 0 (rl_z (N 19)) (by omega) rfl
    (fun n s h => pk_le 2 2 (fun _ => nm_r (by rw [h]) H) (fun z => absurd z (by omega)))
    (fun n i s hi h hw => pk_le 2 i (fun z => absurd z (by omega)) (fun _ => ⟨pk_in (3 + i) 6 (by omega) (nI_add 3 i), rl_ble (rl_s2 N i x y 3) 0 (hB i hi) rl_R0
      (fun p => nm_r (e' := s) (Int32.add_zero s) (nm_r (nI_1 i) (hw _ (by rw [h, rl_s3p p]))))
      (fun p => ⟨pk_in (17 + i) 20 (by omega) (nI_add 17 i), pk_in (3 + i) 6 (by omega) (nI_add 3 i), nm_r (e' := rl_z (rl_s3 N x y (i + 1))) (by rw [rl_cadd 17 (by omega), rl_cadd 3 (by omega), hN, h2 i hi, h, rl_mul, rl_add, rl_s3n p]) (nm_r (nI_1 i) (hw _ rfl))⟩)
      (by rw [rl_cadd 3 (by omega)]; exact h2 i hi) rfl⟩))
theorem rl_w73 {post : St1 → Prop} {J : Int32 → (Nat → Int32) → (Nat → Int32) → (Nat → Int32) → (Nat → Int32) → (Nat → Int32) → (Nat → Int32) → (Nat → Int32) → (Nat → Int32) → (Nat → Int32) → (Nat → Int32) → (Nat → Int32) → (Nat → Int32) → Prop}
    {N : Nat → Int} {x y : Int} {k : Nat} (hk : k < 2) (hN : ∀ j, a1 j = rl_z (N j)) (hB : ∀ j, j < 3 → rl_R (rl_u N j x y)) (h2 : ∀ j, j < 3 → a2 j = rl_z (rl_u N j x y))
    (H : J (nI (k + 1)) a1 (upd a2 (3 + k) (rl_z (rl_s2 N k x y 3))) a3 a4 a5 a6 a7 a8 a9 a10 a11 a12) : ∃ n, wX_work_73 post J (nI k) w b a1 a2 a3 a4 a5 a6 a7 a8 a9 a10 a11 a12 n (rl_z (N (15 + k))) 0 :=
  pk_loop (fun n i s => wX_work_73 post J (nI k) w b a1 a2 a3 a4 a5 a6 a7 a8 a9 a10 a11 a12 n s (nI i)) (fun i s => s = rl_z (rl_s2 N k x y i)) 3 0 (rl_z (N (15 + k))) (by omega) rfl
    (fun n s h => pk_le 3 3 (fun _ => ⟨pk_in (3 + k) 6 (by omega) (nI_add 3 k), nm_r (by rw [h, rl_cadd 3 (by omega)]) (nm_r (nI_1 k) H)⟩) (fun z => absurd z (by omega)))
    (fun n i s hi h hw => pk_le 3 i (fun z => absurd z (by omega)) (fun _ => ⟨pk_in i 6 (by omega), rl_ble (rl_u N i x y) 0 (hB i hi) rl_R0
      (fun p => nm_r (e' := s) (Int32.add_zero s) (nm_r (nI_1 i) (hw _ (by rw [h, rl_s2p p]))))
      (fun p => ⟨pk_in (9 + 3 * k + i) 20 (by omega) (rl_i9 k i), pk_in i 6 (by omega), nm_r (e' := rl_z (rl_s2 N k x y (i + 1))) (by rw [rl_c9 (by omega) (by omega), rl_ck (by omega), hN, h2 i hi, h, rl_mul, rl_add, rl_s2n p]) (nm_r (nI_1 i) (hw _ rfl))⟩)
      (by rw [rl_ck (by omega)]; exact h2 i hi) rfl⟩))
theorem rl_work {post : St1 → Prop} {N : Nat → Int} {x y : Int} (hN : ∀ j, a1 j = rl_z (N j)) (hB : rl_NB N) (hx : rl_B 16 x) (hy : rl_B 16 y)
    (H : ∀ c2, (∀ j, j < 6 → c2 j = rl_z (rl_v N j x y)) → post (w, b, a1, c2, a3, a4, a5, a6, a7, a8, a9, a10, a11, a12)) : wpX_work post (w, b, a1, a2, a3, a4, a5, a6, a7, a8, a9, a10, a11, a12) (rl_z x) (rl_z y) := by
  have B0 : ∀ j, j < 3 → rl_R (rl_u N j x y) := fun j hj => rl_BR (rl_uB hB hj hx hy) (by decide)
  have B1 : ∀ j, j < 2 → rl_R (rl_s2 N j x y 3) := fun j hj => rl_BR (rl_s2B hB hj hx hy 3 (by omega)) (by decide)
  refine pk_loop (fun n i s => wX_work_2 post (rl_z x) (rl_z y) w b n (nI i) a1 s a3 a4 a5 a6 a7 a8 a9 a10 a11 a12) (fun i s => ∀ j, j < i → s j = rl_z (rl_u N j x y)) 3 0 a2 (by omega) (fun j hj => absurd hj (by omega)) ?_ ?_
  · intro n s h
    refine pk_le 3 3 (fun _ => ?_) (fun z => absurd z (by omega))
    refine pk_loop (fun n i s => wX_work_54 post w b n (nI i) a1 s a3 a4 a5 a6 a7 a8 a9 a10 a11 a12) (fun i s => (∀ j, j < 3 → s j = rl_z (rl_u N j x y)) ∧ ∀ j, j < i → s (3 + j) = rl_z (rl_s2 N j x y 3)) 2 0 s (by omega) ⟨h, fun j hj => absurd hj (by omega)⟩ ?_ ?_
    · intro n s h
      refine pk_le 2 2 (fun _ => nm_r (hN 19) (rl_w153 hN B1 h.2 (H _ ?_))) (fun z => absurd z (by omega))
      intro j hj
      by_cases e5 : j = 5
      · rw [e5, pk_us, rl_v2]
      · rw [pk_un e5]
        by_cases e3 : j < 3
        · rw [h.1 j e3, rl_v0 N e3]
        · obtain ⟨m, rfl⟩ : ∃ m, j = 3 + m := ⟨j - 3, by omega⟩
          rw [h.2 m (by omega), rl_v1 N (by omega)]
    · intro n i s hi h hw
      refine pk_le 2 i (fun z => absurd z (by omega)) (fun _ => ⟨pk_in (15 + i) 20 (by omega) (nI_add 15 i), nm_r (e' := rl_z (N (15 + i))) (by rw [rl_cadd 15 (by omega), hN]) (rl_w73 hi hN B0 h.1 (hw _ ⟨?_, ?_⟩))⟩)
      · intro j hj
        rw [pk_un (by omega)]
        exact h.1 j hj
      · intro j hj
        by_cases e : j = i
        · rw [e, pk_us]
        · rw [pk_un (by omega)]
          exact h.2 j (by omega)
  · intro n i s hi h hw
    refine pk_le 3 i (fun z => absurd z (by omega)) (fun _ => ⟨pk_in (2 * i) 20 (by omega) (rl_i2 i), pk_in (2 * i + 1) 20 (by omega) (rl_i21 i), pk_in (6 + i) 20 (by omega) (nI_add 6 i), pk_in i 6 (by omega), nm_r (e' := upd s i (rl_z (rl_u N i x y))) ?_ (nm_r (nI_1 i) (hw _ ?_))⟩)
    · rw [rl_c2 (by omega), rl_c21 (by omega), rl_cadd 6 (by omega), rl_ck (by omega), hN, hN, hN, rl_mul, rl_mul, rl_add, rl_add]
      rfl
    · intro j hj
      by_cases e : j = i
      · rw [e, pk_us]
      · rw [pk_un e]
        exact h j (by omega)
end
end
section
/-! ===== range: all six sums over a box ===== -/
def rl_M (j : Nat) : Int := if j < 3 then 1700 else if j < 5 then 868700 else 295359700
def rl_A (N : Nat → Int) (l0 h0 l1 h1 : Int) (K : Nat) (a3 a4 a5 a6 a7 a8 : Nat → Int32) : Prop := ∀ j, j < K → rl_U (rl_M j) l0 h0 l1 h1 (rl_v N j) (a3 j) (a4 j) (a5 j) (a6 j) (a7 j) (a8 j)
abbrev rl_T : Type := (Nat → Int32) × (Nat → Int32) × (Nat → Int32) × (Nat → Int32) × (Nat → Int32) × (Nat → Int32)
theorem rl_Af {N : Nat → Int} {l0 h0 l1 h1 : Int} {K k : Nat} {a3 a4 a5 a6 a7 a8 c3 c4 c5 c6 c7 c8 : Nat → Int32} (h : rl_A N l0 h0 l1 h1 K a3 a4 a5 a6 a7 a8) (hk : K ≤ k) (hf : rl_fr k a3 a4 a5 a6 a7 a8 c3 c4 c5 c6 c7 c8) : rl_A N l0 h0 l1 h1 K c3 c4 c5 c6 c7 c8 := by
  intro j hj
  obtain ⟨e3, e4, e5, e6, e7, e8⟩ := hf j (by omega)
  rw [e3, e4, e5, e6, e7, e8]
  exact h j hj
theorem rl_As {N : Nat → Int} {l0 h0 l1 h1 : Int} {K : Nat} {a3 a4 a5 a6 a7 a8 c3 c4 c5 c6 c7 c8 : Nat → Int32} (h : rl_A N l0 h0 l1 h1 K a3 a4 a5 a6 a7 a8) (hf : rl_fr K a3 a4 a5 a6 a7 a8 c3 c4 c5 c6 c7 c8) {M : Int} (hM : M = rl_M K) {g : Int → Int → Int} (hg : ∀ x y, rl_v N K x y = g x y)
    (hU : rl_U M l0 h0 l1 h1 g (c3 K) (c4 K) (c5 K) (c6 K) (c7 K) (c8 K)) : rl_A N l0 h0 l1 h1 (K + 1) c3 c4 c5 c6 c7 c8 := by
  intro j hj
  by_cases e : j = K
  · subst e
    subst hM
    rw [show rl_v N j = g from funext (fun x => funext (fun y => hg x y))]
    exact hU
  · exact rl_Af h (Nat.le_refl K) hf j (by omega)
theorem rl_PM {M M' l0 h0 l1 h1 : Int} {g g' : Int → Int → Int} {v3 v4 v5 v6 v7 v8 : Int32} (h : rl_P M l0 h0 l1 h1 g v3 v4 v5 v6 v7 v8) (hM : M ≤ M') (hg : ∀ x y, g' x y = g x y) : rl_P M' l0 h0 l1 h1 g' v3 v4 v5 v6 v7 v8 := by
  obtain ⟨lo, hi, f0, f1, r, e3, e4, e5, e6, e7, ⟨b1, b2, b3, b4, b5⟩, q⟩ := h
  rw [show g' = g from funext (fun x => funext (fun y => hg x y))]
  exact ⟨lo, hi, f0, f1, r, e3, e4, e5, e6, e7, ⟨rl_Bm b1 hM, rl_Bm b2 hM, rl_Bm b3 hM, rl_Bm b4 hM, rl_Bm b5 hM⟩, q⟩
section
variable {w b : Int32} {a1 a2 a3 a4 a5 a6 a7 a8 a9 a10 a11 a12 : Nat → Int32}
theorem rl_bringX {post : St1 → Prop} {k i : Nat} {f : Int32} {F M M2 M' l0 h0 l1 h1 : Int} {g u g' : Int → Int → Int} (hf : f = rl_z F) (hk : k < 6) (hi : i < 6) (hF : rl_B 5 F) (hb : rl_bok l0 h0 l1 h1) (hM : M + 5 * M2 ≤ M') (hM2 : M2 < 2147483648)
    (hP : rl_P M l0 h0 l1 h1 g (a3 k) (a4 k) (a5 k) (a6 k) (a7 k) (a8 k)) (hU : rl_U M2 l0 h0 l1 h1 u (a3 i) (a4 i) (a5 i) (a6 i) (a7 i) (a8 i)) (hg : ∀ x y, g' x y = g x y + F * rl_r (u x y))
    (H : ∀ c3 c4 c5 c6 c7 c8, rl_fr k a3 a4 a5 a6 a7 a8 c3 c4 c5 c6 c7 c8 → rl_P M' l0 h0 l1 h1 g' (c3 k) (c4 k) (c5 k) (c6 k) (c7 k) (c8 k) → post (w, b, a1, a2, c3, c4, c5, c6, c7, c8, a9, a10, a11, a12)) :
    wpX_bring post (w, b, a1, a2, a3, a4, a5, a6, a7, a8, a9, a10, a11, a12) (nI k) (nI i) f := by
  subst hf
  exact rl_bringP hk hi hF hb hM hM2 hP hU (fun c3 c4 c5 c6 c7 c8 hf hp => H c3 c4 c5 c6 c7 c8 hf (rl_PM hp (Int.le_refl _) hg))
theorem rl_beginX {post : St1 → Prop} {k : Nat} {f : Int32} {O : Int} (hf : f = rl_z O) (hk : k < 6) (hO : rl_B 50 O) {l0 h0 l1 h1 : Int}
    (H : ∀ c3 c4 c5 c6 c7 c8, rl_fr k a3 a4 a5 a6 a7 a8 c3 c4 c5 c6 c7 c8 → rl_P 50 l0 h0 l1 h1 (fun _ _ => O) (c3 k) (c4 k) (c5 k) (c6 k) (c7 k) (c8 k) → post (w, b, a1, a2, c3, c4, c5, c6, c7, c8, a9, a10, a11, a12)) :
    wpX_begin post (w, b, a1, a2, a3, a4, a5, a6, a7, a8, a9, a10, a11, a12) (nI k) f := by
  subst hf
  exact rl_beginP hk hO H
theorem rl_r182 {post : St1 → Prop} {N : Nat → Int} {l0 h0 l1 h1 : Int} (hN : ∀ j, a1 j = rl_z (N j)) (hB : rl_NB N) (hb : rl_bok l0 h0 l1 h1) (hA : rl_A N l0 h0 l1 h1 5 a3 a4 a5 a6 a7 a8) (hP : rl_P 50 l0 h0 l1 h1 (fun _ _ => N 19) (a3 5) (a4 5) (a5 5) (a6 5) (a7 5) (a8 5))
    (H : ∀ c3 c4 c5 c6 c7 c8, rl_A N l0 h0 l1 h1 6 c3 c4 c5 c6 c7 c8 → post (w, b, a1, a2, c3, c4, c5, c6, c7, c8, a9, a10, a11, a12)) : ∃ n, wX_range_182 post (rl_z l0) (rl_z h0) (rl_z l1) (rl_z h1) n 3 w b a1 a2 a3 a4 a5 a6 a7 a8 a9 a10 a11 a12 := by
  refine pk_loop (σ := rl_T) (fun n j s => wX_range_182 post (rl_z l0) (rl_z h0) (rl_z l1) (rl_z h1) n (nI (3 + j)) w b a1 a2 s.1 s.2.1 s.2.2.1 s.2.2.2.1 s.2.2.2.2.1 s.2.2.2.2.2 a9 a10 a11 a12)
    (fun j s => rl_A N l0 h0 l1 h1 5 s.1 s.2.1 s.2.2.1 s.2.2.2.1 s.2.2.2.2.1 s.2.2.2.2.2 ∧ rl_P (50 + 4343500 * (j : Int)) l0 h0 l1 h1 (fun x y => rl_s3 N x y j) (s.1 5) (s.2.1 5) (s.2.2.1 5) (s.2.2.2.1 5) (s.2.2.2.2.1 5) (s.2.2.2.2.2 5)) 2 0 (a3, a4, a5, a6, a7, a8) (by omega) ⟨hA, rl_PM hP (by omega) (fun _ _ => rfl)⟩ ?_ ?_
  · intro n s h
    refine pk_le 5 5 (fun _ => ?_) (fun z => absurd z (by omega))
    refine rl_finishP (k := 5) (by omega) hb (by decide) h.2 (fun c3 c4 hf hU => ?_)
    exact H _ _ _ _ _ _ (rl_As h.1 hf (by decide) (fun x y => rl_v2 N x y) hU)
  · intro n j s hj h hw
    refine pk_le 5 (3 + j) (fun z => absurd z (by omega)) (fun _ => ⟨pk_in (14 + (3 + j)) 20 (by omega) (nI_add 14 (3 + j)), ?_⟩)
    refine rl_bringX (k := 5) (i := 3 + j) (F := N (17 + j)) (M' := 50 + 4343500 * ((j + 1 : Nat) : Int)) (g' := fun x y => rl_s3 N x y (j + 1)) ?_ (by omega) (by omega) (hB.2.2.2 (17 + j) (by omega) (by omega)) hb ?_ ?_ h.2 (h.1 (3 + j) (by omega)) ?_ (fun c3 c4 c5 c6 c7 c8 hf hp => nm_r (nI_1 (3 + j)) (hw (c3, c4, c5, c6, c7, c8) ⟨rl_Af h.1 (Nat.le_refl 5) hf, hp⟩))
    · rw [rl_cadd 14 (by omega), hN, show 14 + (3 + j) = 17 + j by omega]
    · rw [show rl_M (3 + j) = 868700 by unfold rl_M; rw [if_neg (by omega), if_pos (by omega)]]
      omega
    · rw [show rl_M (3 + j) = 868700 by unfold rl_M; rw [if_neg (by omega), if_pos (by omega)]]
      decide
    · intro x y
      rw [rl_v1 N (by omega)]
      rfl
theorem rl_r113 {post : St1 → Prop} {J : Int32 → Int32 → Int32 → (Nat → Int32) → (Nat → Int32) → (Nat → Int32) → (Nat → Int32) → (Nat → Int32) → (Nat → Int32) → (Nat → Int32) → (Nat → Int32) → (Nat → Int32) → (Nat → Int32) → (Nat → Int32) → (Nat → Int32) → Prop}
    {N : Nat → Int} {l0 h0 l1 h1 : Int} {k : Nat} (hk : k < 2) (hN : ∀ j, a1 j = rl_z (N j)) (hB : rl_NB N) (hb : rl_bok l0 h0 l1 h1) (hA : rl_A N l0 h0 l1 h1 (3 + k) a3 a4 a5 a6 a7 a8)
    (hP : rl_P 50 l0 h0 l1 h1 (fun _ _ => N (15 + k)) (a3 (3 + k)) (a4 (3 + k)) (a5 (3 + k)) (a6 (3 + k)) (a7 (3 + k)) (a8 (3 + k)))
    (H : ∀ c3 c4 c5 c6 c7 c8, rl_A N l0 h0 l1 h1 (3 + k + 1) c3 c4 c5 c6 c7 c8 → J (nI (3 + k + 1)) w b a1 a2 c3 c4 c5 c6 c7 c8 a9 a10 a11 a12) : ∃ n, wX_range_113 post J (rl_z l0) (rl_z h0) (rl_z l1) (rl_z h1) (nI (3 + k)) n 0 w b a1 a2 a3 a4 a5 a6 a7 a8 a9 a10 a11 a12 := by
  have m3 : rl_M (3 + k) = 868700 := by unfold rl_M; rw [if_neg (by omega), if_pos (by omega)]
  refine pk_loop (σ := rl_T) (fun n j s => wX_range_113 post J (rl_z l0) (rl_z h0) (rl_z l1) (rl_z h1) (nI (3 + k)) n (nI j) w b a1 a2 s.1 s.2.1 s.2.2.1 s.2.2.2.1 s.2.2.2.2.1 s.2.2.2.2.2 a9 a10 a11 a12)
    (fun j s => rl_A N l0 h0 l1 h1 (3 + k) s.1 s.2.1 s.2.2.1 s.2.2.2.1 s.2.2.2.2.1 s.2.2.2.2.2 ∧ rl_P (50 + 8500 * (j : Int)) l0 h0 l1 h1 (fun x y => rl_s2 N k x y j) (s.1 (3 + k)) (s.2.1 (3 + k)) (s.2.2.1 (3 + k)) (s.2.2.2.1 (3 + k)) (s.2.2.2.2.1 (3 + k)) (s.2.2.2.2.2 (3 + k))) 3 0 (a3, a4, a5, a6, a7, a8) (by omega) ⟨hA, rl_PM hP (by omega) (fun _ _ => rfl)⟩ ?_ ?_
  · intro n s h
    refine pk_le 3 3 (fun _ => ?_) (fun z => absurd z (by omega))
    refine rl_finishP (k := 3 + k) (by omega) hb (by decide) h.2 (fun c3 c4 hf hU => ?_)
    exact nm_r (nI_1 (3 + k)) (H _ _ _ _ _ _ (rl_As h.1 hf (by rw [m3]; decide) (fun x y => rl_v1 N hk x y) hU))
  · intro n j s hj h hw
    have e9 : (9 : Int32) + 3 * (nI (3 + k) - 3) + nI j = nI (9 + 3 * k + j) := by
      rw [show nI (3 + k) - 3 = nI k from (pk_sub (a := 3 + k) (b := 3) (by omega)).trans (by rw [show 3 + k - 3 = k by omega]), rl_i9]
    refine pk_le 3 j (fun z => absurd z (by omega)) (fun _ => ⟨pk_in (9 + 3 * k + j) 20 (by omega) e9, ?_⟩)
    refine rl_bringX (k := 3 + k) (i := j) (F := N (9 + 3 * k + j)) (M' := 50 + 8500 * ((j + 1 : Nat) : Int)) (g' := fun x y => rl_s2 N k x y (j + 1)) ?_ (by omega) (by omega) (hB.2.2.1 (9 + 3 * k + j) (by omega) (by omega)) hb ?_ ?_ h.2 (h.1 j (by omega)) ?_ (fun c3 c4 c5 c6 c7 c8 hf hp => nm_r (nI_1 j) (hw (c3, c4, c5, c6, c7, c8) ⟨rl_Af h.1 (Nat.le_refl _) hf, hp⟩))
    · rw [e9, rl_ck (by omega), hN]
    · rw [show rl_M j = 1700 from if_pos hj]
      omega
    · rw [show rl_M j = 1700 from if_pos hj]
      decide
    · intro x y
      rw [rl_v0 N hj]
      rfl
theorem rl_r88 {post : St1 → Prop} {N : Nat → Int} {l0 h0 l1 h1 : Int} (hN : ∀ j, a1 j = rl_z (N j)) (hB : rl_NB N) (hb : rl_bok l0 h0 l1 h1) (hA : rl_A N l0 h0 l1 h1 3 a3 a4 a5 a6 a7 a8)
    (H : ∀ c3 c4 c5 c6 c7 c8, rl_A N l0 h0 l1 h1 6 c3 c4 c5 c6 c7 c8 → post (w, b, a1, a2, c3, c4, c5, c6, c7, c8, a9, a10, a11, a12)) : ∃ n, wX_range_88 post (rl_z l0) (rl_z h0) (rl_z l1) (rl_z h1) n 3 w b a1 a2 a3 a4 a5 a6 a7 a8 a9 a10 a11 a12 := by
  refine pk_loop (σ := rl_T) (fun n j s => wX_range_88 post (rl_z l0) (rl_z h0) (rl_z l1) (rl_z h1) n (nI (3 + j)) w b a1 a2 s.1 s.2.1 s.2.2.1 s.2.2.2.1 s.2.2.2.2.1 s.2.2.2.2.2 a9 a10 a11 a12)
    (fun j s => rl_A N l0 h0 l1 h1 (3 + j) s.1 s.2.1 s.2.2.1 s.2.2.2.1 s.2.2.2.2.1 s.2.2.2.2.2) 2 0 (a3, a4, a5, a6, a7, a8) (by omega) hA ?_ ?_
  · intro n s h
    refine pk_le 5 5 (fun _ => ?_) (fun z => absurd z (by omega))
    exact rl_beginX (k := 5) (hN 19) (by omega) (hB.1 19 (by omega)) (fun c3 c4 c5 c6 c7 c8 hf hp => rl_r182 hN hB hb (rl_Af h (Nat.le_refl 5) hf) hp H)
  · intro n j s hj h hw
    refine pk_le 5 (3 + j) (fun z => absurd z (by omega)) (fun _ => ⟨pk_in (12 + (3 + j)) 20 (by omega) (nI_add 12 (3 + j)), ?_⟩)
    refine rl_beginX (k := 3 + j) (O := N (15 + j)) ?_ (by omega) (hB.1 (15 + j) (by omega)) (fun c3 c4 c5 c6 c7 c8 hf hp => rl_r113 hj hN hB hb (rl_Af h (Nat.le_refl _) hf) hp (fun d3 d4 d5 d6 d7 d8 hd => hw (d3, d4, d5, d6, d7, d8) hd))
    rw [rl_cadd 12 (by omega), hN, show 12 + (3 + j) = 15 + j by omega]
theorem rl_range {post : St1 → Prop} {N : Nat → Int} {l0 h0 l1 h1 : Int} (hN : ∀ j, a1 j = rl_z (N j)) (hB : rl_NB N) (hb : rl_bok l0 h0 l1 h1)
    (H : ∀ c3 c4 c5 c6 c7 c8, rl_A N l0 h0 l1 h1 6 c3 c4 c5 c6 c7 c8 → post (w, b, a1, a2, c3, c4, c5, c6, c7, c8, a9, a10, a11, a12)) : wpX_range post (w, b, a1, a2, a3, a4, a5, a6, a7, a8, a9, a10, a11, a12) (rl_z l0) (rl_z h0) (rl_z l1) (rl_z h1) := by
  refine pk_loop (σ := rl_T) (fun n j s => wX_range_3 post (rl_z l0) (rl_z h0) (rl_z l1) (rl_z h1) n (nI j) w b a1 a2 s.1 s.2.1 s.2.2.1 s.2.2.2.1 s.2.2.2.2.1 s.2.2.2.2.2 a9 a10 a11 a12)
    (fun j s => rl_A N l0 h0 l1 h1 j s.1 s.2.1 s.2.2.1 s.2.2.2.1 s.2.2.2.2.1 s.2.2.2.2.2) 3 0 (a3, a4, a5, a6, a7, a8) (by omega) (fun j hj => absurd hj (by omega)) ?_ ?_
  · intro n s h
    exact pk_le 3 3 (fun _ => rl_r88 hN hB hb h H) (fun z => absurd z (by omega))
  · intro n j s hj h hw
    obtain ⟨s3, s4, s5, s6, s7, s8⟩ := s
    have b5 := hB.2.1 (2 * j) (by omega)
    have b6 := hB.2.1 (2 * j + 1) (by omega)
    have b7 := hB.1 (6 + j) (by omega)
    refine pk_le 3 j (fun z => absurd z (by omega)) (fun _ => ⟨pk_in (2 * j) 20 (by omega) (rl_i2 j), pk_in j 6 (by omega), nm_r (e' := upd s5 j (rl_z (N (2 * j)))) (by rw [rl_c2 (by omega), rl_ck (by omega), hN])
      ⟨pk_in (2 * j + 1) 20 (by omega) (rl_i21 j), pk_in j 6 (by omega), nm_r (e' := upd s6 j (rl_z (N (2 * j + 1)))) (by rw [rl_c21 (by omega), rl_ck (by omega), hN])
      ⟨pk_in (6 + j) 20 (by omega) (nI_add 6 j), pk_in j 6 (by omega), nm_r (e' := upd s7 j (rl_z (N (6 + j)))) (by rw [rl_cadd 6 (by omega), rl_ck (by omega), hN])
      ⟨pk_in j 6 (by omega), nm_r (e' := upd s8 j 1) (by rw [rl_ck (by omega)]) ?_⟩⟩⟩⟩)
    refine rl_exact (k := j) (by omega) (rl_BR b5 (by decide)) (rl_BR b6 (by decide)) pk_us pk_us pk_us (nm_r (nI_1 j) (hw (_, _, _, _, _, _) ?_))
    refine rl_As h (fun i hi => ⟨pk_un hi, pk_un hi, pk_un hi, pk_un hi, pk_un hi, pk_un hi⟩) (M := 34 * 50) (by rw [show rl_M j = 1700 from if_pos hj]; decide) (fun x y => rl_v0 N hj x y) ?_
    refine ⟨_, _, N (2 * j), N (2 * j + 1), N (6 + j), pk_us.trans (by rw [← Int.add_zero (rl_lo _ _ _ _ _ _ _)]), pk_us.trans (by rw [← Int.add_zero (rl_hi _ _ _ _ _ _ _)]), pk_us, pk_us, pk_us, ?_⟩
    refine rl_fin hb ⟨⟨⟨by decide, by decide⟩, ⟨by decide, by decide⟩, rl_Bm b5 (by decide), rl_Bm b6 (by decide), b7⟩, ?_, fun _ => ⟨rfl, rfl⟩, fun _ _ => ?_⟩
    · intro x y _ _ _ _
      unfold rl_u
      omega
    · show upd s8 j 1 j ≠ 0
      rw [pk_us]
      decide
end
end
section
/-! ===== boxes (left, right, bottom, top), the stack of boxes ===== -/
abbrev rl_Bx : Type := Int × Int × Int × Int
def rl_at (a9 a10 a11 a12 : Nat → Int32) (k : Nat) (B : rl_Bx) : Prop := a9 k = rl_z B.1 ∧ a10 k = rl_z B.2.1 ∧ a11 k = rl_z B.2.2.1 ∧ a12 k = rl_z B.2.2.2
def rl_bk (B : rl_Bx) : Prop := rl_bok B.1 B.2.1 B.2.2.1 B.2.2.2
def rl_in (B : rl_Bx) (x y : Int) : Prop := B.1 ≤ x ∧ x ≤ B.2.1 ∧ B.2.2.1 ≤ y ∧ y ≤ B.2.2.2
def rl_dp (B : rl_Bx) (d : Nat) : Prop := ∃ p q : Nat, B.2.1 - B.1 < 2 ^ p ∧ B.2.2.2 - B.2.2.1 < 2 ^ q ∧ d + p + q ≤ 10
def rl_ar (B : rl_Bx) : Int := (B.2.1 - B.1 + 1) * (B.2.2.2 - B.2.2.1 + 1)
def rl_stk (a9 a10 a11 a12 : Nat → Int32) : List rl_Bx → Prop
  | [] => True
  | B :: t => rl_at a9 a10 a11 a12 t.length B ∧ rl_bk B ∧ rl_dp B t.length ∧ rl_stk a9 a10 a11 a12 t
def rl_mu : List rl_Bx → Int
  | [] => 0
  | B :: t => (2 * rl_ar B - 1) + rl_mu t
theorem rl_stkf {a9 a10 a11 a12 c9 c10 c11 c12 : Nat → Int32} : ∀ t : List rl_Bx, (∀ j, j < t.length → c9 j = a9 j ∧ c10 j = a10 j ∧ c11 j = a11 j ∧ c12 j = a12 j) → rl_stk a9 a10 a11 a12 t → rl_stk c9 c10 c11 c12 t := by
  intro t
  induction t with
  | nil => exact fun _ _ => trivial
  | cons B t ih =>
    intro hf h
    obtain ⟨⟨p1, p2, p3, p4⟩, h2, h3, h4⟩ := h
    obtain ⟨q1, q2, q3, q4⟩ := hf t.length (Nat.lt_succ_self _)
    exact ⟨⟨q1.trans p1, q2.trans p2, q3.trans p3, q4.trans p4⟩, h2, h3, ih (fun j hj => hf j (Nat.lt_succ_of_lt hj)) h4⟩
theorem rl_wh {m n : Int} (h1 : 1 ≤ m) (h2 : 1 ≤ n) : 1 ≤ m * n := by
  have e := Int.mul_nonneg (show 0 ≤ m - 1 by omega) (show 0 ≤ n - 1 by omega)
  simp only [Int.sub_mul, Int.mul_sub, Int.one_mul, Int.mul_one] at e
  omega
theorem rl_ar1 {B : rl_Bx} (h : rl_bk B) : 1 ≤ rl_ar B := by
  obtain ⟨_, h2, _, _, h5, _⟩ := h
  exact rl_wh (by omega) (by omega)
theorem rl_ar2 {B : rl_Bx} (h : rl_bk B) : rl_ar B ≤ 1024 := by
  obtain ⟨h1, h2, h3, h4, h5, h6⟩ := h
  exact (rl_Bmul (A := 32) (X := 32) ⟨by omega, by omega⟩ ⟨by omega, by omega⟩).2
theorem rl_mu0 {a9 a10 a11 a12 : Nat → Int32} : ∀ t : List rl_Bx, rl_stk a9 a10 a11 a12 t → 0 ≤ rl_mu t := by
  intro t
  induction t with
  | nil => exact fun _ => Int.le_refl 0
  | cons B t ih =>
    intro h
    have e := rl_ar1 h.2.1
    have e2 := ih h.2.2.2
    show 0 ≤ (2 * rl_ar B - 1) + rl_mu t
    omega
/-- a box and its halves -/
def rl_sp (B A C : rl_Bx) : Prop :=
  (B.1 < B.2.1 ∧ A = (B.1, (B.1 + B.2.1) / 2, B.2.2.1, B.2.2.2) ∧ C = ((B.1 + B.2.1) / 2 + 1, B.2.1, B.2.2.1, B.2.2.2)) ∨
  (B.2.2.1 < B.2.2.2 ∧ A = (B.1, B.2.1, B.2.2.1, (B.2.2.1 + B.2.2.2) / 2) ∧ C = (B.1, B.2.1, (B.2.2.1 + B.2.2.2) / 2 + 1, B.2.2.2))
theorem rl_spk {B A C : rl_Bx} (h : rl_sp B A C) (hb : rl_bk B) : rl_bk A ∧ rl_bk C := by
  obtain ⟨l, r, d, t⟩ := B
  obtain ⟨h1, h2, h3, h4, h5, h6⟩ := hb
  rcases h with ⟨e, rfl, rfl⟩ | ⟨e, rfl, rfl⟩
  · dsimp only at *
    refine ⟨⟨?_, ?_, ?_, ?_, ?_, ?_⟩, ⟨?_, ?_, ?_, ?_, ?_, ?_⟩⟩ <;> dsimp only <;> omega
  · dsimp only at *
    refine ⟨⟨?_, ?_, ?_, ?_, ?_, ?_⟩, ⟨?_, ?_, ?_, ?_, ?_, ?_⟩⟩ <;> dsimp only <;> omega
theorem rl_spi {B A C : rl_Bx} (h : rl_sp B A C) {x y : Int} (hi : rl_in B x y) : rl_in A x y ∨ rl_in C x y := by
  obtain ⟨l, r, d, t⟩ := B
  obtain ⟨h1, h2, h3, h4⟩ := hi
  rcases h with ⟨e, rfl, rfl⟩ | ⟨e, rfl, rfl⟩
  · dsimp only at *
    by_cases p : x ≤ (l + r) / 2
    · exact Or.inl ⟨h1, p, h3, h4⟩
    · exact Or.inr ⟨by dsimp only; omega, h2, h3, h4⟩
  · dsimp only at *
    by_cases p : y ≤ (d + t) / 2
    · exact Or.inl ⟨h1, h2, h3, p⟩
    · exact Or.inr ⟨h1, h2, by dsimp only; omega, h4⟩
theorem rl_spA {B A C : rl_Bx} (h : rl_sp B A C) {x y : Int} (hi : rl_in A x y) : rl_in B x y := by
  obtain ⟨l, r, d, t⟩ := B
  rcases h with ⟨e, rfl, rfl⟩ | ⟨e, rfl, rfl⟩
  · obtain ⟨h1, h2, h3, h4⟩ := hi
    dsimp only at *
    exact ⟨h1, by dsimp only; omega, h3, h4⟩
  · obtain ⟨h1, h2, h3, h4⟩ := hi
    dsimp only at *
    exact ⟨h1, h2, h3, by dsimp only; omega⟩
theorem rl_spC {B A C : rl_Bx} (h : rl_sp B A C) {x y : Int} (hi : rl_in C x y) : rl_in B x y := by
  obtain ⟨l, r, d, t⟩ := B
  rcases h with ⟨e, rfl, rfl⟩ | ⟨e, rfl, rfl⟩
  · obtain ⟨h1, h2, h3, h4⟩ := hi
    dsimp only at *
    exact ⟨by dsimp only; omega, h2, h3, h4⟩
  · obtain ⟨h1, h2, h3, h4⟩ := hi
    dsimp only at *
    exact ⟨h1, h2, by dsimp only; omega, h4⟩
theorem rl_spr {B A C : rl_Bx} (h : rl_sp B A C) : rl_ar A + rl_ar C = rl_ar B := by
  obtain ⟨l, r, d, t⟩ := B
  rcases h with ⟨e, rfl, rfl⟩ | ⟨e, rfl, rfl⟩
  · unfold rl_ar
    dsimp only
    rw [← Int.add_mul]
    congr 1
    omega
  · unfold rl_ar
    dsimp only
    rw [← Int.mul_add]
    congr 1
    omega
theorem rl_p2 {z : Int} {p : Nat} (h1 : 0 < z) (h : z < 2 ^ p) : ∃ q, p = q + 1 ∧ z < 2 * 2 ^ q := by
  cases p with
  | zero =>
    rw [Int.pow_zero] at h
    omega
  | succ q => exact ⟨q, rfl, by rw [Int.pow_succ] at h; omega⟩
theorem rl_spd {B A C : rl_Bx} {d : Nat} (h : rl_sp B A C) (hd : rl_dp B d) : rl_dp A (d + 1) ∧ rl_dp C d ∧ d + 1 ≤ 10 := by
  obtain ⟨l, r, bb, t⟩ := B
  obtain ⟨p, q, e1, e2, e3⟩ := hd
  dsimp only at e1 e2
  rcases h with ⟨e, rfl, rfl⟩ | ⟨e, rfl, rfl⟩
  · dsimp only at e
    obtain ⟨p', rfl, e4⟩ := rl_p2 (by omega) e1
    refine ⟨⟨p', q, ?_, e2, by omega⟩, ⟨p', q, ?_, e2, by omega⟩, by omega⟩
    · dsimp only
      omega
    · dsimp only
      omega
  · dsimp only at e
    obtain ⟨q', rfl, e4⟩ := rl_p2 (by omega) e2
    refine ⟨⟨p, q', e1, ?_, by omega⟩, ⟨p, q', e1, ?_, by omega⟩, by omega⟩
    · dsimp only
      omega
    · dsimp only
      omega
/-- the stack behind a cut -/
theorem rl_stkc {a9 a10 a11 a12 c9 c10 c11 c12 : Nat → Int32} {B A C : rl_Bx} {t : List rl_Bx} (h : rl_stk a9 a10 a11 a12 (B :: t)) (hs : rl_sp B A C) (hA : rl_at c9 c10 c11 c12 (t.length + 1) A) (hC : rl_at c9 c10 c11 c12 t.length C)
    (hf : ∀ j, j < t.length → c9 j = a9 j ∧ c10 j = a10 j ∧ c11 j = a11 j ∧ c12 j = a12 j) : rl_stk c9 c10 c11 c12 (A :: C :: t) := by
  obtain ⟨_, hk, hd, ht⟩ := h
  obtain ⟨k1, k2⟩ := rl_spk hs hk
  obtain ⟨d1, d2, _⟩ := rl_spd hs hd
  exact ⟨hA, k1, d1, hC, k2, d2, rl_stkf t hf ht⟩
theorem rl_muc {B A C : rl_Bx} {t : List rl_Bx} (hs : rl_sp B A C) : rl_mu (A :: C :: t) + 1 = rl_mu (B :: t) := by
  have e := rl_spr hs
  show (2 * rl_ar A - 1) + ((2 * rl_ar C - 1) + rl_mu t) + 1 = (2 * rl_ar B - 1) + rl_mu t
  omega
/-! ===== codes of intervals ===== -/
def rl_cd (l h : Int) : Int32 := rl_z (32 * (l + 16) + h + 16)
theorem rl_cdn {l h : Int} (h1 : -16 ≤ l) (h2 : l ≤ 15) (h3 : -16 ≤ h) (h4 : h ≤ 15) : ∃ p q : Nat, p < 32 ∧ q < 32 ∧ l = (p : Int) - 16 ∧ h = (q : Int) - 16 ∧ rl_cd l h = nI (32 * p + q) := by
  refine ⟨(l + 16).toNat, (h + 16).toNat, by omega, by omega, by omega, by omega, ?_⟩
  rw [rl_nat, rl_cd]
  congr 1
  omega
theorem rl_m16 (p : Nat) : nI p - 16 = rl_z ((p : Int) - 16) := by
  rw [rl_nat]
  exact rl_sub p 16
theorem rl_shr5 {p q : Nat} (hp : p < 32) (hq : q < 32) : nI (32 * p + q) >>> ((5 : Int32) &&& 31) = nI p := by
  rw [pk_shrN (by omega) _ 5 (by decide)]
  congr 1
  omega
theorem rl_and5 {p q : Nat} (hp : p < 32) (hq : q < 32) : nI (32 * p + q) &&& 31 = nI q := by
  rw [pk_andN (by omega) 5 (by decide)]
  congr 1
  omega
theorem rl_cdh {l h : Int} (h1 : -16 ≤ l) (h2 : l ≤ 15) (h3 : -16 ≤ h) (h4 : h ≤ 15) : (rl_cd l h >>> ((5 : Int32) &&& 31)) - 16 = rl_z l := by
  obtain ⟨p, q, hp, hq, rfl, rfl, e⟩ := rl_cdn h1 h2 h3 h4
  rw [e, rl_shr5 hp hq, rl_m16]
theorem rl_cdl {l h : Int} (h1 : -16 ≤ l) (h2 : l ≤ 15) (h3 : -16 ≤ h) (h4 : h ≤ 15) : (rl_cd l h &&& 31) - 16 = rl_z h := by
  obtain ⟨p, q, hp, hq, rfl, rfl, e⟩ := rl_cdn h1 h2 h3 h4
  rw [e, rl_and5 hp hq, rl_m16]
theorem rl_isInterval {post : Int32 → Prop} {l h : Int} (h1 : -16 ≤ l) (h2 : l ≤ h) (h4 : h ≤ 15) (H : post 1) : wpX_isInterval post () (rl_cd l h) := by
  obtain ⟨p, q, hp, hq, rfl, rfl, e⟩ := rl_cdn h1 (by omega) (by omega) h4
  rw [e]
  unfold wpX_isInterval
  rw [rl_shr5 hp hq, rl_and5 hp hq]
  exact br_f (nI_pos (by omega)) (br_f (nI_nlt (a := 1023) (by omega) (by omega)) (br_f (nI_nlt (by omega) (by omega)) H))
theorem rl_half {z : Int} (h : rl_R z) : rl_z z >>> ((1 : Int32) &&& 31) = rl_z (z / 2) := by
  apply Int32.toInt_inj.mp
  rw [pk_shr (rl_z z) _ 1 (by decide), rl_ti h, rl_ti ⟨by have := h.1; omega, by have := h.2; omega⟩, Int.shiftRight_eq_div_pow]
  rfl
/-! ===== the first box, isPoint, cut ===== -/
section
variable {w b : Int32} {a1 a2 a3 a4 a5 a6 a7 a8 a9 a10 a11 a12 : Nat → Int32}
theorem rl_open {post : St1 → Prop} {B : rl_Bx} (hb : rl_bk B) (H : ∀ c9 c10 c11 c12, rl_at c9 c10 c11 c12 0 B → rl_stk c9 c10 c11 c12 [B] → post (1, b, a1, a2, a3, a4, a5, a6, a7, a8, c9, c10, c11, c12)) :
    wpX_open post (w, b, a1, a2, a3, a4, a5, a6, a7, a8, a9, a10, a11, a12) (rl_cd B.1 B.2.1) (rl_cd B.2.2.1 B.2.2.2) := by
  obtain ⟨h1, h2, h3, h4, h5, h6⟩ := hb
  refine nm_r (congrArg (upd a9 0) (rl_cdh h1 (by omega) (by omega) h3)) (nm_r (congrArg (upd a10 0) (rl_cdl h1 (by omega) (by omega) h3)) (nm_r (congrArg (upd a11 0) (rl_cdh h4 (by omega) (by omega) h6)) (nm_r (congrArg (upd a12 0) (rl_cdl h4 (by omega) (by omega) h6)) ?_)))
  have e : rl_at (upd a9 0 (rl_z B.1)) (upd a10 0 (rl_z B.2.1)) (upd a11 0 (rl_z B.2.2.1)) (upd a12 0 (rl_z B.2.2.2)) 0 B := ⟨pk_us, pk_us, pk_us, pk_us⟩
  exact H _ _ _ _ e ⟨e, ⟨h1, h2, h3, h4, h5, h6⟩, ⟨5, 5, by omega, by omega, by decide⟩, trivial⟩
theorem rl_isPoint {post : Int32 → Prop} {k : Nat} {B : rl_Bx} (hk : k < 16) (ha : rl_at a9 a10 a11 a12 k B) (hb : rl_bk B) (H1 : B.1 = B.2.1 → B.2.2.1 = B.2.2.2 → post 1) (H0 : ¬ (B.1 = B.2.1 ∧ B.2.2.1 = B.2.2.2) → post 0) :
    wpX_isPoint post (w, b, a1, a2, a3, a4, a5, a6, a7, a8, a9, a10, a11, a12) (nI k) := by
  obtain ⟨e9, e10, e11, e12⟩ := ha
  obtain ⟨h1, h2, h3, h4, h5, h6⟩ := hb
  unfold wpX_isPoint
  dsimp only
  rw [rl_ck (by omega), e9, e10, e11, e12]
  exact ⟨pk_in k 16 hk, pk_in k 16 hk, rl_beq B.1 B.2.1 ⟨by omega, by omega⟩ ⟨by omega, by omega⟩ (fun p => ⟨pk_in k 16 hk, pk_in k 16 hk, rl_beq B.2.2.1 B.2.2.2 ⟨by omega, by omega⟩ ⟨by omega, by omega⟩ (fun q => H1 p q) (fun q => H0 (fun t => q t.2))⟩) (fun p => H0 (fun t => p t.1))⟩
theorem rl_cut {post : St1 → Prop} {k : Nat} {B : rl_Bx} (hk : k + 1 < 16) (ha : rl_at a9 a10 a11 a12 k B) (hb : rl_bk B) (hn : ¬ (B.1 = B.2.1 ∧ B.2.2.1 = B.2.2.2))
    (H : ∀ A C c9 c10 c11 c12, rl_sp B A C → rl_at c9 c10 c11 c12 (k + 1) A → rl_at c9 c10 c11 c12 k C → (∀ j, j < k → c9 j = a9 j ∧ c10 j = a10 j ∧ c11 j = a11 j ∧ c12 j = a12 j) → post (nI (k + 2), b, a1, a2, a3, a4, a5, a6, a7, a8, c9, c10, c11, c12)) :
    wpX_cut post (w, b, a1, a2, a3, a4, a5, a6, a7, a8, a9, a10, a11, a12) (nI k) := by
  obtain ⟨l, r, d, t⟩ := B
  obtain ⟨e9, e10, e11, e12⟩ := ha
  obtain ⟨h1, h2, h3, h4, h5, h6⟩ := hb
  dsimp only at e9 e10 e11 e12 h1 h2 h3 h4 h5 h6 hn
  have ck : (nI k).toNatClampNeg = k := rl_ck (by omega)
  have c1 : (nI k + 1).toNatClampNeg = k + 1 := by rw [nI_1]; exact rl_ck (by omega)
  have i0 : vp_in (nI k) 16 := pk_in k 16 (by omega)
  have i1 : vp_in (nI k + 1) 16 := pk_in (k + 1) 16 (by omega) (nI_1 k)
  have n1 : ¬ (1 : Int32) = 0 := by decide
  have k2 : nI k + 2 = nI (k + 2) := nI_add k 2
  unfold wpX_cut
  dsimp only
  rw [ck, e9, e10]
  refine ⟨i0, i0, rl_ble r l ⟨by omega, by omega⟩ ⟨by omega, by omega⟩ (fun p => ?_) (fun p => ?_)⟩
  · have elr : l = r := by omega
    subst elr
    have hdt : d < t := by omega
    have hm : (rl_z d + rl_z t) >>> ((1 : Int32) &&& 31) = rl_z ((d + t) / 2) := by
      rw [rl_add]
      exact rl_half ⟨by omega, by omega⟩
    have j1 : rl_z ((d + t) / 2) + 1 = rl_z ((d + t) / 2 + 1) := rl_add _ 1
    refine br_t rfl (And.intro i0 (And.intro i0 ?_))
    rw [ck, e11, e12]
    refine rl_beq d t ⟨by omega, by omega⟩ ⟨by omega, by omega⟩ (fun q => absurd q (by omega)) (fun q => ?_)
    refine br_t rfl (And.intro i0 (br_t rfl (And.intro i0 ?_)))
    rw [ck, e11, e12]
    refine nm_r hm (And.intro i0 (And.intro i1 (nm_r (e' := upd a9 (k + 1) (rl_z l)) (by rw [c1, ck, e9]) (br_t rfl (And.intro i0 ?_)))))
    rw [ck, e10]
    refine And.intro i1 (nm_r (e' := upd a10 (k + 1) (rl_z l)) (by rw [c1]) (And.intro i0 (And.intro i1 (nm_r (e' := upd a11 (k + 1) (rl_z d)) (by rw [c1, ck, e11]) (br_t rfl ?_)))))
    refine And.intro i1 (nm_r (e' := upd a12 (k + 1) (rl_z ((d + t) / 2))) (by rw [c1]) (br_t rfl (And.intro i0 ?_)))
    rw [ck, pk_un (by omega), e9]
    refine And.intro i0 (nm_r (e' := upd (upd a9 (k + 1) (rl_z l)) k (rl_z l)) (by rw [ck]) (br_t rfl (And.intro i0 (nm_r (e' := upd (upd a11 (k + 1) (rl_z d)) k (rl_z ((d + t) / 2 + 1))) (by rw [ck, j1]) (nm_r k2 ?_)))))
    refine H (l, l, d, (d + t) / 2) (l, l, (d + t) / 2 + 1, t) _ _ _ _ (Or.inr ⟨hdt, rfl, rfl⟩) ⟨?_, pk_us, ?_, pk_us⟩ ⟨pk_us, ?_, pk_us, ?_⟩ ?_
    · rw [pk_un (by omega), pk_us]
    · rw [pk_un (by omega), pk_us]
    · rw [pk_un (by omega), e10]
    · rw [pk_un (by omega), e12]
    · intro j hj
      exact ⟨by rw [pk_un (by omega), pk_un (by omega)], by rw [pk_un (by omega)], by rw [pk_un (by omega), pk_un (by omega)], by rw [pk_un (by omega)]⟩
  · have hm : (rl_z l + rl_z r) >>> ((1 : Int32) &&& 31) = rl_z ((l + r) / 2) := by
      rw [rl_add]
      exact rl_half ⟨by omega, by omega⟩
    have j1 : rl_z ((l + r) / 2) + 1 = rl_z ((l + r) / 2 + 1) := rl_add _ 1
    refine br_f n1 (br_f n1 (And.intro i0 (br_f n1 (And.intro i0 ?_))))
    rw [ck, e9, e10]
    refine nm_r hm (And.intro i0 (And.intro i1 (nm_r (e' := upd a9 (k + 1) (rl_z l)) (by rw [c1, ck, e9]) (br_f n1 ?_))))
    refine And.intro i1 (nm_r (e' := upd a10 (k + 1) (rl_z ((l + r) / 2))) (by rw [c1]) (And.intro i0 (And.intro i1 (nm_r (e' := upd a11 (k + 1) (rl_z d)) (by rw [c1, ck, e11]) (br_f n1 (And.intro i0 ?_))))))
    rw [ck, e12]
    refine And.intro i1 (nm_r (e' := upd a12 (k + 1) (rl_z t)) (by rw [c1]) (br_f n1 ?_))
    refine And.intro i0 (nm_r (e' := upd (upd a9 (k + 1) (rl_z l)) k (rl_z ((l + r) / 2 + 1))) (by rw [ck, j1]) (br_f n1 (And.intro i0 (And.intro i0 (nm_r (e' := upd (upd a11 (k + 1) (rl_z d)) k (rl_z d)) (by rw [ck, pk_un (by omega), e11]) (nm_r k2 ?_))))))
    refine H (l, (l + r) / 2, d, t) ((l + r) / 2 + 1, r, d, t) _ _ _ _ (Or.inl ⟨p, rfl, rfl⟩) ⟨?_, pk_us, ?_, pk_us⟩ ⟨pk_us, ?_, pk_us, ?_⟩ ?_
    · rw [pk_un (by omega), pk_us]
    · rw [pk_un (by omega), pk_us]
    · rw [pk_un (by omega), e10]
    · rw [pk_un (by omega), e12]
    · intro j hj
      exact ⟨by rw [pk_un (by omega), pk_un (by omega)], by rw [pk_un (by omega)], by rw [pk_un (by omega), pk_un (by omega)], by rw [pk_un (by omega)]⟩
end
end
section
/-! ===== the searches over the stack: extreme, firstAbove, patterns ===== -/
theorem rl_Ml (j : Nat) : rl_M j < 2147483648 := by
  unfold rl_M
  split
  · decide
  · split <;> decide
/-- the greatest value of a sum (or of its negative) over a box -/
def rl_top (N : Nat → Int) (u : Nat) (σ : Int) (B : rl_Bx) (β : Int) : Prop := (∃ x y, rl_in B x y ∧ σ * rl_v N u x y = β) ∧ ∀ x y, rl_in B x y → σ * rl_v N u x y ≤ β
theorem rl_inB2 {B : rl_Bx} (hb : rl_bk B) {x y : Int} (h : rl_in B x y) : rl_B 16 x ∧ rl_B 16 y := by
  obtain ⟨h1, h2, h3, h4, h5, h6⟩ := hb
  obtain ⟨p1, p2, p3, p4⟩ := h
  exact ⟨⟨by omega, by omega⟩, ⟨by omega, by omega⟩⟩
theorem rl_topR {N : Nat → Int} (hB : rl_NB N) {u : Nat} {σ : Int} (hσ : σ = 1 ∨ σ = -1) {B : rl_Bx} (hb : rl_bk B) {β : Int} (h : ∃ x y, rl_in B x y ∧ σ * rl_v N u x y = β) : rl_B 32050 β := by
  obtain ⟨x, y, hi, rfl⟩ := h
  obtain ⟨hx, hy⟩ := rl_inB2 hb hi
  obtain ⟨p, q⟩ := rl_vB hB u hx hy
  rcases hσ with rfl | rfl
  · exact ⟨by omega, by omega⟩
  · exact ⟨by omega, by omega⟩
/-- at a point both ends are one -/
theorem rl_pt {M : Int} {B : rl_Bx} {g : Int → Int → Int} {lo hi f0 f1 r : Int} {lin : Int32} (h : rl_UB M B.1 B.2.1 B.2.2.1 B.2.2.2 g lo hi f0 f1 r lin) (p : B.1 = B.2.1) (q : B.2.2.1 = B.2.2.2) : g B.1 B.2.2.1 = lo ∧ g B.1 B.2.2.1 = hi := by
  obtain ⟨_, ⟨x, y, x1, x2, y1, y2, e⟩, ⟨x', y', x1', x2', y1', y2', e'⟩⟩ := h.2.2.1 (h.2.2.2 p q)
  have ex : x = B.1 := by omega
  have ey : y = B.2.2.1 := by omega
  have ex' : x' = B.1 := by omega
  have ey' : y' = B.2.2.1 := by omega
  rw [ex, ey] at e
  rw [ex', ey'] at e'
  exact ⟨e, e'⟩
theorem rl_cdz (l d : Int) : ((32 * (rl_z l + 16)) + rl_z d) + 16 = rl_cd l d := by
  show (rl_z 32 * (rl_z l + rl_z 16) + rl_z d) + rl_z 16 = rl_z (32 * (l + 16) + d + 16)
  rw [rl_add, rl_mul, rl_add, rl_add]
section
variable {w b : Int32} {a1 a2 a3 a4 a5 a6 a7 a8 a9 a10 a11 a12 : Nat → Int32}
theorem rl_x122 {post : Int32 → St1 → Prop} {J : Int32 → Int32 → Int32 → (Nat → Int32) → (Nat → Int32) → (Nat → Int32) → (Nat → Int32) → (Nat → Int32) → (Nat → Int32) → (Nat → Int32) → (Nat → Int32) → (Nat → Int32) → (Nat → Int32) → (Nat → Int32) → (Nat → Int32) → Prop}
    {u s k : Nat} {sg : Int32} {bd β : Int} {B : rl_Bx} (hu : u < 6) (hk : k + 1 < 16) (hbd : rl_R bd) (hβ : rl_R β) (ha : rl_at a9 a10 a11 a12 k B) (hb : rl_bk B) (hpt : B.1 = B.2.1 → B.2.2.1 = B.2.2.2 → a8 u ≠ 0)
    (Hno : bd ≤ β → J (nI (s + 1)) (nI k) (rl_z β) a1 a2 a3 a4 a5 a6 a7 a8 a9 a10 a11 a12) (Hyes : β < bd → a8 u ≠ 0 → J (nI (s + 1)) (nI k) (rl_z bd) a1 a2 a3 a4 a5 a6 a7 a8 a9 a10 a11 a12)
    (Hcut : β < bd → ∀ A C c9 c10 c11 c12, rl_sp B A C → rl_at c9 c10 c11 c12 (k + 1) A → rl_at c9 c10 c11 c12 k C → (∀ j, j < k → c9 j = a9 j ∧ c10 j = a10 j ∧ c11 j = a11 j ∧ c12 j = a12 j) → J (nI (s + 1)) (nI (k + 2)) (rl_z β) a1 a2 a3 a4 a5 a6 a7 a8 c9 c10 c11 c12) :
    wX_extreme_122 post J (nI u) sg (nI s) (nI k) (rl_z bd) (nI k) (rl_z β) a1 a2 a3 a4 a5 a6 a7 a8 a9 a10 a11 a12 := by
  unfold wX_extreme_122
  rw [rl_ck (show u < 2048 by omega)]
  refine rl_ble bd β hbd hβ (fun p => nm_r (nI_1 s) (Hno p)) (fun p => ⟨pk_in u 6 hu, br_c (fun z => ?_) (fun z => nm_r (nI_1 s) (Hyes p z))⟩)
  refine rl_isPoint (by omega) ha hb (fun q q2 => absurd z (hpt q q2)) (fun q => ?_)
  exact br_t rfl (rl_cut hk ha hb q (fun A C c9 c10 c11 c12 hs hA hC hf => nm_r (nI_1 s) (Hcut p A C c9 c10 c11 c12 hs hA hC hf)))
theorem rl_x38 {post : Int32 → St1 → Prop} {N : Nat → Int} (hN : ∀ j, a1 j = rl_z (N j)) (hB : rl_NB N) {u : Nat} (hu : u < 6) {σ : Int} (hσ : σ = 1 ∨ σ = -1) {B0 : rl_Bx} (hB0 : rl_bk B0)
    (H : ∀ (β : Int) (wc : Int32) (c3 c4 c5 c6 c7 c8 c9 c10 c11 c12 : Nat → Int32), rl_top N u σ B0 β → post (rl_z β) (wc, rl_z β, a1, a2, c3, c4, c5, c6, c7, c8, c9, c10, c11, c12)) :
    ∀ (n s : Nat) (T : List rl_Bx) (β : Int) (a3 a4 a5 a6 a7 a8 a9 a10 a11 a12 : Nat → Int32), 2048 < n + s → (s : Int) + rl_mu T ≤ 2047 → rl_stk a9 a10 a11 a12 T → (∀ B, B ∈ T → ∀ x y, rl_in B x y → rl_in B0 x y) →
      (∃ x y, rl_in B0 x y ∧ σ * rl_v N u x y = β) → (∀ x y, rl_in B0 x y → σ * rl_v N u x y ≤ β ∨ ∃ B, B ∈ T ∧ rl_in B x y) → wX_extreme_38 post (nI u) (rl_z σ) n (nI s) (nI T.length) (rl_z β) a1 a2 a3 a4 a5 a6 a7 a8 a9 a10 a11 a12 := by
  intro n
  induction n with
  | zero =>
    intro s T β a3 a4 a5 a6 a7 a8 a9 a10 a11 a12 hn hm hst
    exact absurd (rl_mu0 T hst) (by omega)
  | succ n ih =>
    intro s T β a3 a4 a5 a6 a7 a8 a9 a10 a11 a12 hn hm hst hsub hat hcov
    have hs : s ≤ 2047 := by
      have := rl_mu0 T hst
      omega
    cases T with
    | nil =>
      refine pk_le 2048 s (fun z => absurd z (by omega)) (fun _ => pk_le 0 0 (fun _ => H β _ _ _ _ _ _ _ _ _ _ _ ⟨hat, fun x y hi => ?_⟩) (fun z => absurd z (by omega)))
      rcases hcov x y hi with e | ⟨B, hB, _⟩
      · exact e
      · exact absurd hB (List.not_mem_nil)
    | cons B t =>
      have hst' := hst
      obtain ⟨⟨e9, e10, e11, e12⟩, hbk, ⟨dp, dq, _, _, hd⟩, ht⟩ := hst'
      have hk : t.length + 1 < 16 := by omega
      have hβ : rl_R β := rl_BR (rl_topR hB hσ hB0 hat) (by decide)
      have i16 : vp_in (nI t.length) 16 := pk_in t.length 16 (by omega)
      have hmu : rl_mu (B :: t) = (2 * rl_ar B - 1) + rl_mu t := rfl
      have har := rl_ar1 hbk
      have hsubt : ∀ B', B' ∈ t → ∀ x y, rl_in B' x y → rl_in B0 x y := fun B' h' => hsub B' (List.mem_cons_of_mem B h')
      have hsubB : ∀ x y, rl_in B x y → rl_in B0 x y := hsub B List.mem_cons_self
      refine pk_le 2048 s (fun z => absurd z (by omega)) (fun _ => pk_le (t.length + 1) 0 (fun z => absurd z (by omega)) (fun _ => nm_r (e' := nI t.length) (nI_pred t.length) ⟨i16, i16, i16, i16, ?_⟩))
      rw [rl_ck (show t.length < 2048 by omega), e9, e10, e11, e12]
      refine rl_range hN hB hbk (fun c3 c4 c5 c6 c7 c8 hA => ?_)
      obtain ⟨lo, hi, f0, f1, r, d3, d4, _, _, _, hU⟩ := hA u hu
      have K : ∀ bd : Int, rl_R bd → (∀ x y, rl_in B x y → σ * rl_v N u x y ≤ bd) → (c8 u ≠ 0 → ∃ x y, rl_in B x y ∧ σ * rl_v N u x y = bd) →
          wX_extreme_122 post (wX_extreme_38 post (nI u) (rl_z σ) n) (nI u) (rl_z σ) (nI s) (nI t.length) (rl_z bd) (nI t.length) (rl_z β) a1 a2 c3 c4 c5 c6 c7 c8 a9 a10 a11 a12 := by
        intro bd hbd hup hex
        refine rl_x122 hu hk hbd hβ ⟨e9, e10, e11, e12⟩ hbk hU.2.2.2 (fun p => ?_) (fun p q => ?_) (fun p A C c9 c10 c11 c12 hs2 hA2 hC2 hf2 => ?_)
        · refine ih (s + 1) t β _ _ _ _ _ _ _ _ _ _ (by omega) (by omega) ht hsubt hat (fun x y hi2 => ?_)
          rcases hcov x y hi2 with e | ⟨B', hB', hin⟩
          · exact Or.inl e
          · rcases List.mem_cons.mp hB' with rfl | h'
            · exact Or.inl (Int.le_trans (hup x y hin) p)
            · exact Or.inr ⟨B', h', hin⟩
        · obtain ⟨x0, y0, hin0, e0⟩ := hex q
          refine ih (s + 1) t bd _ _ _ _ _ _ _ _ _ _ (by omega) (by omega) ht hsubt ⟨x0, y0, hsubB x0 y0 hin0, e0⟩ (fun x y hi2 => ?_)
          rcases hcov x y hi2 with e | ⟨B', hB', hin⟩
          · exact Or.inl (by omega)
          · rcases List.mem_cons.mp hB' with rfl | h'
            · exact Or.inl (hup x y hin)
            · exact Or.inr ⟨B', h', hin⟩
        · have hmc := rl_muc (t := t) hs2
          refine ih (s + 1) (A :: C :: t) β _ _ _ _ _ _ _ _ _ _ (by omega) (by omega) (rl_stkc hst hs2 hA2 hC2 hf2) ?_ hat (fun x y hi2 => ?_)
          · intro B' hB' x y hin
            rcases List.mem_cons.mp hB' with rfl | h'
            · exact hsubB x y (rl_spA hs2 hin)
            · rcases List.mem_cons.mp h' with rfl | h''
              · exact hsubB x y (rl_spC hs2 hin)
              · exact hsubt B' h'' x y hin
          · rcases hcov x y hi2 with e | ⟨B', hB', hin⟩
            · exact Or.inl e
            · rcases List.mem_cons.mp hB' with rfl | h'
              · rcases rl_spi hs2 hin with h1 | h1
                · exact Or.inr ⟨A, List.mem_cons_self, h1⟩
                · exact Or.inr ⟨C, List.mem_cons_of_mem A List.mem_cons_self, h1⟩
              · exact Or.inr ⟨B', List.mem_cons_of_mem A (List.mem_cons_of_mem C h'), hin⟩
      dsimp only
      rw [rl_ck (show u < 2048 by omega), d3, d4]
      rcases hσ with rfl | rfl
      · refine br_f (by decide) ⟨pk_in u 6 hu, K hi (rl_BR hU.1.2.1 (rl_Ml u)) (fun x y hin => ?_) (fun q => ?_)⟩
        · have := (hU.2.1 x y hin.1 hin.2.1 hin.2.2.1 hin.2.2.2).2
          omega
        · obtain ⟨x, y, x1, x2, y1, y2, e⟩ := (hU.2.2.1 q).2.2
          exact ⟨x, y, ⟨x1, x2, y1, y2⟩, by omega⟩
      · rw [rl_neg]
        refine br_t (by decide) ⟨pk_in u 6 hu, K (-lo) (rl_BR (M := rl_M u) ⟨by have := hU.1.1.2; omega, by have := hU.1.1.1; omega⟩ (rl_Ml u)) (fun x y hin => ?_) (fun q => ?_)⟩
        · have := (hU.2.1 x y hin.1 hin.2.1 hin.2.2.1 hin.2.2.2).1
          omega
        · obtain ⟨x, y, x1, x2, y1, y2, e⟩ := (hU.2.2.1 q).2.1
          exact ⟨x, y, ⟨x1, x2, y1, y2⟩, by omega⟩
theorem rl_extreme {post : Int32 → St1 → Prop} {N : Nat → Int} (hN : ∀ j, a1 j = rl_z (N j)) (hB : rl_NB N) {u : Nat} (hu : u < 6) {σ : Int} (hσ : σ = 1 ∨ σ = -1) {B : rl_Bx} (hb : rl_bk B)
    (H : ∀ (β : Int) (wc bc : Int32) (c2 c3 c4 c5 c6 c7 c8 c9 c10 c11 c12 : Nat → Int32), rl_top N u σ B β → post (rl_z β) (wc, bc, a1, c2, c3, c4, c5, c6, c7, c8, c9, c10, c11, c12)) :
    wpX_extreme post (w, b, a1, a2, a3, a4, a5, a6, a7, a8, a9, a10, a11, a12) (rl_cd B.1 B.2.1) (rl_cd B.2.2.1 B.2.2.2) (nI u) (rl_z σ) := by
  unfold wpX_extreme
  refine rl_open hb (fun c9 c10 c11 c12 ha hst => ?_)
  dsimp only
  rw [ha.1, ha.2.2.1]
  have hin : rl_in B B.1 B.2.2.1 := ⟨Int.le_refl _, hb.2.1, Int.le_refl _, hb.2.2.2.2.1⟩
  refine rl_work hN hB (rl_inB2 hb hin).1 (rl_inB2 hb hin).2 (fun c2 h2 => ?_)
  dsimp only
  refine And.intro (pk_in u 6 hu) (nm_r (e' := rl_z (σ * rl_v N u B.1 B.2.2.1)) (by rw [rl_ck (by omega), h2 u hu, rl_mul]) ⟨2049, ?_⟩)
  refine rl_x38 hN hB hu hσ hb (fun β wc d3 d4 d5 d6 d7 d8 d9 d10 d11 d12 ht => H β wc _ c2 d3 d4 d5 d6 d7 d8 d9 d10 d11 d12 ht) 2049 0 [B] _ _ _ _ _ _ _ _ _ _ _ (by omega) ?_ hst ?_ ⟨_, _, hin, rfl⟩ ?_
  · have := rl_ar2 hb
    show ((0 : Nat) : Int) + ((2 * rl_ar B - 1) + 0) ≤ 2047
    omega
  · intro B' hB' x y hi
    rw [List.mem_singleton.mp hB'] at hi
    exact hi
  · exact fun x y hi => Or.inr ⟨B, List.mem_singleton.mpr rfl, hi⟩
theorem rl_f9 {post : Int32 → St1 → Prop} {N : Nat → Int} {X : Int32} (hN : ∀ j, a1 j = rl_z (N j)) (hB : rl_NB N) {B0 : rl_Bx}
    (H0 : ∀ (wc : Int32) (c3 c4 c5 c6 c7 c8 c9 c10 c11 c12 : Nat → Int32), (∀ x y, rl_in B0 x y → rl_v N 5 x y ≤ X.toInt) → post (-2) (wc, b, a1, a2, c3, c4, c5, c6, c7, c8, c9, c10, c11, c12))
    (H1 : ∀ (wc : Int32) (c3 c4 c5 c6 c7 c8 c9 c10 c11 c12 : Nat → Int32) (x y : Int), rl_in B0 x y → X.toInt < rl_v N 5 x y → post (rl_cd x y) (wc, b, a1, a2, c3, c4, c5, c6, c7, c8, c9, c10, c11, c12)) :
    ∀ (n s : Nat) (T : List rl_Bx) (a3 a4 a5 a6 a7 a8 a9 a10 a11 a12 : Nat → Int32), 2048 < n + s → (s : Int) + rl_mu T ≤ 2047 → rl_stk a9 a10 a11 a12 T → (∀ B, B ∈ T → ∀ x y, rl_in B x y → rl_in B0 x y) →
      (∀ x y, rl_in B0 x y → rl_v N 5 x y ≤ X.toInt ∨ ∃ B, B ∈ T ∧ rl_in B x y) → wX_firstAbove_9 post X n (nI s) (nI T.length) b a1 a2 a3 a4 a5 a6 a7 a8 a9 a10 a11 a12 := by
  intro n
  induction n with
  | zero =>
    intro s T a3 a4 a5 a6 a7 a8 a9 a10 a11 a12 hn hm hst
    exact absurd (rl_mu0 T hst) (by omega)
  | succ n ih =>
    intro s T a3 a4 a5 a6 a7 a8 a9 a10 a11 a12 hn hm hst hsub hcov
    have hs : s ≤ 2047 := by
      have := rl_mu0 T hst
      omega
    cases T with
    | nil =>
      refine pk_le 2048 s (fun z => absurd z (by omega)) (fun _ => pk_le 0 0 (fun _ => H0 _ _ _ _ _ _ _ _ _ _ _ (fun x y hi => ?_)) (fun z => absurd z (by omega)))
      rcases hcov x y hi with e | ⟨B, hB, _⟩
      · exact e
      · exact absurd hB (List.not_mem_nil)
    | cons B t =>
      have hst' := hst
      obtain ⟨⟨e9, e10, e11, e12⟩, hbk, ⟨dp, dq, _, _, hd⟩, ht⟩ := hst'
      have hk : t.length + 1 < 16 := by omega
      have i16 : vp_in (nI t.length) 16 := pk_in t.length 16 (by omega)
      have hmu : rl_mu (B :: t) = (2 * rl_ar B - 1) + rl_mu t := rfl
      have har := rl_ar1 hbk
      have hsubt : ∀ B', B' ∈ t → ∀ x y, rl_in B' x y → rl_in B0 x y := fun B' h' => hsub B' (List.mem_cons_of_mem B h')
      have hsubB : ∀ x y, rl_in B x y → rl_in B0 x y := hsub B List.mem_cons_self
      refine pk_le 2048 s (fun z => absurd z (by omega)) (fun _ => pk_le (t.length + 1) 0 (fun z => absurd z (by omega)) (fun _ => nm_r (e' := nI t.length) (nI_pred t.length) ⟨i16, i16, i16, i16, ?_⟩))
      rw [rl_ck (show t.length < 2048 by omega), e9, e10, e11, e12]
      refine rl_range hN hB hbk (fun c3 c4 c5 c6 c7 c8 hA => ?_)
      obtain ⟨lo, hi, f0, f1, r, d3, d4, _, _, _, hU⟩ := hA 5 (by omega)
      refine rl_ble hi X.toInt (rl_BR hU.1.2.1 (rl_Ml 5)) (rl_tr X) (fun p => nm_r (nI_1 s) ?_) (fun p => ?_) d4 (rl_of X)
      · refine ih (s + 1) t _ _ _ _ _ _ _ _ _ _ (by omega) (by omega) ht hsubt (fun x y hi2 => ?_)
        rcases hcov x y hi2 with e | ⟨B', hB', hin⟩
        · exact Or.inl e
        · rcases List.mem_cons.mp hB' with rfl | h'
          · exact Or.inl (Int.le_trans (hU.2.1 x y hin.1 hin.2.1 hin.2.2.1 hin.2.2.2).2 p)
          · exact Or.inr ⟨B', h', hin⟩
      · refine rl_isPoint (by omega) ⟨e9, e10, e11, e12⟩ hbk (fun q q2 => ?_) (fun q => ?_)
        · refine br_f (by decide) (And.intro i16 (And.intro i16 ?_))
          rw [e9, e11, rl_cdz]
          have hin : rl_in B B.1 B.2.2.1 := ⟨Int.le_refl _, hbk.2.1, Int.le_refl _, hbk.2.2.2.2.1⟩
          exact H1 _ _ _ _ _ _ _ _ _ _ _ B.1 B.2.2.1 (hsubB _ _ hin) (by rw [(rl_pt hU q q2).2]; exact p)
        · refine br_t rfl (rl_cut hk ⟨e9, e10, e11, e12⟩ hbk q (fun A C c9 c10 c11 c12 hs2 hA2 hC2 hf2 => nm_r (nI_1 s) ?_))
          have hmc := rl_muc (t := t) hs2
          refine ih (s + 1) (A :: C :: t) _ _ _ _ _ _ _ _ _ _ (by omega) (by omega) (rl_stkc hst hs2 hA2 hC2 hf2) ?_ (fun x y hi2 => ?_)
          · intro B' hB' x y hin
            rcases List.mem_cons.mp hB' with rfl | h'
            · exact hsubB x y (rl_spA hs2 hin)
            · rcases List.mem_cons.mp h' with rfl | h''
              · exact hsubB x y (rl_spC hs2 hin)
              · exact hsubt B' h'' x y hin
          · rcases hcov x y hi2 with e | ⟨B', hB', hin⟩
            · exact Or.inl e
            · rcases List.mem_cons.mp hB' with rfl | h'
              · rcases rl_spi hs2 hin with h1 | h1
                · exact Or.inr ⟨A, List.mem_cons_self, h1⟩
                · exact Or.inr ⟨C, List.mem_cons_of_mem A List.mem_cons_self, h1⟩
              · exact Or.inr ⟨B', List.mem_cons_of_mem A (List.mem_cons_of_mem C h'), hin⟩
theorem rl_firstAbove {post : Int32 → St1 → Prop} {N : Nat → Int} {X : Int32} (hN : ∀ j, a1 j = rl_z (N j)) (hB : rl_NB N) {B : rl_Bx} (hb : rl_bk B)
    (H0 : ∀ (wc bc : Int32) (c2 c3 c4 c5 c6 c7 c8 c9 c10 c11 c12 : Nat → Int32), (∀ x y, rl_in B x y → rl_v N 5 x y ≤ X.toInt) → post (-2) (wc, bc, a1, c2, c3, c4, c5, c6, c7, c8, c9, c10, c11, c12))
    (H1 : ∀ (wc bc : Int32) (c2 c3 c4 c5 c6 c7 c8 c9 c10 c11 c12 : Nat → Int32) (x y : Int), rl_in B x y → X.toInt < rl_v N 5 x y → post (rl_cd x y) (wc, bc, a1, c2, c3, c4, c5, c6, c7, c8, c9, c10, c11, c12)) :
    wpX_firstAbove post (w, b, a1, a2, a3, a4, a5, a6, a7, a8, a9, a10, a11, a12) (rl_cd B.1 B.2.1) (rl_cd B.2.2.1 B.2.2.2) X := by
  unfold wpX_firstAbove
  refine rl_open hb (fun c9 c10 c11 c12 ha hst => ⟨2049, ?_⟩)
  refine rl_f9 hN hB (fun wc d3 d4 d5 d6 d7 d8 d9 d10 d11 d12 h => H0 wc _ _ d3 d4 d5 d6 d7 d8 d9 d10 d11 d12 h) (fun wc d3 d4 d5 d6 d7 d8 d9 d10 d11 d12 x y h h' => H1 wc _ _ d3 d4 d5 d6 d7 d8 d9 d10 d11 d12 x y h h') 2049 0 [B] _ _ _ _ _ _ _ _ _ _ (by omega) ?_ hst ?_ ?_
  · have := rl_ar2 hb
    show ((0 : Nat) : Int) + ((2 * rl_ar B - 1) + 0) ≤ 2047
    omega
  · intro B' hB' x y hi
    rw [List.mem_singleton.mp hB'] at hi
    exact hi
  · exact fun x y hi => Or.inr ⟨B, List.mem_singleton.mpr rfl, hi⟩
end
end
section
/-! ===== patternOf, patterns ===== -/
theorem rl_or5 : ∀ m, m < 32 → ∀ i, i < 5 → (nI m ||| ((1 : Int32) <<< (nI i &&& 31))) = nI (m ||| 2 ^ i) ∧ (m ||| 2 ^ i) < 32 := by decide +kernel
theorem rl_su : ∀ n, n < 32 → (((nI n).toUInt32 &&& Int32.toUInt32 31).toBitVec % 32).toNat = n := by decide +kernel
theorem rl_sh1 : ∀ n, n < 32 → ((1 : Int32) <<< (nI n &&& 31)) ≠ 0 := by decide +kernel
theorem rl_orn {x y : Int32} (h : y ≠ 0) : x ||| y ≠ 0 := by
  intro e
  apply h
  have e2 : x.toBitVec ||| y.toBitVec = 0#32 := by
    rw [← Int32.toBitVec_or, e]
    rfl
  apply Int32.toBitVec_inj.mp
  show y.toBitVec = 0#32
  apply BitVec.eq_of_getLsbD_eq
  intro i hi
  have e3 := congrArg (fun z => BitVec.getLsbD z i) e2
  simp only [BitVec.getLsbD_or] at e3
  rw [BitVec.getLsbD_zero] at e3 ⊢
  exact (Bool.or_eq_false_iff.mp e3).2
theorem rl_n0 {x : Int32} (h : x.toBitVec.toNat = 0) : x = 0 := Int32.toBitVec_inj.mp (BitVec.eq_of_toNat_eq h)
section
variable {w b : Int32} {a1 a2 a3 a4 a5 a6 a7 a8 a9 a10 a11 a12 : Nat → Int32}
theorem rl_pat {post : Int32 → Prop} (h : ∀ j, j < 5 → ∃ lo hi : Int, a3 j = rl_z lo ∧ a4 j = rl_z hi ∧ rl_R lo ∧ rl_R hi ∧ (lo ≤ 0 → 0 < hi → post (-1))) (Hp : ∀ m, m < 32 → post (nI m)) : wpX_patternOf post (w, b, a1, a2, a3, a4, a5, a6, a7, a8, a9, a10, a11, a12) := by
  refine pk_loop (fun n i s => wX_patternOf_4 post w b a1 a2 a3 a4 a5 a6 a7 a8 a9 a10 a11 a12 n s (nI i)) (fun i s => ∃ m, m < 32 ∧ s = nI m) 5 0 0 (by omega) ⟨0, by omega, rfl⟩ ?_ ?_
  · intro n s hs
    obtain ⟨m, hm, rfl⟩ := hs
    exact pk_le 5 5 (fun _ => Hp m hm) (fun z => absurd z (by omega))
  · intro n i s hi hs hw
    obtain ⟨m, hm, rfl⟩ := hs
    obtain ⟨lo, hh, e3, e4, r3, r4, hx⟩ := h i hi
    refine pk_le 5 i (fun z => absurd z (by omega)) (fun _ => ⟨pk_in i 6 (by omega), rl_ble lo 0 r3 rl_R0 (fun p => ⟨pk_in i 6 (by omega), rl_ble hh 0 r4 rl_R0 (fun q => nm_r (nI_1 i) (hw _ ⟨m, hm, rfl⟩)) (fun q => hx p q) (by rw [rl_ck (by omega)]; exact e4) rfl⟩)
      (fun p => nm_r (rl_or5 m hm i hi).1 (nm_r (nI_1 i) (hw _ ⟨_, (rl_or5 m hm i hi).2, rfl⟩))) (by rw [rl_ck (by omega)]; exact e3) rfl⟩)
theorem rl_p129 {post : Int32 → St1 → Prop} {x : Int32} (hx : x ≠ 0) (H : ∀ c, 1 ≤ c → c ≤ 32 → post (nI c) (w, b, a1, a2, a3, a4, a5, a6, a7, a8, a9, a10, a11, a12)) : ∃ n, wX_patterns_129 post x w b a1 a2 a3 a4 a5 a6 a7 a8 a9 a10 a11 a12 n 0 0 := by
  refine pk_loop (fun n i s => wX_patterns_129 post x w b a1 a2 a3 a4 a5 a6 a7 a8 a9 a10 a11 a12 n s (nI i)) (fun i s => ∃ c, c ≤ i ∧ s = nI c ∧ (c = 0 → x.toBitVec.toNat % 2 ^ i = 0)) 32 0 0 (by omega) ⟨0, by omega, rfl, fun _ => Nat.mod_one _⟩ ?_ ?_
  · intro n s hs
    obtain ⟨c, hc, rfl, h0⟩ := hs
    refine pk_le 32 32 (fun _ => H c ?_ hc) (fun z => absurd z (by omega))
    rcases Nat.eq_zero_or_pos c with e | e
    · exact absurd (rl_n0 (by have h1 := h0 e; rw [Nat.mod_eq_of_lt x.toBitVec.isLt] at h1; exact h1)) hx
    · exact e
  · intro n i s hi hs hw
    obtain ⟨c, hc, rfl, h0⟩ := hs
    refine pk_le 32 i (fun z => absurd z (by omega)) (fun _ => nm_r (e' := nI (c + x.toBitVec.toNat / 2 ^ i % 2)) ?_ (nm_r (nI_1 i) (hw _ ⟨_, ?_, rfl, ?_⟩)))
    · rw [pk_and _ 1 (by decide), pk_ushr x (nI i) i (rl_su i hi), nI_add]
    · have := Nat.mod_lt (x.toBitVec.toNat / 2 ^ i) (show 0 < 2 by omega)
      omega
    · intro e
      rw [Nat.mod_pow_succ, h0 (by omega), show x.toBitVec.toNat / 2 ^ i % 2 = 0 by omega]
      simp
theorem rl_p27 {post : Int32 → St1 → Prop} {N : Nat → Int} (hN : ∀ j, a1 j = rl_z (N j)) (hB : rl_NB N)
    (H : ∀ (c : Nat) (wc : Int32) (c3 c4 c5 c6 c7 c8 c9 c10 c11 c12 : Nat → Int32), 1 ≤ c → c ≤ 32 → post (nI c) (wc, b, a1, a2, c3, c4, c5, c6, c7, c8, c9, c10, c11, c12)) :
    ∀ (n s : Nat) (x : Int32) (T : List rl_Bx) (a3 a4 a5 a6 a7 a8 a9 a10 a11 a12 : Nat → Int32), 2048 < n + s → (s : Int) + rl_mu T ≤ 2047 → rl_stk a9 a10 a11 a12 T → (x ≠ 0 ∨ T ≠ []) →
      wX_patterns_27 post n x (nI s) (nI T.length) b a1 a2 a3 a4 a5 a6 a7 a8 a9 a10 a11 a12 := by
  intro n
  induction n with
  | zero =>
    intro s x T a3 a4 a5 a6 a7 a8 a9 a10 a11 a12 hn hm hst
    exact absurd (rl_mu0 T hst) (by omega)
  | succ n ih =>
    intro s x T a3 a4 a5 a6 a7 a8 a9 a10 a11 a12 hn hm hst hx
    have hs : s ≤ 2047 := by
      have := rl_mu0 T hst
      omega
    cases T with
    | nil =>
      have hx' : x ≠ 0 := hx.elim id (fun z => absurd rfl z)
      exact pk_le 2048 s (fun z => absurd z (by omega)) (fun _ => pk_le 0 0 (fun _ => rl_p129 hx' (fun c h1 h2 => H c _ _ _ _ _ _ _ _ _ _ _ h1 h2)) (fun z => absurd z (by omega)))
    | cons B t =>
      have hst' := hst
      obtain ⟨⟨e9, e10, e11, e12⟩, hbk, ⟨dp, dq, _, _, hd⟩, ht⟩ := hst'
      have hk : t.length + 1 < 16 := by omega
      have i16 : vp_in (nI t.length) 16 := pk_in t.length 16 (by omega)
      have hmu : rl_mu (B :: t) = (2 * rl_ar B - 1) + rl_mu t := rfl
      have har := rl_ar1 hbk
      refine pk_le 2048 s (fun z => absurd z (by omega)) (fun _ => pk_le (t.length + 1) 0 (fun z => absurd z (by omega)) (fun _ => nm_r (e' := nI t.length) (nI_pred t.length) ⟨i16, i16, i16, i16, ?_⟩))
      rw [rl_ck (show t.length < 2048 by omega), e9, e10, e11, e12]
      refine rl_range hN hB hbk (fun c3 c4 c5 c6 c7 c8 hA => ?_)
      refine rl_pat (fun j hj => ?_) (fun m hm2 => ?_)
      · obtain ⟨lo, hi, f0, f1, r, d3, d4, _, _, _, hU⟩ := hA j (by omega)
        refine ⟨lo, hi, d3, d4, rl_BR hU.1.1 (rl_Ml j), rl_BR hU.1.2.1 (rl_Ml j), fun p q => ?_⟩
        have hnp : ¬ (B.1 = B.2.1 ∧ B.2.2.1 = B.2.2.2) := by
          intro hp
          have := rl_pt hU hp.1 hp.2
          omega
        refine br_t (by decide) (rl_cut hk ⟨e9, e10, e11, e12⟩ hbk hnp (fun A C c9 c10 c11 c12 hs2 hA2 hC2 hf2 => nm_r (nI_1 s) ?_))
        have hmc := rl_muc (t := t) hs2
        exact ih (s + 1) x (A :: C :: t) _ _ _ _ _ _ _ _ _ _ (by omega) (by omega) (rl_stkc hst hs2 hA2 hC2 hf2) (Or.inr (List.cons_ne_nil _ _))
      · refine br_f (nI_pos (by omega)) (nm_e (nm_r (nI_1 s) ?_))
        exact ih (s + 1) _ t _ _ _ _ _ _ _ _ _ _ (by omega) (by omega) ht (Or.inl (rl_orn (rl_sh1 m hm2)))
theorem rl_patterns {post : Int32 → St1 → Prop} {N : Nat → Int} (hN : ∀ j, a1 j = rl_z (N j)) (hB : rl_NB N) {B : rl_Bx} (hb : rl_bk B)
    (H : ∀ (c : Nat) (wc bc : Int32) (c2 c3 c4 c5 c6 c7 c8 c9 c10 c11 c12 : Nat → Int32), 1 ≤ c → c ≤ 32 → post (nI c) (wc, bc, a1, c2, c3, c4, c5, c6, c7, c8, c9, c10, c11, c12)) :
    wpX_patterns post (w, b, a1, a2, a3, a4, a5, a6, a7, a8, a9, a10, a11, a12) (rl_cd B.1 B.2.1) (rl_cd B.2.2.1 B.2.2.2) := by
  unfold wpX_patterns
  refine rl_isInterval hb.1 hb.2.1 hb.2.2.1 (br_f (by decide) (rl_isInterval hb.2.2.2.1 hb.2.2.2.2.1 hb.2.2.2.2.2 (br_f (by decide) ?_)))
  refine rl_open hb (fun c9 c10 c11 c12 ha hst => ⟨2049, ?_⟩)
  refine rl_p27 hN hB (fun c wc d3 d4 d5 d6 d7 d8 d9 d10 d11 d12 h h' => H c wc _ _ d3 d4 d5 d6 d7 d8 d9 d10 d11 d12 h h') 2049 0 0 [B] _ _ _ _ _ _ _ _ _ _ (by omega) ?_ hst (Or.inr (List.cons_ne_nil _ _))
  have := rl_ar2 hb
  show ((0 : Nat) : Int) + ((2 * rl_ar B - 1) + 0) ≤ 2047
  omega
end
end
section
/-! ===== the questions that the law asks ===== -/
section
variable {w b : Int32} {a1 a2 a3 a4 a5 a6 a7 a8 a9 a10 a11 a12 : Nat → Int32}
theorem rl_isInput {post : Int32 → Prop} {x : Int} (h : -16 ≤ x ∧ x ≤ 15) (H : post 1) : wpX_isInput post () (rl_z x) :=
  rl_blt x (-16) ⟨by omega, by omega⟩ ⟨by decide, by decide⟩ (fun p => absurd p (by omega)) (fun _ => rl_ble 16 x ⟨by decide, by decide⟩ ⟨by omega, by omega⟩ (fun p => absurd p (by omega)) (fun _ => H))
theorem rl_result {post : Int32 → St1 → Prop} {N : Nat → Int} (hN : ∀ j, a1 j = rl_z (N j)) (hB : rl_NB N) {x y : Int} (hx : -16 ≤ x ∧ x ≤ 15) (hy : -16 ≤ y ∧ y ≤ 15)
    (H : ∀ (wc bc : Int32) (c2 c3 c4 c5 c6 c7 c8 c9 c10 c11 c12 : Nat → Int32), post (rl_z (rl_v N 5 x y)) (wc, bc, a1, c2, c3, c4, c5, c6, c7, c8, c9, c10, c11, c12)) : wpX_result post (w, b, a1, a2, a3, a4, a5, a6, a7, a8, a9, a10, a11, a12) (rl_z x) (rl_z y) := by
  unfold wpX_result
  refine rl_isInput hx (br_f (by decide) (rl_isInput hy (br_f (by decide) (rl_work hN hB (rl_inB hx.1 hx.2) (rl_inB hy.1 hy.2) (fun c2 h2 => ?_)))))
  dsimp only
  rw [h2 5 (by omega)]
  exact H _ _ _ _ _ _ _ _ _ _ _ _ _
theorem rl_unit {post : Int32 → St1 → Prop} {N : Nat → Int} (hN : ∀ j, a1 j = rl_z (N j)) (hB : rl_NB N) {u : Nat} (hu : u < 5) {x y : Int} (hx : -16 ≤ x ∧ x ≤ 15) (hy : -16 ≤ y ∧ y ≤ 15)
    (H : ∀ (wc bc : Int32) (c2 c3 c4 c5 c6 c7 c8 c9 c10 c11 c12 : Nat → Int32), post (rl_z (rl_r (rl_v N u x y))) (wc, bc, a1, c2, c3, c4, c5, c6, c7, c8, c9, c10, c11, c12)) : wpX_unit post (w, b, a1, a2, a3, a4, a5, a6, a7, a8, a9, a10, a11, a12) (nI u) (rl_z x) (rl_z y) := by
  unfold wpX_unit
  refine br_f (nI_pos (by omega)) (pk_le u 4 (fun _ => ?_) (fun z => absurd z (by omega)))
  refine rl_isInput hx (br_f (by decide) (rl_isInput hy (br_f (by decide) (rl_work hN hB (rl_inB hx.1 hx.2) (rl_inB hy.1 hy.2) (fun c2 h2 => ?_)))))
  dsimp only
  rw [rl_ck (by omega), h2 u (by omega)]
  refine And.intro (pk_in u 6 (by omega)) (rl_ble (rl_v N u x y) 0 (rl_BR (rl_vB hB u (rl_inB hx.1 hx.2) (rl_inB hy.1 hy.2)) (by decide)) rl_R0 (fun p => ?_) (fun p => And.intro (pk_in u 6 (by omega)) ?_))
  · rw [rl_r0 p] at H
    exact H _ _ _ _ _ _ _ _ _ _ _ _ _
  · rw [rl_r1 (show 0 ≤ rl_v N u x y by omega)] at H
    exact H _ _ _ _ _ _ _ _ _ _ _ _ _
theorem rl_most {post : Int32 → St1 → Prop} {N : Nat → Int} (hN : ∀ j, a1 j = rl_z (N j)) (hB : rl_NB N) {B : rl_Bx} (hb : rl_bk B)
    (H : ∀ (β : Int) (wc bc : Int32) (c2 c3 c4 c5 c6 c7 c8 c9 c10 c11 c12 : Nat → Int32), rl_top N 5 1 B β → post (rl_z β) (wc, bc, a1, c2, c3, c4, c5, c6, c7, c8, c9, c10, c11, c12)) : wpX_most post (w, b, a1, a2, a3, a4, a5, a6, a7, a8, a9, a10, a11, a12) (rl_cd B.1 B.2.1) (rl_cd B.2.2.1 B.2.2.2) := by
  unfold wpX_most
  refine rl_isInterval hb.1 hb.2.1 hb.2.2.1 (br_f (by decide) (rl_isInterval hb.2.2.2.1 hb.2.2.2.2.1 hb.2.2.2.2.2 (br_f (by decide) ?_)))
  exact rl_extreme (u := 5) (σ := 1) hN hB (by omega) (Or.inl rfl) hb (fun β wd bd d2 d3 d4 d5 d6 d7 d8 d9 d10 d11 d12 ht => H β wd bd d2 d3 d4 d5 d6 d7 d8 d9 d10 d11 d12 ht)
theorem rl_least {post : Int32 → St1 → Prop} {N : Nat → Int} (hN : ∀ j, a1 j = rl_z (N j)) (hB : rl_NB N) {B : rl_Bx} (hb : rl_bk B)
    (H : ∀ (β : Int) (wc bc : Int32) (c2 c3 c4 c5 c6 c7 c8 c9 c10 c11 c12 : Nat → Int32), rl_top N 5 (-1) B β → post (rl_z (-β)) (wc, bc, a1, c2, c3, c4, c5, c6, c7, c8, c9, c10, c11, c12)) : wpX_least post (w, b, a1, a2, a3, a4, a5, a6, a7, a8, a9, a10, a11, a12) (rl_cd B.1 B.2.1) (rl_cd B.2.2.1 B.2.2.2) := by
  unfold wpX_least
  refine rl_isInterval hb.1 hb.2.1 hb.2.2.1 (br_f (by decide) (rl_isInterval hb.2.2.2.1 hb.2.2.2.2.1 hb.2.2.2.2.2 (br_f (by decide) ?_)))
  refine rl_extreme (u := 5) (σ := -1) hN hB (by omega) (Or.inr rfl) hb (fun β wd bd d2 d3 d4 d5 d6 d7 d8 d9 d10 d11 d12 ht => ?_)
  dsimp only
  rw [rl_neg]
  exact H β wd bd d2 d3 d4 d5 d6 d7 d8 d9 d10 d11 d12 ht
theorem rl_mostAt {post : Int32 → St1 → Prop} {N : Nat → Int} (hN : ∀ j, a1 j = rl_z (N j)) (hB : rl_NB N) {B : rl_Bx} (hb : rl_bk B)
    (H : ∀ (wc bc : Int32) (c2 c3 c4 c5 c6 c7 c8 c9 c10 c11 c12 : Nat → Int32) (x y : Int), rl_in B x y → rl_top N 5 1 B (rl_v N 5 x y) → post (rl_cd x y) (wc, bc, a1, c2, c3, c4, c5, c6, c7, c8, c9, c10, c11, c12)) : wpX_mostAt post (w, b, a1, a2, a3, a4, a5, a6, a7, a8, a9, a10, a11, a12) (rl_cd B.1 B.2.1) (rl_cd B.2.2.1 B.2.2.2) := by
  unfold wpX_mostAt
  refine rl_isInterval hb.1 hb.2.1 hb.2.2.1 (br_f (by decide) (rl_isInterval hb.2.2.2.1 hb.2.2.2.2.1 hb.2.2.2.2.2 (br_f (by decide) ?_)))
  refine rl_extreme (u := 5) (σ := 1) hN hB (by omega) (Or.inl rfl) hb (fun β wd bd d2 d3 d4 d5 d6 d7 d8 d9 d10 d11 d12 ht => ?_)
  dsimp only
  have hR := rl_topR hB (Or.inl rfl) hb ht.1
  have e1 : (rl_z β - 1).toInt = β - 1 := by
    rw [show rl_z β - 1 = rl_z (β - 1) from rl_sub β 1]
    exact rl_ti ⟨by have := hR.1; omega, by have := hR.2; omega⟩
  refine rl_firstAbove hN hB hb (fun wg bg g2 g3 g4 g5 g6 g7 g8 g9 g10 g11 g12 h => ?_) (fun wg bg g2 g3 g4 g5 g6 g7 g8 g9 g10 g11 g12 x y hin h => H wg bg g2 g3 g4 g5 g6 g7 g8 g9 g10 g11 g12 x y hin ?_)
  · exfalso
    obtain ⟨x, y, hin, e⟩ := ht.1
    have := h x y hin
    rw [e1] at this
    omega
  · rw [e1] at h
    have h2 := ht.2 x y hin
    have e : rl_v N 5 x y = β := by omega
    rw [e]
    exact ht
theorem rl_safe {post : Int32 → St1 → Prop} {N : Nat → Int} {X : Int32} (hN : ∀ j, a1 j = rl_z (N j)) (hB : rl_NB N) {B : rl_Bx} (hb : rl_bk B)
    (H1 : ∀ (wc bc : Int32) (c2 c3 c4 c5 c6 c7 c8 c9 c10 c11 c12 : Nat → Int32), (∀ x y, rl_in B x y → rl_v N 5 x y ≤ X.toInt) → post 1 (wc, bc, a1, c2, c3, c4, c5, c6, c7, c8, c9, c10, c11, c12))
    (H0 : ∀ (wc bc : Int32) (c2 c3 c4 c5 c6 c7 c8 c9 c10 c11 c12 : Nat → Int32), ¬ (∀ x y, rl_in B x y → rl_v N 5 x y ≤ X.toInt) → post 0 (wc, bc, a1, c2, c3, c4, c5, c6, c7, c8, c9, c10, c11, c12)) : wpX_safe post (w, b, a1, a2, a3, a4, a5, a6, a7, a8, a9, a10, a11, a12) (rl_cd B.1 B.2.1) (rl_cd B.2.2.1 B.2.2.2) X := by
  unfold wpX_safe
  refine rl_isInterval hb.1 hb.2.1 hb.2.2.1 (br_f (by decide) (rl_isInterval hb.2.2.2.1 hb.2.2.2.2.1 hb.2.2.2.2.2 (br_f (by decide) ?_)))
  refine rl_firstAbove hN hB hb (fun wg bg g2 g3 g4 g5 g6 g7 g8 g9 g10 g11 g12 h => br_t rfl (H1 wg bg g2 g3 g4 g5 g6 g7 g8 g9 g10 g11 g12 h)) (fun wg bg g2 g3 g4 g5 g6 g7 g8 g9 g10 g11 g12 x y hin h => br_f ?_ (H0 wg bg g2 g3 g4 g5 g6 g7 g8 g9 g10 g11 g12 (fun t => absurd (t x y hin) (by omega))))
  obtain ⟨hx, hy⟩ := rl_inB2 hb hin
  obtain ⟨q1, q2, q3, q4⟩ := hin
  obtain ⟨g1, g2, g3, g4, g5, g6⟩ := hb
  exact fun t => absurd ((rl_eq (a := 32 * (x + 16) + y + 16) (b := -2) ⟨by omega, by omega⟩ ⟨by decide, by decide⟩).mp (t.trans (show (-2 : Int32) = rl_z (-2) by decide))) (by omega)
theorem rl_breach {post : Int32 → St1 → Prop} {N : Nat → Int} {X : Int32} (hN : ∀ j, a1 j = rl_z (N j)) (hB : rl_NB N) {B : rl_Bx} (hb : rl_bk B)
    (H1 : ∀ (wc bc : Int32) (c2 c3 c4 c5 c6 c7 c8 c9 c10 c11 c12 : Nat → Int32), (∀ x y, rl_in B x y → rl_v N 5 x y ≤ X.toInt) → post (-2) (wc, bc, a1, c2, c3, c4, c5, c6, c7, c8, c9, c10, c11, c12))
    (H0 : ∀ (r wc bc : Int32) (c2 c3 c4 c5 c6 c7 c8 c9 c10 c11 c12 : Nat → Int32), ¬ (∀ x y, rl_in B x y → rl_v N 5 x y ≤ X.toInt) → r ≠ -2 → post r (wc, bc, a1, c2, c3, c4, c5, c6, c7, c8, c9, c10, c11, c12)) : wpX_breach post (w, b, a1, a2, a3, a4, a5, a6, a7, a8, a9, a10, a11, a12) (rl_cd B.1 B.2.1) (rl_cd B.2.2.1 B.2.2.2) X := by
  unfold wpX_breach
  refine rl_isInterval hb.1 hb.2.1 hb.2.2.1 (br_f (by decide) (rl_isInterval hb.2.2.2.1 hb.2.2.2.2.1 hb.2.2.2.2.2 (br_f (by decide) ?_)))
  refine rl_firstAbove hN hB hb (fun wg bg g2 g3 g4 g5 g6 g7 g8 g9 g10 g11 g12 h => H1 wg bg g2 g3 g4 g5 g6 g7 g8 g9 g10 g11 g12 h) (fun wg bg g2 g3 g4 g5 g6 g7 g8 g9 g10 g11 g12 x y hin h => H0 _ wg bg g2 g3 g4 g5 g6 g7 g8 g9 g10 g11 g12 (fun t => absurd (t x y hin) (by omega)) ?_)
  obtain ⟨hx, hy⟩ := rl_inB2 hb hin
  obtain ⟨q1, q2, q3, q4⟩ := hin
  obtain ⟨g1, g2, g3, g4, g5, g6⟩ := hb
  exact fun t => absurd ((rl_eq (a := 32 * (x + 16) + y + 16) (b := -2) ⟨by omega, by omega⟩ ⟨by decide, by decide⟩).mp (t.trans (show (-2 : Int32) = rl_z (-2) by decide))) (by omega)
/-- a unit that is on somewhere isn't called off -/
theorem rl_fixed {post : Int32 → St1 → Prop} {N : Nat → Int} (hN : ∀ j, a1 j = rl_z (N j)) (hB : rl_NB N) {B : rl_Bx} (hb : rl_bk B) {u : Nat} (hu : u < 5) (hon : ∃ x y, rl_in B x y ∧ 0 < rl_v N u x y)
    (H : ∀ (r wc bc : Int32) (c2 c3 c4 c5 c6 c7 c8 c9 c10 c11 c12 : Nat → Int32), r ≠ 1 → post r (wc, bc, a1, c2, c3, c4, c5, c6, c7, c8, c9, c10, c11, c12)) : wpX_fixed post (w, b, a1, a2, a3, a4, a5, a6, a7, a8, a9, a10, a11, a12) (nI u) (rl_cd B.1 B.2.1) (rl_cd B.2.2.1 B.2.2.2) := by
  unfold wpX_fixed
  refine br_f (nI_pos (by omega)) (pk_le u 4 (fun _ => ?_) (fun z => absurd z (by omega)))
  refine rl_isInterval hb.1 hb.2.1 hb.2.2.1 (br_f (by decide) (rl_isInterval hb.2.2.2.1 hb.2.2.2.2.1 hb.2.2.2.2.2 (br_f (by decide) ?_)))
  refine rl_extreme (σ := 1) hN hB (by omega) (Or.inl rfl) hb (fun β wd bd d2 d3 d4 d5 d6 d7 d8 d9 d10 d11 d12 ht => ?_)
  dsimp only
  refine rl_blt 0 β rl_R0 (rl_BR (rl_topR hB (Or.inl rfl) hb ht.1) (by decide)) (fun p => ?_) (fun p => ?_)
  · refine rl_extreme (σ := -1) hN hB (by omega) (Or.inr rfl) hb (fun β2 wg bg g2 g3 g4 g5 g6 g7 g8 g9 g10 g11 g12 ht2 => ?_)
    exact nm_e (br_c (fun _ => H 0 wg bg g2 g3 g4 g5 g6 g7 g8 g9 g10 g11 g12 (by decide)) (fun _ => H 2 wg bg g2 g3 g4 g5 g6 g7 g8 g9 g10 g11 g12 (by decide)))
  · exfalso
    obtain ⟨x, y, hin, hp⟩ := hon
    have := ht.2 x y hin
    omega
end
end
section
/-! ===== bits (after kit/laws/BITS.to-paste) ===== -/
def rl_bt (x : Int32) (i : Nat) : Bool := x.toBitVec.getLsbD i
theorem rl_bor (x y : Int32) (i : Nat) : rl_bt (x ||| y) i = (rl_bt x i || rl_bt y i) := by unfold rl_bt; rw [Int32.toBitVec_or, BitVec.getLsbD_or]
theorem rl_band (x y : Int32) (i : Nat) : rl_bt (x &&& y) i = (rl_bt x i && rl_bt y i) := by unfold rl_bt; rw [Int32.toBitVec_and, BitVec.getLsbD_and]
theorem rl_b0 (i : Nat) : rl_bt 0 i = false := BitVec.getLsbD_zero
theorem rl_sl : ∀ n, n < 32 → ((nI n &&& 31).toBitVec.smod 32).toNat = n := by decide +kernel
theorem rl_bshr (n : Nat) (hn : n < 32) (x : Int32) {i : Nat} (hi : i < 32) : rl_bt (x >>> (nI n &&& 31)) i = if n + i < 32 then rl_bt x (n + i) else rl_bt x 31 := by
  unfold rl_bt
  rw [Int32.toBitVec_shiftRight]
  show (x.toBitVec.sshiftRight ((nI n &&& 31).toBitVec.smod 32).toNat).getLsbD i = _
  rw [rl_sl n hn, BitVec.getLsbD_sshiftRight, BitVec.msb_eq_getLsbD_last]
  simp [hi]
theorem rl_bit1 {x : Int32} {i : Nat} (hi : i < 32) (h : (x >>> (nI i &&& 31)) &&& 1 = 1) : rl_bt x i = true := by
  have e : rl_bt ((x >>> (nI i &&& 31)) &&& 1) 0 = rl_bt 1 0 := congrArg (fun z => rl_bt z 0) h
  rw [rl_band, rl_bshr i hi x (by omega), if_pos (by omega), Nat.add_zero, show rl_bt 1 0 = true by decide, Bool.and_true] at e
  exact e
theorem rl_shb : ∀ u, u < 5 → ∀ j, j < 5 → rl_bt ((1 : Int32) <<< (nI u &&& 31)) j = true → j = u := by decide +kernel
/-- a unit whose bit is set is on somewhere -/
def rl_on (N : Nat → Int) (B : rl_Bx) (on : Int32) : Prop := ∀ u, u < 5 → rl_bt on u = true → ∃ x y, rl_in B x y ∧ 0 < rl_v N u x y
theorem rl_on0 (N : Nat → Int) (B : rl_Bx) : rl_on N B 0 := by
  intro u _ h
  rw [rl_b0] at h
  exact absurd h (by decide)
theorem rl_onz {N : Nat → Int} {B : rl_Bx} {on : Int32} (h : rl_on N B on) : rl_on N B (on ||| 0) := by
  intro u hu e
  rw [rl_bor, rl_b0, Bool.or_false] at e
  exact h u hu e
theorem rl_onu {N : Nat → Int} {B : rl_Bx} {on : Int32} (h : rl_on N B on) {u : Nat} (hu : u < 5) {x y : Int} (hin : rl_in B x y) (hp : 0 < rl_v N u x y) : rl_on N B (on ||| ((1 : Int32) <<< (nI u &&& 31))) := by
  intro j hj e
  rw [rl_bor] at e
  rcases Bool.or_eq_true_iff.mp e with e | e
  · exact h j hj e
  · rw [rl_shb u hu j hj e]
    exact ⟨x, y, hin, hp⟩
theorem rl_p1 (x : Int) : rl_z x + 1 = rl_z (x + 1) := rl_add x 1
/-! ===== holds ===== -/
section
variable {a1 : Nat → Int32}
theorem rl_h281 {post : Int32 → St1 → Prop} {N : Nat → Int} (hN : ∀ j, a1 j = rl_z (N j)) (hB : rl_NB N) {B : rl_Bx} (hb : rl_bk B) {on : Int32} (hon : rl_on N B on)
    (H : ∀ (wc bc : Int32) (c2 c3 c4 c5 c6 c7 c8 c9 c10 c11 c12 : Nat → Int32), post 1 (wc, bc, a1, c2, c3, c4, c5, c6, c7, c8, c9, c10, c11, c12)) :
    ∀ (m i : Nat) (w b : Int32) (a2 a3 a4 a5 a6 a7 a8 a9 a10 a11 a12 : Nat → Int32), i + m = 5 → wL_holds_281 post (rl_cd B.1 B.2.1) (rl_cd B.2.2.1 B.2.2.2) on (m + 1) (nI i) w b a1 a2 a3 a4 a5 a6 a7 a8 a9 a10 a11 a12 := by
  intro m
  induction m with
  | zero =>
    intro i w b a2 a3 a4 a5 a6 a7 a8 a9 a10 a11 a12 h
    obtain rfl : i = 5 := by omega
    exact pk_le 5 5 (fun _ => H _ _ _ _ _ _ _ _ _ _ _ _ _) (fun z => absurd z (by omega))
  | succ m ih =>
    intro i w b a2 a3 a4 a5 a6 a7 a8 a9 a10 a11 a12 h
    refine pk_le 5 i (fun z => absurd z (by omega)) (fun _ => br_c (fun hbit => ?_) (fun _ => nm_r (nI_1 i) (ih (i + 1) _ _ _ _ _ _ _ _ _ _ _ _ _ (by omega))))
    exact rl_fixed hN hB hb (by omega) (hon i (by omega) (rl_bit1 (by omega) hbit)) (fun r wc bc c2 c3 c4 c5 c6 c7 c8 c9 c10 c11 c12 hr => br_f hr (nm_r (nI_1 i) (ih (i + 1) _ _ _ _ _ _ _ _ _ _ _ _ _ (by omega))))
theorem rl_h228 {post : Int32 → St1 → Prop} {J1 J2 : Int32 → Int32 → Int32 → Int32 → (Nat → Int32) → (Nat → Int32) → (Nat → Int32) → (Nat → Int32) → (Nat → Int32) → (Nat → Int32) → (Nat → Int32) → (Nat → Int32) → (Nat → Int32) → (Nat → Int32) → (Nat → Int32) → (Nat → Int32) → Prop}
    {x2 x3 x4 x5 x6 x7 x8 : Int32} {N : Nat → Int} (hN : ∀ j, a1 j = rl_z (N j)) (hB : rl_NB N) {B : rl_Bx} (hb : rl_bk B) {x y : Int} (hin : rl_in B x y)
    (H : ∀ (on wc bc : Int32) (c2 c3 c4 c5 c6 c7 c8 c9 c10 c11 c12 : Nat → Int32), rl_on N B on → J2 on (rl_z (y + 1)) wc bc a1 c2 c3 c4 c5 c6 c7 c8 c9 c10 c11 c12) :
    ∀ (m i : Nat) (on w b : Int32) (a2 a3 a4 a5 a6 a7 a8 a9 a10 a11 a12 : Nat → Int32), i + m = 5 → rl_on N B on → wL_holds_228 post J1 J2 x2 x3 x4 x5 x6 x7 x8 (rl_z x) (rl_z y) (m + 1) on (nI i) w b a1 a2 a3 a4 a5 a6 a7 a8 a9 a10 a11 a12 := by
  have hx : -16 ≤ x ∧ x ≤ 15 := ⟨by have := hb.1; have := hin.1; omega, by have := hb.2.2.1; have := hin.2.1; omega⟩
  have hy : -16 ≤ y ∧ y ≤ 15 := ⟨by have := hb.2.2.2.1; have := hin.2.2.1; omega, by have := hb.2.2.2.2.2; have := hin.2.2.2; omega⟩
  intro m
  induction m with
  | zero =>
    intro i on w b a2 a3 a4 a5 a6 a7 a8 a9 a10 a11 a12 h hon
    obtain rfl : i = 5 := by omega
    exact pk_le 5 5 (fun _ => nm_r (rl_p1 y) (H _ _ _ _ _ _ _ _ _ _ _ _ _ _ hon)) (fun z => absurd z (by omega))
  | succ m ih =>
    intro i on w b a2 a3 a4 a5 a6 a7 a8 a9 a10 a11 a12 h hon
    refine pk_le 5 i (fun z => absurd z (by omega)) (fun _ => rl_unit hN hB (by omega) hx hy (fun wc bc c2 c3 c4 c5 c6 c7 c8 c9 c10 c11 c12 => ?_))
    have hR := rl_vB hB i (rl_inB hx.1 hx.2) (rl_inB hy.1 hy.2)
    refine rl_ble (rl_r (rl_v N i x y)) 0 (rl_BR (rl_rB hR) (by decide)) rl_R0 (fun p => nm_e (nm_r (nI_1 i) (ih (i + 1) _ _ _ _ _ _ _ _ _ _ _ _ _ _ (by omega) (rl_onz hon)))) (fun p => nm_e (nm_r (nI_1 i) (ih (i + 1) _ _ _ _ _ _ _ _ _ _ _ _ _ _ (by omega) (rl_onu hon (by omega) hin ?_))))
    rcases Int.lt_or_le 0 (rl_v N i x y) with e | e
    · exact e
    · rw [rl_r0 e] at p
      exact absurd p (by omega)
theorem rl_h192 {post : Int32 → St1 → Prop} {J1 : Int32 → Int32 → Int32 → Int32 → (Nat → Int32) → (Nat → Int32) → (Nat → Int32) → (Nat → Int32) → (Nat → Int32) → (Nat → Int32) → (Nat → Int32) → (Nat → Int32) → (Nat → Int32) → (Nat → Int32) → (Nat → Int32) → (Nat → Int32) → Prop}
    {x2 x3 x5 x6 : Int32} {N : Nat → Int} (hN : ∀ j, a1 j = rl_z (N j)) (hB : rl_NB N) {B : rl_Bx} (hb : rl_bk B) {mx mn : Int} (hmx : rl_top N 5 1 B mx) (hmn : rl_top N 5 (-1) B mn) {x : Int} (hx : B.1 ≤ x ∧ x ≤ B.2.1)
    (H : ∀ (on wc bc : Int32) (c2 c3 c4 c5 c6 c7 c8 c9 c10 c11 c12 : Nat → Int32), rl_on N B on → J1 on (rl_z (x + 1)) wc bc a1 c2 c3 c4 c5 c6 c7 c8 c9 c10 c11 c12) :
    ∀ (m : Nat) (y : Int) (on w b : Int32) (a2 a3 a4 a5 a6 a7 a8 a9 a10 a11 a12 : Nat → Int32), y + m = B.2.2.2 + 1 → B.2.2.1 ≤ y → rl_on N B on → wL_holds_192 post J1 x2 x3 (rl_z B.2.2.2) x5 x6 (rl_z mx) (rl_z (-mn)) (rl_z x) (m + 1) on (rl_z y) w b a1 a2 a3 a4 a5 a6 a7 a8 a9 a10 a11 a12 := by
  obtain ⟨g1, g2, g3, g4, g5, g6⟩ := id hb
  have Rx := rl_topR hB (Or.inl rfl) hb hmx.1
  have Rn := rl_topR hB (Or.inr rfl) hb hmn.1
  have hx' : -16 ≤ x ∧ x ≤ 15 := ⟨by omega, by omega⟩
  intro m
  induction m with
  | zero =>
    intro y on w b a2 a3 a4 a5 a6 a7 a8 a9 a10 a11 a12 h hy hon
    exact rl_blt B.2.2.2 y ⟨by omega, by omega⟩ ⟨by omega, by omega⟩ (fun _ => nm_r (rl_p1 x) (H _ _ _ _ _ _ _ _ _ _ _ _ _ _ hon)) (fun z => absurd z (by omega))
  | succ m ih =>
    intro y on w b a2 a3 a4 a5 a6 a7 a8 a9 a10 a11 a12 h hy hon
    have hy' : -16 ≤ y ∧ y ≤ 15 := ⟨by omega, by omega⟩
    have hin : rl_in B x y := ⟨hx.1, hx.2, hy, by omega⟩
    refine rl_blt B.2.2.2 y ⟨by omega, by omega⟩ ⟨by omega, by omega⟩ (fun z => absurd z (by omega)) (fun _ => rl_result hN hB hx' hy' (fun wc bc c2 c3 c4 c5 c6 c7 c8 c9 c10 c11 c12 => ?_))
    have hv := rl_BR (rl_vB hB 5 (rl_inB hx'.1 hx'.2) (rl_inB hy'.1 hy'.2)) (by decide)
    have v1 := hmx.2 x y hin
    have v2 := hmn.2 x y hin
    refine rl_blt (rl_v N 5 x y) (-mn) hv ⟨by have := Rn.2; omega, by have := Rn.1; omega⟩ (fun z => absurd z (by omega)) (fun _ => rl_ble (rl_v N 5 x y) mx hv (rl_BR Rx (by decide)) (fun _ => ⟨6, ?_⟩) (fun z => absurd z (by omega)))
    exact rl_h228 hN hB hb hin (fun on2 wd bd d2 d3 d4 d5 d6 d7 d8 d9 d10 d11 d12 hon2 => ih (y + 1) _ _ _ _ _ _ _ _ _ _ _ _ _ _ (by omega) (by omega) hon2) 5 0 _ _ _ _ _ _ _ _ _ _ _ _ _ _ (by omega) hon
theorem rl_h183 {post : Int32 → St1 → Prop} {N : Nat → Int} (hN : ∀ j, a1 j = rl_z (N j)) (hB : rl_NB N) {B : rl_Bx} (hb : rl_bk B) {mx mn : Int} (hmx : rl_top N 5 1 B mx) (hmn : rl_top N 5 (-1) B mn)
    (H : ∀ (wc bc : Int32) (c2 c3 c4 c5 c6 c7 c8 c9 c10 c11 c12 : Nat → Int32), post 1 (wc, bc, a1, c2, c3, c4, c5, c6, c7, c8, c9, c10, c11, c12)) :
    ∀ (m : Nat) (x : Int) (on w b : Int32) (a2 a3 a4 a5 a6 a7 a8 a9 a10 a11 a12 : Nat → Int32), x + m = B.2.1 + 1 → B.1 ≤ x → rl_on N B on →
      wL_holds_183 post (rl_z B.2.1) (rl_z B.2.2.1) (rl_z B.2.2.2) (rl_cd B.1 B.2.1) (rl_cd B.2.2.1 B.2.2.2) (rl_z mx) (rl_z (-mn)) (m + 1) on (rl_z x) w b a1 a2 a3 a4 a5 a6 a7 a8 a9 a10 a11 a12 := by
  obtain ⟨g1, g2, g3, g4, g5, g6⟩ := id hb
  intro m
  induction m with
  | zero =>
    intro x on w b a2 a3 a4 a5 a6 a7 a8 a9 a10 a11 a12 h hx hon
    exact rl_blt B.2.1 x ⟨by omega, by omega⟩ ⟨by omega, by omega⟩ (fun _ => ⟨6, rl_h281 hN hB hb hon H 5 0 _ _ _ _ _ _ _ _ _ _ _ _ _ (by omega)⟩) (fun z => absurd z (by omega))
  | succ m ih =>
    intro x on w b a2 a3 a4 a5 a6 a7 a8 a9 a10 a11 a12 h hx hon
    refine rl_blt B.2.1 x ⟨by omega, by omega⟩ ⟨by omega, by omega⟩ (fun z => absurd z (by omega)) (fun _ => ⟨(B.2.2.2 + 1 - B.2.2.1).toNat + 1, ?_⟩)
    exact rl_h192 hN hB hb hmx hmn ⟨hx, by omega⟩ (fun on2 wd bd d2 d3 d4 d5 d6 d7 d8 d9 d10 d11 d12 hon2 => ih (x + 1) _ _ _ _ _ _ _ _ _ _ _ _ _ _ (by omega) (by omega) hon2) (B.2.2.2 + 1 - B.2.2.1).toNat B.2.2.1 _ _ _ _ _ _ _ _ _ _ _ _ _ _ (by omega) (Int.le_refl _) hon
theorem rl_h147 {post : Int32 → St1 → Prop} {N : Nat → Int} (hN : ∀ j, a1 j = rl_z (N j)) (hB : rl_NB N) {B : rl_Bx} (hb : rl_bk B) {mx mn : Int} (hmx : rl_top N 5 1 B mx) (hmn : rl_top N 5 (-1) B mn)
    (H : ∀ (wc bc : Int32) (c2 c3 c4 c5 c6 c7 c8 c9 c10 c11 c12 : Nat → Int32), post 1 (wc, bc, a1, c2, c3, c4, c5, c6, c7, c8, c9, c10, c11, c12)) (z w b : Int32) (a2 a3 a4 a5 a6 a7 a8 a9 a10 a11 a12 : Nat → Int32) :
      wL_holds_147 post (rl_z B.1) (rl_z B.2.1) (rl_z B.2.2.1) (rl_z B.2.2.2) (rl_cd B.1 B.2.1) (rl_cd B.2.2.1 B.2.2.2) (rl_z mx) (rl_z (-mn)) z z w b a1 a2 a3 a4 a5 a6 a7 a8 a9 a10 a11 a12 := by
  unfold wL_holds_147
  refine br_t rfl (rl_patterns hN hB hb (fun c wc bc c2 c3 c4 c5 c6 c7 c8 c9 c10 c11 c12 h1 h2 => br_f (nI_nlt (b := 1) h1 (by omega)) (br_t (nI_le (b := 32) h2 (by omega)) ⟨(B.2.1 + 1 - B.1).toNat + 1, ?_⟩)))
  obtain ⟨g1, g2, g3, g4, g5, g6⟩ := id hb
  exact rl_h183 hN hB hb hmx hmn H (B.2.1 + 1 - B.1).toNat B.1 0 _ _ _ _ _ _ _ _ _ _ _ _ _ (by omega) (Int.le_refl _) (rl_on0 N B)
theorem rl_holds {post : Int32 → St1 → Prop} {N : Nat → Int} (hN : ∀ j, a1 j = rl_z (N j)) (hB : rl_NB N) {B : rl_Bx} (hb : rl_bk B) (H : ∀ (wc bc : Int32) (c2 c3 c4 c5 c6 c7 c8 c9 c10 c11 c12 : Nat → Int32), post 1 (wc, bc, a1, c2, c3, c4, c5, c6, c7, c8, c9, c10, c11, c12)) (w b : Int32) (a2 a3 a4 a5 a6 a7 a8 a9 a10 a11 a12 : Nat → Int32) :
    wpL_holds post (w, b, a1, a2, a3, a4, a5, a6, a7, a8, a9, a10, a11, a12) (rl_z B.1) (rl_z B.2.1) (rl_z B.2.2.1) (rl_z B.2.2.2) := by
  obtain ⟨g1, g2, g3, g4, g5, g6⟩ := id hb
  refine nm_r (rl_cdz B.1 B.2.1) (nm_r (rl_cdz B.2.2.1 B.2.2.2) ?_)
  refine rl_most hN hB hb (fun mx wc bc c2 c3 c4 c5 c6 c7 c8 c9 c10 c11 c12 hmx => ?_)
  refine rl_least hN hB hb (fun mn wd bd d2 d3 d4 d5 d6 d7 d8 d9 d10 d11 d12 hmn => ?_)
  refine rl_mostAt hN hB hb (fun we be e2 e3 e4 e5 e6 e7 e8 e9 e10 e11 e12 x y hin htop => ?_)
  obtain ⟨q1, q2, q3, q4⟩ := id hin
  dsimp only
  rw [rl_cdh (by omega) (by omega) (by omega) (by omega), rl_cdl (by omega) (by omega) (by omega) (by omega)]
  refine rl_result hN hB ⟨by omega, by omega⟩ ⟨by omega, by omega⟩ (fun wf bf f2 f3 f4 f5 f6 f7 f8 f9 f10 f11 f12 => ?_)
  have emx : rl_v N 5 x y = mx := by
    obtain ⟨x', y', hin', e'⟩ := hmx.1
    have h1 := htop.2 x' y' hin'
    have h2 := hmx.2 x y hin
    omega
  have Rx := rl_topR hB (Or.inl rfl) hb hmx.1
  have tmx : (rl_z mx).toInt = mx := rl_ti (rl_BR Rx (by decide))
  refine br_t (by rw [emx]) ?_
  refine rl_safe hN hB hb (fun wg bg g2 g3 g4 g5 g6 g7 g8 g9 g10 g11 g12 h => ?_) (fun wg bg g2 g3 g4 g5 g6 g7 g8 g9 g10 g11 g12 h => ?_)
  · refine br_t rfl (And.intro (by decide) (nm_e ?_))
    refine rl_safe hN hB hb (fun wi bi i2 i3 i4 i5 i6 i7 i8 i9 i10 i11 i12 h1 => br_t rfl ?_) (fun wi bi i2 i3 i4 i5 i6 i7 i8 i9 i10 i11 i12 h0 => br_f (by decide) ?_)
    · unfold wL_holds_127
      exact rl_breach hN hB hb (fun wj bj j2 j3 j4 j5 j6 j7 j8 j9 j10 j11 j12 _ => br_t rfl (rl_h147 hN hB hb hmx hmn H _ _ _ _ _ _ _ _ _ _ _ _ _ _)) (fun r wj bj j2 j3 j4 j5 j6 j7 j8 j9 j10 j11 j12 h0 _ => absurd h1 h0)
    · unfold wL_holds_127
      exact rl_breach hN hB hb (fun wj bj j2 j3 j4 j5 j6 j7 j8 j9 j10 j11 j12 h1 => absurd h1 h0) (fun r wj bj j2 j3 j4 j5 j6 j7 j8 j9 j10 j11 j12 _ hr => br_f hr (rl_h147 hN hB hb hmx hmn H _ _ _ _ _ _ _ _ _ _ _ _ _ _))
  · exfalso
    apply h
    intro x' y' hin'
    have := hmx.2 x' y' hin'
    rw [tmx]
    omega
end
end
section
/-! ===== set, sow ===== -/
def rl_ok (a1 : Nat → Int32) : Prop := rl_NB (fun j => (a1 j).toInt)
def rl_off (p : Nat) : Prop := (6 ≤ p ∧ p ≤ 8) ∨ p = 15 ∨ p = 16 ∨ p = 19
theorem rl_okU {a1 : Nat → Int32} (h : rl_ok a1) {p : Nat} {z : Int} (h50 : rl_B 50 z) (h5 : ¬ rl_off p → rl_B 5 z) : rl_ok (upd a1 p (rl_z z)) := by
  have ez : (rl_z z).toInt = z := rl_ti (rl_BR h50 (by decide))
  obtain ⟨n1, n2, n3, n4⟩ := h
  refine ⟨fun j hj => ?_, fun j hj => ?_, fun j hj hj2 => ?_, fun j hj hj2 => ?_⟩
  · show rl_B 50 (upd a1 p (rl_z z) j).toInt
    by_cases e : j = p
    · rw [e, pk_us, ez]
      exact h50
    · rw [pk_un e]
      exact n1 j hj
  · show rl_B 5 (upd a1 p (rl_z z) j).toInt
    by_cases e : j = p
    · rw [e, pk_us, ez]
      exact h5 (by unfold rl_off; omega)
    · rw [pk_un e]
      exact n2 j hj
  · show rl_B 5 (upd a1 p (rl_z z) j).toInt
    by_cases e : j = p
    · rw [e, pk_us, ez]
      exact h5 (by unfold rl_off; omega)
    · rw [pk_un e]
      exact n3 j hj hj2
  · show rl_B 5 (upd a1 p (rl_z z) j).toInt
    by_cases e : j = p
    · rw [e, pk_us, ez]
      exact h5 (by unfold rl_off; omega)
    · rw [pk_un e]
      exact n4 j hj hj2
theorem rl_o12 {post : Int32 → Prop} {p : Nat} (hp : p < 20) (h : ¬ (6 ≤ p ∧ p ≤ 8)) (H1 : rl_off p → post 1) (H0 : ¬ rl_off p → post 0) : wX_isOffset_12 post (nI p) :=
  pk_eq p 15 (fun e => H1 (Or.inr (Or.inl e))) (fun e => pk_eq p 16 (fun e2 => H1 (Or.inr (Or.inr (Or.inl e2)))) (fun e2 => pk_eq p 19 (fun e3 => H1 (Or.inr (Or.inr (Or.inr e3)))) (fun e3 => H0 (by unfold rl_off; omega))))
theorem rl_isOffset {post : Int32 → Prop} {p : Nat} (hp : p < 20) (H1 : rl_off p → post 1) (H0 : ¬ rl_off p → post 0) : wpX_isOffset post () (nI p) :=
  pk_lt p 6 (fun e => rl_o12 hp (by omega) H1 H0) (fun e => pk_le p 8 (fun e2 => H1 (Or.inl ⟨e, e2⟩)) (fun e2 => rl_o12 hp (by omega) H1 H0))
/-- a mask, then a remainder -/
theorem rl_rem (x : Int32) {m D : Int32} (k d : Nat) (hm : m.toBitVec.toNat = 2 ^ k - 1) (hk : k ≤ 30) (h0 : 0 < d) (hd : d < 2 ^ 31) (hD : D = nI d := by rfl) : ∃ j : Nat, j < d ∧ (x &&& m) - (x &&& m) / D * D = nI j := by
  obtain ⟨j, hj, e⟩ := pk_andE x k hm
  have : 2 ^ k ≤ 2 ^ 30 := Nat.pow_le_pow_right (by omega) hk
  refine ⟨j % d, Nat.mod_lt _ h0, ?_⟩
  rw [e, hD]
  exact pk_rem (by omega) h0 hd
theorem rl_rs {a d : Nat} {x D : Int32} (c : Nat) {C : Int32} (hx : x = nI a) (ha : a < 2 ^ 31) (h0 : 0 < d) (hd : d < 2 ^ 31) (hD : D = nI d := by rfl) (hC : C = rl_z (c : Int) := by rfl) : x - x / D * D - C = rl_z (((a % d : Nat) : Int) - (c : Int)) := by
  rw [hx, hD, pk_rem ha h0 hd, rl_nat, hC, rl_sub]
theorem rl_ns {j : Nat} (c : Nat) {x C : Int32} (hx : x = nI j) (hC : C = rl_z (c : Int) := by rfl) : x - C = rl_z ((j : Int) - (c : Int)) := by
  rw [hx, rl_nat, hC, rl_sub]
section
variable {w b : Int32} {a1 a2 a3 a4 a5 a6 a7 a8 a9 a10 a11 a12 : Nat → Int32}
theorem rl_set25 {post : Int32 → St1 → Prop} {p : Nat} (hp : p < 20) {z lim : Int} (hz : rl_B 50 z) (hl : rl_B 50 lim) (H0 : ∀ r, post r (w, b, a1, a2, a3, a4, a5, a6, a7, a8, a9, a10, a11, a12)) (H1 : ∀ r, rl_B lim z → post r (w, b, upd a1 p (rl_z z), a2, a3, a4, a5, a6, a7, a8, a9, a10, a11, a12)) : wX_set_25 post (nI p) (rl_z z) (rl_z lim) w b a1 a2 a3 a4 a5 a6 a7 a8 a9 a10 a11 a12 := by
  unfold wX_set_25
  refine rl_blt z (-lim) (rl_BR hz (by decide)) ⟨by have := hl.2; omega, by have := hl.1; omega⟩ (fun _ => H0 _) (fun q => rl_ble z lim (rl_BR hz (by decide)) (rl_BR hl (by decide)) (fun q2 => ⟨pk_in p 20 hp, br_c (fun _ => ?_) (fun _ => ?_)⟩) (fun _ => H0 _)) rfl (rl_neg lim)
  · exact And.intro (pk_in p 20 hp) (nm_r (by rw [rl_ck (by omega)]) (H1 _ ⟨q, q2⟩))
  · exact And.intro (pk_in p 20 hp) (nm_r (by rw [rl_ck (by omega)]) (H1 _ ⟨q, q2⟩))
theorem rl_set {post : Int32 → St1 → Prop} {p : Nat} (hp : p < 20) {z : Int} (hz : rl_B 50 z) (hok : rl_ok a1) (H : ∀ r c1, rl_ok c1 → post r (w, b, c1, a2, a3, a4, a5, a6, a7, a8, a9, a10, a11, a12)) : wpX_set post (w, b, a1, a2, a3, a4, a5, a6, a7, a8, a9, a10, a11, a12) (nI p) (rl_z z) := by
  unfold wpX_set
  refine br_f (nI_pos (by omega)) (pk_le p 19 (fun _ => rl_isOffset hp (fun ho => ?_) (fun ho => ?_)) (fun q => absurd q (by omega)))
  · exact br_f (by decide) (rl_set25 (lim := 50) hp hz ⟨by decide, by decide⟩ (fun r => H r a1 hok) (fun r h => H r _ (rl_okU hok hz (fun n => absurd ho n))))
  · exact br_t rfl (rl_set25 (lim := 5) hp hz ⟨by decide, by decide⟩ (fun r => H r a1 hok) (fun r h => H r _ (rl_okU hok hz (fun _ => h))))
theorem rl_sow {post : Int32 → St1 → Prop} {s t : Nat} (hs : s ≤ 100) (ht : t ≤ 20) (hok : rl_ok a1) (H : ∀ c1, rl_ok c1 → post 0 (w, b, c1, a2, a3, a4, a5, a6, a7, a8, a9, a10, a11, a12)) : wpX_sow post (w, b, a1, a2, a3, a4, a5, a6, a7, a8, a9, a10, a11, a12) (nI s) (nI t) := by
  unfold wpX_sow
  refine br_f (nI_pos (by omega)) (pk_le s 100 (fun _ => br_f (nI_pos (by omega)) (pk_le t 20 (fun _ => ?_) (fun q => absurd q (by omega)))) (fun q => absurd q (by omega)))
  refine pk_loop (fun n i s' => wX_sow_27 post (nI s) (nI t) w b n (nI i) s' a2 a3 a4 a5 a6 a7 a8 a9 a10 a11 a12) (fun _ s' => rl_ok s') 20 0 a1 (by omega) hok ?_ ?_
  · intro n s' h
    exact pk_le 20 20 (fun _ => H s' h) (fun q => absurd q (by omega))
  · intro n i s' hi h hw
    have b1 : t * i ≤ 20 * 19 := Nat.mul_le_mul ht (by omega)
    have b2 : i * i * t ≤ 19 * 19 * 20 := Nat.mul_le_mul (Nat.mul_le_mul (by omega) (by omega)) ht
    have x1 : (nI s * 7 + 5 * nI i) + nI t * nI i = nI (s * 7 + 5 * i + t * i) := by
      rw [show nI s * 7 = nI (s * 7) from pk_mul s 7, show 5 * nI i = nI (5 * i) from pk_mul 5 i, pk_mul, nI_add, nI_add]
    have x2 : (nI s + 3 * nI i) + nI i * nI i * nI t = nI (s + 3 * i + i * i * t) := by
      rw [show 3 * nI i = nI (3 * i) from pk_mul 3 i, pk_mul, pk_mul, nI_add, nI_add]
    have m1 := Nat.mod_lt (s * 7 + 5 * i + t * i) (show 0 < 41 by omega)
    have m2 := Nat.mod_lt (s + 3 * i + i * i * t) (show 0 < 11 by omega)
    refine pk_le 20 i (fun q => absurd q (by omega)) (fun _ => ⟨by decide, nm_r (rl_rs (d := 41) 20 x1 (by omega) (by omega) (by omega)) ⟨by decide, nm_r (rl_rs (d := 11) 5 x2 (by omega) (by omega) (by omega)) (rl_isOffset hi (fun ho => ?_) (fun ho => ?_))⟩⟩)
    · exact br_f (by decide) (And.intro (pk_in i 20 hi) (nm_r (by rw [rl_ck (by omega)]) (nm_r (nI_1 i) (hw _ (rl_okU h ⟨by omega, by omega⟩ (fun n => absurd ho n))))))
    · exact br_t rfl (And.intro (pk_in i 20 hi) (nm_r (by rw [rl_ck (by omega)]) (nm_r (nI_1 i) (hw _ (rl_okU h ⟨by omega, by omega⟩ (fun _ => ⟨by omega, by omega⟩))))))
/-! ===== one turn of the law ===== -/
theorem rl_cell {post : Int32 → Prop} {L : Nat} {xs : Nat → Int32} {k : Nat} {x : Int32} (hx : x = nI k) (hk : k < 2 ^ 31) (hL : L < 2 ^ 31) (H : ∀ r, post r) : wpL_cell post L xs () x := by
  subst hx
  exact pk_le L k (fun _ => H 0) (fun h => And.intro (pk_in k L h) (H _))
theorem rl_l221 {L : Nat} {xs : Nat → Int32} {J : Int32 → Int32 → Int32 → (Nat → Int32) → (Nat → Int32) → (Nat → Int32) → (Nat → Int32) → (Nat → Int32) → (Nat → Int32) → (Nat → Int32) → (Nat → Int32) → (Nat → Int32) → (Nat → Int32) → (Nat → Int32) → (Nat → Int32) → Prop} {k kc ks : Nat}
    (hok : rl_ok a1) {l0 h0 l1 h1 : Int} (hb : rl_bok l0 h0 l1 h1) (HJ : ∀ (wc bc : Int32) (c2 c3 c4 c5 c6 c7 c8 c9 c10 c11 c12 : Nat → Int32), J (nI (k + 2)) wc bc a1 c2 c3 c4 c5 c6 c7 c8 c9 c10 c11 c12) :
    wL_law_221 (fun r => r = 1) L xs J (nI k) (rl_z h1) (rl_z l1) (rl_z h0) (rl_z l0) kc ks w b a1 a2 a3 a4 a5 a6 a7 a8 a9 a10 a11 a12 := by
  unfold wL_law_221
  exact rl_holds (B := (l0, h0, l1, h1)) (N := fun j => (a1 j).toInt) (fun j => rl_of (a1 j)) hok hb (fun wc bc c2 c3 c4 c5 c6 c7 c8 c9 c10 c11 c12 => br_f (by decide) (nm_r (nI_add k 2) (HJ wc bc c2 c3 c4 c5 c6 c7 c8 c9 c10 c11 c12))) _ _ _ _ _ _ _ _ _ _ _ _ _
theorem rl_l127 {L : Nat} {xs : Nat → Int32} {J : Int32 → Int32 → Int32 → (Nat → Int32) → (Nat → Int32) → (Nat → Int32) → (Nat → Int32) → (Nat → Int32) → (Nat → Int32) → (Nat → Int32) → (Nat → Int32) → (Nat → Int32) → (Nat → Int32) → (Nat → Int32) → (Nat → Int32) → Prop} {k kc ks : Nat}
    (hok : rl_ok a1) (x3 x4 : Int32) (HJ : ∀ (wc bc : Int32) (c2 c3 c4 c5 c6 c7 c8 c9 c10 c11 c12 : Nat → Int32), J (nI (k + 2)) wc bc a1 c2 c3 c4 c5 c6 c7 c8 c9 c10 c11 c12) :
    wL_law_127 (fun r => r = 1) L xs J (nI k) x3 x4 kc ks w b a1 a2 a3 a4 a5 a6 a7 a8 a9 a10 a11 a12 := by
  obtain ⟨p, hp, ep⟩ := pk_andE (x4 >>> ((12 : Int32) &&& 31)) (m := 31) 5 (by decide)
  obtain ⟨q, hq, eq⟩ := pk_andE (x4 >>> ((17 : Int32) &&& 31)) (m := 31) 5 (by decide)
  obtain ⟨e, he, ee⟩ := pk_andE (x4 >>> ((22 : Int32) &&& 31)) (m := 7) 3 (by decide)
  obtain ⟨f, hf, ef⟩ := pk_andE (x4 >>> ((25 : Int32) &&& 31)) (m := 7) 3 (by decide)
  refine nm_r (rl_ns 16 ep) (nm_r (rl_ns 16 eq) (nm_r (e' := rl_z ((p : Int) - 16 + e)) (by rw [ee, rl_nat, rl_add]; rfl) (nm_r (e' := rl_z ((q : Int) - 16 + f)) (by rw [ef, rl_nat, rl_add]; rfl) (br_c (fun _ => ?_) (fun _ => nm_r (nI_add k 2) (HJ _ _ _ _ _ _ _ _ _ _ _ _ _))))))
  refine rl_ble ((p : Int) - 16 + e) 15 ⟨by omega, by omega⟩ ⟨by decide, by decide⟩ (fun g => ?_) (fun g => ?_)
  · refine rl_ble ((q : Int) - 16 + f) 15 ⟨by omega, by omega⟩ ⟨by decide, by decide⟩ (fun g2 => ?_) (fun g2 => ?_)
    · exact rl_l221 hok ⟨by omega, by omega, by omega, by omega, by omega, by omega⟩ HJ
    · exact rl_l221 (h1 := 15) hok ⟨by omega, by omega, by omega, by omega, by omega, by omega⟩ HJ
  · refine rl_ble ((q : Int) - 16 + f) 15 ⟨by omega, by omega⟩ ⟨by decide, by decide⟩ (fun g2 => ?_) (fun g2 => ?_)
    · exact rl_l221 (h0 := 15) hok ⟨by omega, by omega, by omega, by omega, by omega, by omega⟩ HJ
    · exact rl_l221 (h0 := 15) (h1 := 15) hok ⟨by omega, by omega, by omega, by omega, by omega, by omega⟩ HJ
end
theorem rl_holdsE {post : Int32 → St1 → Prop} {a1 : Nat → Int32} (hok : rl_ok a1) {l0 h0 l1 h1 : Int} (hb : rl_bok l0 h0 l1 h1) {p1 p2 p3 p4 : Int32} (e1 : p1 = rl_z l0) (e2 : p2 = rl_z h0) (e3 : p3 = rl_z l1) (e4 : p4 = rl_z h1) (H : ∀ (wc bc : Int32) (c2 c3 c4 c5 c6 c7 c8 c9 c10 c11 c12 : Nat → Int32), post 1 (wc, bc, a1, c2, c3, c4, c5, c6, c7, c8, c9, c10, c11, c12)) (w b : Int32) (a2 a3 a4 a5 a6 a7 a8 a9 a10 a11 a12 : Nat → Int32) : wpL_holds post (w, b, a1, a2, a3, a4, a5, a6, a7, a8, a9, a10, a11, a12) p1 p2 p3 p4 := by
  subst e1 e2 e3 e4
  exact rl_holds (B := (l0, h0, l1, h1)) (N := fun j => (a1 j).toInt) (fun j => rl_of (a1 j)) hok hb H _ _ _ _ _ _ _ _ _ _ _ _ _
theorem rl_last {post : Int32 → St1 → Prop} {a1 : Nat → Int32} (hok : rl_ok a1) (H : ∀ (wc bc : Int32) (c2 c3 c4 c5 c6 c7 c8 c9 c10 c11 c12 : Nat → Int32), post 1 (wc, bc, a1, c2, c3, c4, c5, c6, c7, c8, c9, c10, c11, c12)) (w b : Int32) (a2 a3 a4 a5 a6 a7 a8 a9 a10 a11 a12 : Nat → Int32) : wpL_holds post (w, b, a1, a2, a3, a4, a5, a6, a7, a8, a9, a10, a11, a12) (-4) 3 (-3) 4 :=
  rl_holdsE (l0 := -4) (h0 := 3) (l1 := -3) (h1 := 4) hok ⟨by decide, by decide, by decide, by decide, by decide, by decide⟩ (by decide) (by decide) (by decide) (by decide) H _ _ _ _ _ _ _ _ _ _ _ _ _
theorem rl_l10 {L : Nat} {xs : Nat → Int32} (hL : L ≤ 260) {kc ks : Nat} : ∀ (m k : Nat) (w b : Int32) (a1 a2 a3 a4 a5 a6 a7 a8 a9 a10 a11 a12 : Nat → Int32), L ≤ k + 2 * m → k + 2 * m ≤ 1000 → rl_ok a1 → wL_law_10 (fun r => r = 1) L xs kc ks (m + 1) (nI k) w b a1 a2 a3 a4 a5 a6 a7 a8 a9 a10 a11 a12 := by
  intro m
  induction m with
  | zero =>
    intro k w b a1 a2 a3 a4 a5 a6 a7 a8 a9 a10 a11 a12 h h2 hok
    exact pk_le L k (fun _ => rl_last hok (fun _ _ _ _ _ _ _ _ _ _ _ _ _ => rfl) _ _ _ _ _ _ _ _ _ _ _ _ _) (fun z => absurd z (by omega))
  | succ m ih =>
    intro k w b a1 a2 a3 a4 a5 a6 a7 a8 a9 a10 a11 a12 h h2 hok
    refine pk_le L k (fun _ => rl_last hok (fun _ _ _ _ _ _ _ _ _ _ _ _ _ => rfl) _ _ _ _ _ _ _ _ _ _ _ _ _) (fun z => ?_)
    refine rl_cell rfl (by omega) (by omega) (fun c => rl_cell (nI_1 k) (by omega) (by omega) (fun d => ?_))
    obtain ⟨p, hp, ep⟩ := rl_rem (c >>> ((4 : Int32) &&& 31)) (m := 31) (D := 20) 5 20 (by decide) (by omega) (by omega) (by omega)
    have HJ : ∀ (a1 : Nat → Int32), rl_ok a1 → ∀ (wc bc : Int32) (c2 c3 c4 c5 c6 c7 c8 c9 c10 c11 c12 : Nat → Int32), wL_law_10 (fun r => r = 1) L xs kc ks (m + 1) (nI (k + 2)) wc bc a1 c2 c3 c4 c5 c6 c7 c8 c9 c10 c11 c12 := fun a1 ho wc bc c2 c3 c4 c5 c6 c7 c8 c9 c10 c11 c12 => ih (k + 2) _ _ _ _ _ _ _ _ _ _ _ _ _ _ (by omega) (by omega) ho
    refine nm_e (And.intro (by decide) (nm_r ep (br_c (fun _ => br_c (fun _ => And.intro (by decide) (And.intro (by decide) ?_)) (fun _ => And.intro (by decide) ?_)) (fun _ => And.intro (by decide) ?_))))
    · obtain ⟨s, hs, es⟩ := rl_rem d (m := 127) (D := 101) 7 101 (by decide) (by omega) (by omega) (by omega)
      obtain ⟨t, ht, et⟩ := rl_rem (d >>> ((7 : Int32) &&& 31)) (m := 31) (D := 21) 5 21 (by decide) (by omega) (by omega) (by omega)
      rw [es, et]
      exact rl_sow (by omega) (by omega) hok (fun c1 h1 => rl_l127 h1 c d (HJ c1 h1))
    · obtain ⟨s, hs, es⟩ := rl_rem d (m := 127) (D := 101) 7 101 (by decide) (by omega) (by omega) (by omega)
      rw [rl_ns 50 es]
      exact rl_set hp ⟨by omega, by omega⟩ hok (fun r c1 h1 => rl_l127 h1 c d (HJ c1 h1))
    · obtain ⟨s, hs, es⟩ := rl_rem d (m := 15) (D := 11) 4 11 (by decide) (by omega) (by omega) (by omega)
      rw [rl_ns 5 es]
      exact rl_set hp ⟨by omega, by omega⟩ hok (fun r c1 h1 => rl_l127 h1 c d (HJ c1 h1))
theorem i_vc (xs : Nat → Int32) (L : Nat) (hL : L ≤ 260) : wpL_law (fun r => r = 1) L xs := by
  refine ⟨12, 126, by omega, by omega, ?_⟩
  unfold wpX_init
  refine ⟨by omega, by omega, by omega, by omega, by omega, by omega, by omega, by omega, by omega, by omega, by omega, by omega, by omega, by omega, by omega, by omega, by omega, by omega, by omega, by omega, by omega, by omega, by omega, by omega, ⟨131, ?_⟩⟩
  refine rl_l10 hL 130 0 _ _ _ _ _ _ _ _ _ _ _ _ _ _ (by omega) (by omega) ?_
  have z : ∀ M : Int, 0 ≤ M → rl_B M ((0 : Int32).toInt) := fun M h => ⟨by show -M ≤ 0; omega, h⟩
  exact ⟨fun _ _ => z 50 (by decide), fun _ _ => z 5 (by decide), fun _ _ _ => z 5 (by decide), fun _ _ _ => z 5 (by decide)⟩
end
