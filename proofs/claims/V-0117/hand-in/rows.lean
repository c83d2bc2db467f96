section
/-! rows taken from kit/rows (starting texts) -/
theorem pk_us {f : Nat → Int32} {k : Nat} {x : Int32} : upd f k x k = x := if_pos rfl
theorem pk_un {f : Nat → Int32} {k j : Nat} {x : Int32} (h : j ≠ k) : upd f k x j = f j := if_neg h
theorem pk_uLs {f : Nat → Int64} {k : Nat} {x : Int64} : vp_updL f k x k = x := if_pos rfl
theorem pk_uLn {f : Nat → Int64} {k j : Nat} {x : Int64} (h : j ≠ k) : vp_updL f k x j = f j := if_neg h
theorem pk_sub {a b : Nat} (h : b ≤ a) : nI a - nI b = nI (a - b) := by
  obtain ⟨c, rfl⟩ : ∃ c, a = c + b := ⟨a - b, by omega⟩
  rw [← nI_add, Int32.add_sub_cancel, Nat.add_sub_cancel]
theorem pk_m1 (n : Nat) : nI (n + 1) + (-1) = nI n := by
  rw [← nI_1, Int32.add_assoc, show (1 : Int32) + (-1) = 0 from rfl, Int32.add_zero]
theorem pk_mul (a b : Nat) : nI a * nI b = nI (a * b) := (Int32.ofNat_mul a b).symm
theorem pk_sub_toInt {a b : Nat} (ha : a < 2 ^ 30) (hb : b < 2 ^ 30) : (nI a - nI b).toInt = (a : Int) - b := by
  rw [Int32.toInt_sub, nI_toInt (by omega), nI_toInt (by omega)]
  exact Int.bmod_eq_of_le (by omega) (by omega)
theorem pk_sneg {a b : Nat} (hb : b < 2 ^ 30) (h : a < b) : nI a - nI b < 0 := by
  rw [Int32.lt_iff_toInt_lt, pk_sub_toInt (by omega) hb, show (0 : Int32).toInt = 0 from by decide]
  omega
theorem pk_ix (x : Int32) {n : Nat} (hn : n < 2 ^ 31) : x < 0 ∨ nI n ≤ x ∨ ∃ j : Nat, j < n ∧ x = nI j := by
  by_cases h : x < 0
  · exact Or.inl h
  · obtain ⟨j, hj, rfl⟩ := nI_of h
    by_cases h2 : j < n
    · exact Or.inr (Or.inr ⟨j, h2, rfl⟩)
    · exact Or.inr (Or.inl (nI_le (by omega) hj))
theorem pk_le {x y : Int32} {A B : Prop} (a b : Nat) (f : a ≤ b → A) (g : b < a → B) (hx : x = nI a := by rfl) (hy : y = nI b := by rfl) (ha : a < 2 ^ 31 := by omega) (hb : b < 2 ^ 31 := by omega) : (x ≤ y → A) ∧ (¬ x ≤ y → B) := by
  subst hx hy
  rw [nI_leI ha hb]
  exact ⟨f, fun z => g (by omega)⟩
theorem pk_lt {x y : Int32} {A B : Prop} (a b : Nat) (f : a < b → A) (g : b ≤ a → B) (hx : x = nI a := by rfl) (hy : y = nI b := by rfl) (ha : a < 2 ^ 31 := by omega) (hb : b < 2 ^ 31 := by omega) : (x < y → A) ∧ (¬ x < y → B) := by
  subst hx hy
  rw [nI_ltI ha hb]
  exact ⟨f, fun z => g (by omega)⟩
theorem pk_eq {x y : Int32} {A B : Prop} (a b : Nat) (f : a = b → A) (g : a ≠ b → B) (hx : x = nI a := by rfl) (hy : y = nI b := by rfl) (ha : a < 2 ^ 31 := by omega) (hb : b < 2 ^ 31 := by omega) : (x = y → A) ∧ (¬ x = y → B) := by
  subst hx hy
  rw [nI_eq ha hb]
  exact ⟨f, g⟩
theorem pk_in {x : Int32} (n N : Nat) (h : n < N) (hx : x = nI n := by rfl) (hN : N < 2 ^ 31 := by omega) : vp_in x N := by
  subst hx
  exact vp_in_nI h hN
theorem pk_cl {x : Int32} (n : Nat) (hx : x = nI n := by rfl) (h : n < 2 ^ 31 := by omega) : x.toNatClampNeg = n := by
  subst hx
  exact nI_clamp h
theorem pk_lT {n : Nat} (h : n < 2 ^ 63) : (lN n).toInt = (n : Int) := lg_ofNat_toInt h
theorem pk_lLT {a b : Nat} (ha : a < 2 ^ 63) (hb : b < 2 ^ 63) : lN a < lN b ↔ a < b := by
  rw [Int64.lt_iff_toInt_lt, pk_lT ha, pk_lT hb]; omega
theorem pk_lLE {a b : Nat} (ha : a < 2 ^ 63) (hb : b < 2 ^ 63) : lN a ≤ lN b ↔ a ≤ b := by
  rw [Int64.le_iff_toInt_le, pk_lT ha, pk_lT hb]; omega
theorem pk_lEQ {a b : Nat} (ha : a < 2 ^ 63) (hb : b < 2 ^ 63) : lN a = lN b ↔ a = b := by
  rw [← Int64.toInt_inj, pk_lT ha, pk_lT hb]; omega
theorem pk_lOf {x : Int64} (h : ¬ x < 0) : ∃ k : Nat, k < 2 ^ 63 ∧ x = lN k := by
  rw [Int64.lt_iff_toInt_lt] at h
  have h0 : (0 : Int64).toInt = 0 := by decide
  have hx := Int64.toInt_lt x
  refine ⟨x.toInt.toNat, by omega, Int64.toInt_inj.mp ?_⟩
  rw [pk_lT (by omega)]
  omega
theorem pk_lDiv {a b : Nat} (ha : a < 2 ^ 63) (h0 : 0 < b) (hb : b < 2 ^ 63) : lN a / lN b = lN (a / b) := by
  apply Int64.toInt_inj.mp
  rw [lg_ldiv_nonneg (by rw [pk_lT ha]; omega) (by rw [pk_lT hb]; omega), pk_lT ha, pk_lT hb, pk_lT (Nat.lt_of_le_of_lt (Nat.div_le_self a b) ha)]
  rfl
theorem pk_lRem {a b : Nat} (ha : a < 2 ^ 63) (h0 : 0 < b) (hb : b < 2 ^ 63) : lN a - lN a / lN b * lN b = lN (a % b) := by
  rw [pk_lDiv ha h0 hb, lN_mul, lN_sub (Nat.div_mul_le_self a b)]
  exact congrArg lN (by have := Nat.div_add_mod' a b; omega)
theorem pk_loop {σ : Type} (W : Nat → Nat → σ → Prop) (I : Nat → σ → Prop) (e i0 : Nat) (s : σ) (hi : i0 ≤ e) (h0 : I i0 s) (hx : ∀ n s, I e s → W (n + 1) e s)
    (hs : ∀ n i s, i < e → I i s → (∀ s', I (i + 1) s' → W n (i + 1) s') → W (n + 1) i s) : ∃ n, W n i0 s :=
  ⟨e + 1, loop_i W I e hx hs (e + 1) i0 s hi (by omega) h0⟩
theorem pk_loopD {σ : Type} (W : Nat → Nat → σ → Prop) (I : Nat → σ → Prop) (hx : ∀ n s, I 0 s → W (n + 1) 0 s)
    (hs : ∀ n i s, I (i + 1) s → (∀ s', I i s' → W n i s') → W (n + 1) (i + 1) s) : ∀ (e : Nat) (s : σ), I e s → W (e + 1) e s := by
  intro e
  induction e with
  | zero => exact fun s h => hx 0 s h
  | succ e ih => exact fun s h => hs (e + 1) e s h (fun s' h' => ih s' h')
theorem pk_least (P : Nat → Prop) (h : ∃ k, P k) : ∃ k, P k ∧ ∀ j, j < k → ¬ P j := by
  obtain ⟨k, hk⟩ := h
  induction k using Nat.strongRecOn with
  | ind k ih =>
    by_cases e : ∃ j, j < k ∧ P j
    · obtain ⟨j, hj, pj⟩ := e
      exact ih j hj pj
    · exact ⟨k, hk, fun j hj pj => e ⟨j, hj, pj⟩⟩
theorem wb_tb (n : Nat) : (lN n).toBitVec = BitVec.ofNat 64 n := rfl
theorem wb_inj {a b : Int64} (h : a.toBitVec = b.toBitVec) : a = b := Int64.toBitVec_inj.mp h
theorem wb_c : ∀ k, k < 64 → ((nI k).toInt64 &&& 63) = lN k := by decide +kernel
theorem wb_sm : ∀ k, k < 64 → (BitVec.ofNat 64 k).smod 64 = BitVec.ofNat 64 k := by decide +kernel
theorem wb_shl (n : Nat) {k : Nat} (hk : k < 64) : lN n <<< ((nI k).toInt64 &&& 63) = lN (n * 2 ^ k) := by
  rw [wb_c k hk]
  apply wb_inj
  rw [Int64.toBitVec_shiftLeft, wb_tb, wb_tb, wb_tb, wb_sm k hk]
  apply BitVec.eq_of_toNat_eq
  rw [BitVec.shiftLeft_eq', BitVec.toNat_shiftLeft, BitVec.toNat_ofNat, BitVec.toNat_ofNat, BitVec.toNat_ofNat, Nat.mod_eq_of_lt (show k < 2 ^ 64 by omega), Nat.shiftLeft_eq, Nat.mul_mod, Nat.mod_mod, ← Nat.mul_mod]
end
section
/-! Int64 and Int32 as images of Int: sums and products without conditions, comparisons and quotients within bounds -/
def zL (z : Int) : Int64 := Int64.ofInt z
def zI (z : Int) : Int32 := Int32.ofInt z
def zB (z : Int) : Prop := -4611686018427387904 ≤ z ∧ z ≤ 4611686018427387904
def zb (z : Int) : Prop := -1073741824 ≤ z ∧ z ≤ 1073741824
theorem zL_add (a b : Int) : zL a + zL b = zL (a + b) := (Int64.ofInt_add a b).symm
theorem zL_sub (a b : Int) : zL a - zL b = zL (a - b) := (Int64.ofInt_sub a b).symm
theorem zL_mul (a b : Int) : zL a * zL b = zL (a * b) := (Int64.ofInt_mul a b).symm
theorem zL_neg (a : Int) : -zL a = zL (-a) := (Int64.ofInt_neg a).symm
theorem zL_0 : (0 : Int64) = zL 0 := rfl
theorem zL_1 : (1 : Int64) = zL 1 := rfl
theorem zL_m1 : (-1 : Int64) = zL (-1) := rfl
theorem zI_add (a b : Int) : zI a + zI b = zI (a + b) := (Int32.ofInt_add a b).symm
theorem zI_sub (a b : Int) : zI a - zI b = zI (a - b) := (Int32.ofInt_sub a b).symm
theorem zI_mul (a b : Int) : zI a * zI b = zI (a * b) := (Int32.ofInt_mul a b).symm
theorem zI_neg (a : Int) : -zI a = zI (-a) := (Int32.ofInt_neg a).symm
theorem zI_0 : (0 : Int32) = zI 0 := rfl
theorem zI_1 : (1 : Int32) = zI 1 := rfl
theorem zI_m1 : (-1 : Int32) = zI (-1) := rfl
theorem zI_n (n : Nat) : nI n = zI (n : Int) := (Int32.ofInt_eq_ofNat).symm
theorem zL_n (n : Nat) : lN n = zL (n : Int) := (Int64.ofInt_eq_ofNat).symm
theorem zL_T {z : Int} (h : zB z) : (zL z).toInt = z := by
  have h1 := h.1
  have h2 := h.2
  exact Int64.toInt_ofInt_of_le (by omega) (by omega)
theorem zI_T {z : Int} (h : zb z) : (zI z).toInt = z := by
  have h1 := h.1
  have h2 := h.2
  exact Int32.toInt_ofInt_of_le (by omega) (by omega)
theorem zL_of (x : Int64) : x = zL x.toInt := (Int64.ofInt_toInt x).symm
theorem zI_of (x : Int32) : x = zI x.toInt := (Int32.ofInt_toInt x).symm
theorem zL_lt {a b : Int} (ha : zB a) (hb : zB b) : zL a < zL b ↔ a < b := by
  rw [Int64.lt_iff_toInt_lt, zL_T ha, zL_T hb]
theorem zL_le {a b : Int} (ha : zB a) (hb : zB b) : zL a ≤ zL b ↔ a ≤ b := by
  rw [Int64.le_iff_toInt_le, zL_T ha, zL_T hb]
theorem zL_eq {a b : Int} (ha : zB a) (hb : zB b) : zL a = zL b ↔ a = b := by
  rw [← Int64.toInt_inj, zL_T ha, zL_T hb]
theorem zI_lt {a b : Int} (ha : zb a) (hb : zb b) : zI a < zI b ↔ a < b := by
  rw [Int32.lt_iff_toInt_lt, zI_T ha, zI_T hb]
theorem zI_le {a b : Int} (ha : zb a) (hb : zb b) : zI a ≤ zI b ↔ a ≤ b := by
  rw [Int32.le_iff_toInt_le, zI_T ha, zI_T hb]
theorem zI_eq {a b : Int} (ha : zb a) (hb : zb b) : zI a = zI b ↔ a = b := by
  rw [← Int32.toInt_inj, zI_T ha, zI_T hb]
theorem zI_L {z : Int} (h : zb z) : (zI z).toInt64 = zL z := by
  have h1 := h.1
  have h2 := h.2
  have e1 : Int32.minValue.toInt = -2147483648 := by decide
  have e2 : Int32.maxValue.toInt = 2147483647 := by decide
  exact Int32.toInt64_ofInt (by omega) (by omega)
theorem zL_I (z : Int) : (zL z).toInt32 = zI z := Int64.toInt32_ofInt
theorem zB_0 : zB 0 := by unfold zB; omega
theorem zB_1 : zB 1 := by unfold zB; omega
theorem zb_0 : zb 0 := by unfold zb; omega
theorem zb_1 : zb 1 := by unfold zb; omega
theorem zb_n {n : Nat} (h : n ≤ 1073741824) : zb (n : Int) := by unfold zb; omega
theorem zL_div {a b q : Int} (ha : zB a) (hb : zB b) (hb0 : b ≠ 0) (h : a = q * b) : zL a / zL b = zL q := by
  have a1 := ha.1
  have a2 := ha.2
  have b1 := hb.1
  have b2 := hb.2
  have e1 : Int64.minValue.toInt = -9223372036854775808 := by decide
  have e2 : Int64.maxValue.toInt = 9223372036854775807 := by decide
  have e := Int64.ofInt_tdiv (a := a) (b := b) (by omega) (by omega) (by omega) (by omega)
  rw [show zL a / zL b = Int64.ofInt a / Int64.ofInt b from rfl, ← e, h, Int.mul_tdiv_cancel q hb0]
  rfl
/-- absolute bounds -/
def zA (z c : Int) : Prop := -c ≤ z ∧ z ≤ c
theorem zA_B {z c : Int} (h : zA z c) (hc : c ≤ 4611686018427387904) : zB z := by
  have h1 := h.1
  have h2 := h.2
  unfold zB; omega
theorem zA_b {z c : Int} (h : zA z c) (hc : c ≤ 1073741824) : zb z := by
  have h1 := h.1
  have h2 := h.2
  unfold zb; omega
theorem zA_nn {z c : Int} (h : zA z c) : 0 ≤ c := by
  have h1 := h.1
  have h2 := h.2
  omega
theorem zA_w {z c d : Int} (h : zA z c) (hc : c ≤ d) : zA z d := by
  have h1 := h.1
  have h2 := h.2
  unfold zA; omega
theorem zA_0 {c : Int} (h : 0 ≤ c) : zA 0 c := by unfold zA; omega
theorem zA_neg {z c : Int} (h : zA z c) : zA (-z) c := by
  have h1 := h.1
  have h2 := h.2
  unfold zA; omega
theorem zA_add {y z c d : Int} (h : zA y c) (k : zA z d) : zA (y + z) (c + d) := by
  have h1 := h.1
  have h2 := h.2
  have k1 := k.1
  have k2 := k.2
  unfold zA; omega
theorem zA_sub {y z c d : Int} (h : zA y c) (k : zA z d) : zA (y - z) (c + d) := by
  have h1 := h.1
  have h2 := h.2
  have k1 := k.1
  have k2 := k.2
  unfold zA; omega
theorem zA_mul {y z c d : Int} (h : zA y c) (k : zA z d) : zA (y * z) (c * d) := by
  have h1 := h.1
  have h2 := h.2
  have k1 := k.1
  have k2 := k.2
  have a := Int.mul_nonneg (show 0 ≤ c - y by omega) (show 0 ≤ d - z by omega)
  have b := Int.mul_nonneg (show 0 ≤ c + y by omega) (show 0 ≤ d + z by omega)
  have a' := Int.mul_nonneg (show 0 ≤ c - y by omega) (show 0 ≤ d + z by omega)
  have b' := Int.mul_nonneg (show 0 ≤ c + y by omega) (show 0 ≤ d - z by omega)
  constructor <;> grind
/-- the infinitesimal as one over a great number -/
def zM : Int := 1125899906842624
theorem zM_neg {P Q : Int} (h : zA Q 1000000000000000) : P * zM + Q < 0 ↔ (P < 0 ∨ (P = 0 ∧ Q < 0)) := by
  have h1 := h.1
  have h2 := h.2
  unfold zM
  constructor
  · intro k
    by_cases e : P < 0
    · exact Or.inl e
    · refine Or.inr ?_
      have : P = 0 := by omega
      subst this
      exact ⟨rfl, by omega⟩
  · rintro (k | ⟨k, k2⟩)
    · omega
    · subst k
      omega
theorem zM_eq {P Q : Int} (h : zA Q 1000000000000000) : P * zM + Q = 0 ↔ (P = 0 ∧ Q = 0) := by
  have h1 := h.1
  have h2 := h.2
  unfold zM
  constructor
  · intro k
    have : P = 0 := by omega
    subst this
    exact ⟨rfl, by omega⟩
  · rintro ⟨k, k2⟩
    subst k k2
    rfl
end
section
/-! three by three: determinants, Cramer, the exchange of a row -/
def rb_det (u v w : Nat → Int) : Int := u 0 * (v 1 * w 2 - v 2 * w 1) - u 1 * (v 0 * w 2 - v 2 * w 0) + u 2 * (v 0 * w 1 - v 1 * w 0)
def rb_dot (a x : Nat → Int) : Int := a 0 * x 0 + a 1 * x 1 + a 2 * x 2
def rb_e (i : Nat) : Nat → Int := fun j => if j = i then 1 else 0
def rb_D (B : Nat → Nat → Int) : Int := rb_det (B 0) (B 1) (B 2)
def rb_set (B : Nat → Nat → Int) (k : Nat) (g : Nat → Int) : Nat → Nat → Int := fun j => if j = k then g else B j
def rb_sg (z : Int) : Int := if z < 0 then -1 else 1
def rb_den (B : Nat → Nat → Int) : Int := rb_sg (rb_D B) * rb_D B
def rb_tv (B : Nat → Nat → Int) (g : Nat → Int) (k : Nat) : Int := rb_sg (rb_D B) * rb_D (rb_set B k g)
theorem rb_lt3 {k : Nat} (h : k < 3) : k = 0 ∨ k = 1 ∨ k = 2 := by omega
theorem rb_s0 (B : Nat → Nat → Int) (g : Nat → Int) : rb_D (rb_set B 0 g) = rb_det g (B 1) (B 2) := rfl
theorem rb_s1 (B : Nat → Nat → Int) (g : Nat → Int) : rb_D (rb_set B 1 g) = rb_det (B 0) g (B 2) := rfl
theorem rb_s2 (B : Nat → Nat → Int) (g : Nat → Int) : rb_D (rb_set B 2 g) = rb_det (B 0) (B 1) g := rfl
theorem rb_sgc (z : Int) : rb_sg z = 1 ∨ rb_sg z = -1 := by
  unfold rb_sg
  by_cases h : z < 0
  · rw [if_pos h]; exact Or.inr rfl
  · rw [if_neg h]; exact Or.inl rfl
theorem rb_sgq (z : Int) : rb_sg z * rb_sg z = 1 := by
  rcases rb_sgc z with h | h <;> rw [h] <;> rfl
theorem rb_sgp {z : Int} (h : z ≠ 0) : 0 < rb_sg z * z := by
  unfold rb_sg
  by_cases k : z < 0
  · rw [if_pos k]; omega
  · rw [if_neg k]; omega
theorem rb_sgn {z : Int} (h : z < 0) : rb_sg z = -1 := if_pos h
theorem rb_sgnn {z : Int} (h : ¬ z < 0) : rb_sg z = 1 := if_neg h
theorem rb_sgm {a z : Int} (h : z ≠ 0) (ha : a = 1 ∨ a = -1) : rb_sg (a * z) = a * rb_sg z := by
  unfold rb_sg
  rcases ha with rfl | rfl
  · by_cases k : z < 0
    · rw [if_pos k, if_pos (by omega)]; rfl
    · rw [if_neg k, if_neg (by omega)]; rfl
  · by_cases k : z < 0
    · rw [if_pos k, if_neg (by omega)]; rfl
    · rw [if_neg k, if_pos (by omega)]; rfl
/-- Cramer -/
theorem rb_cr (B : Nat → Nat → Int) (g : Nat → Int) {i : Nat} (hi : i < 3) : rb_D B * g i = rb_D (rb_set B 0 g) * B 0 i + rb_D (rb_set B 1 g) * B 1 i + rb_D (rb_set B 2 g) * B 2 i := by
  rw [rb_s0, rb_s1, rb_s2]
  unfold rb_D rb_det
  rcases rb_lt3 hi with rfl | rfl | rfl <;> grind
theorem rb_lin (B : Nat → Nat → Int) (g : Nat → Int) {k : Nat} (hk : k < 3) : rb_D (rb_set B k g) = g 0 * rb_D (rb_set B k (rb_e 0)) + g 1 * rb_D (rb_set B k (rb_e 1)) + g 2 * rb_D (rb_set B k (rb_e 2)) := by
  rcases rb_lt3 hk with rfl | rfl | rfl
  · rw [rb_s0, rb_s0, rb_s0, rb_s0]; simp [rb_det, rb_e] <;> grind
  · rw [rb_s1, rb_s1, rb_s1, rb_s1]; simp [rb_det, rb_e] <;> grind
  · rw [rb_s2, rb_s2, rb_s2, rb_s2]; simp [rb_det, rb_e] <;> grind
theorem rb_setk (B : Nat → Nat → Int) (k : Nat) (g h : Nat → Int) : rb_set (rb_set B k g) k h = rb_set B k h := by
  funext j
  unfold rb_set
  by_cases e : j = k
  · rw [if_pos e, if_pos e]
  · rw [if_neg e, if_neg e, if_neg e]
theorem rb_sets (B : Nat → Nat → Int) (k : Nat) : rb_set B k (B k) = B := by
  funext j
  unfold rb_set
  by_cases e : j = k
  · rw [if_pos e, e]
  · rw [if_neg e]
theorem rb_eq2 (B : Nat → Nat → Int) {k l : Nat} (hk : k < 3) (hl : l < 3) (h : k ≠ l) : rb_D (rb_set B k (B l)) = 0 := by
  rcases rb_lt3 hk with rfl | rfl | rfl <;> rcases rb_lt3 hl with rfl | rfl | rfl <;> first | exact absurd rfl h | (first | rw [rb_s0] | rw [rb_s1] | rw [rb_s2]); unfold rb_det; grind
/-- the three-term relation -/
theorem rb_pl (B : Nat → Nat → Int) (g h : Nat → Int) {k l : Nat} (hk : k < 3) (hl : l < 3) (hkl : k ≠ l) :
    rb_D B * rb_D (rb_set (rb_set B k g) l h) = rb_D (rb_set B k g) * rb_D (rb_set B l h) - rb_D (rb_set B k h) * rb_D (rb_set B l g) := by
  rcases rb_lt3 hk with rfl | rfl | rfl <;> rcases rb_lt3 hl with rfl | rfl | rfl
  · exact absurd rfl hkl
  · show rb_det (B 0) (B 1) (B 2) * rb_det g h (B 2) = rb_det g (B 1) (B 2) * rb_det (B 0) h (B 2) - rb_det h (B 1) (B 2) * rb_det (B 0) g (B 2)
    unfold rb_det; grind
  · show rb_det (B 0) (B 1) (B 2) * rb_det g (B 1) h = rb_det g (B 1) (B 2) * rb_det (B 0) (B 1) h - rb_det h (B 1) (B 2) * rb_det (B 0) (B 1) g
    unfold rb_det; grind
  · show rb_det (B 0) (B 1) (B 2) * rb_det h g (B 2) = rb_det (B 0) g (B 2) * rb_det h (B 1) (B 2) - rb_det (B 0) h (B 2) * rb_det g (B 1) (B 2)
    unfold rb_det; grind
  · exact absurd rfl hkl
  · show rb_det (B 0) (B 1) (B 2) * rb_det (B 0) g h = rb_det (B 0) g (B 2) * rb_det (B 0) (B 1) h - rb_det (B 0) h (B 2) * rb_det (B 0) (B 1) g
    unfold rb_det; grind
  · show rb_det (B 0) (B 1) (B 2) * rb_det h (B 1) g = rb_det (B 0) (B 1) g * rb_det h (B 1) (B 2) - rb_det (B 0) (B 1) h * rb_det g (B 1) (B 2)
    unfold rb_det; grind
  · show rb_det (B 0) (B 1) (B 2) * rb_det (B 0) h g = rb_det (B 0) (B 1) g * rb_det (B 0) h (B 2) - rb_det (B 0) (B 1) h * rb_det (B 0) g (B 2)
    unfold rb_det; grind
  · exact absurd rfl hkl
/-! with the sign taken out -/
theorem rb_denp {B : Nat → Nat → Int} (h : rb_D B ≠ 0) : 0 < rb_den B := rb_sgp h
theorem rb_tcr (B : Nat → Nat → Int) (g : Nat → Int) {i : Nat} (hi : i < 3) : rb_den B * g i = rb_tv B g 0 * B 0 i + rb_tv B g 1 * B 1 i + rb_tv B g 2 * B 2 i := by
  have h := rb_cr B g hi
  unfold rb_den rb_tv
  rw [Int.mul_assoc, h]
  grind
theorem rb_tlin (B : Nat → Nat → Int) (g : Nat → Int) {k : Nat} (hk : k < 3) : rb_tv B g k = g 0 * rb_tv B (rb_e 0) k + g 1 * rb_tv B (rb_e 1) k + g 2 * rb_tv B (rb_e 2) k := by
  have h := rb_lin B g hk
  unfold rb_tv
  rw [h]
  grind
theorem rb_tk (B : Nat → Nat → Int) (k : Nat) : rb_tv B (B k) k = rb_den B := by
  unfold rb_tv rb_den
  rw [rb_sets]
theorem rb_tkl (B : Nat → Nat → Int) {k l : Nat} (hk : k < 3) (hl : l < 3) (h : k ≠ l) : rb_tv B (B l) k = 0 := by
  unfold rb_tv
  rw [rb_eq2 B hk hl h, Int.mul_zero]
/-- any linear function by the basis -/
theorem rb_ex (B : Nat → Nat → Int) (g x : Nat → Int) : rb_den B * rb_dot g x = rb_tv B g 0 * rb_dot (B 0) x + rb_tv B g 1 * rb_dot (B 1) x + rb_tv B g 2 * rb_dot (B 2) x := by
  have h0 := rb_tcr B g (i := 0) (by omega)
  have h1 := rb_tcr B g (i := 1) (by omega)
  have h2 := rb_tcr B g (i := 2) (by omega)
  unfold rb_dot
  generalize rb_den B = d at *
  generalize rb_tv B g 0 = t0 at *
  generalize rb_tv B g 1 = t1 at *
  generalize rb_tv B g 2 = t2 at *
  grind
theorem rb_dote {i : Nat} (hi : i < 3) (x : Nat → Int) : rb_dot (rb_e i) x = x i := by
  rcases rb_lt3 hi with rfl | rfl | rfl <;> simp [rb_dot, rb_e]
theorem rb_ddot (g x : Nat → Int) (c : Int) : rb_dot g (fun i => c * x i) = c * rb_dot g x := by
  unfold rb_dot; grind
theorem rb_uniq {B : Nat → Nat → Int} (hB : rb_D B ≠ 0) {x y : Nat → Int} (h0 : rb_dot (B 0) x = rb_dot (B 0) y) (h1 : rb_dot (B 1) x = rb_dot (B 1) y) (h2 : rb_dot (B 2) x = rb_dot (B 2) y) (g : Nat → Int) : rb_dot g x = rb_dot g y := by
  have a := rb_ex B g x
  have b := rb_ex B g y
  rw [h0, h1, h2, ← b] at a
  exact Int.eq_of_mul_eq_mul_left (by have := rb_denp hB; omega) a
/-! the exchange of row k -/
theorem rb_pD (B : Nat → Nat → Int) (k : Nat) (g : Nat → Int) : rb_D (rb_set B k g) = rb_sg (rb_D B) * rb_tv B g k := by
  unfold rb_tv
  rw [← Int.mul_assoc, rb_sgq, Int.one_mul]
theorem rb_psg {B : Nat → Nat → Int} {k : Nat} {g : Nat → Int} (hp : rb_tv B g k ≠ 0) : rb_sg (rb_D (rb_set B k g)) = rb_sg (rb_D B) * rb_sg (rb_tv B g k) := by
  rw [rb_pD]
  exact rb_sgm hp (rb_sgc _)
theorem rb_pden {B : Nat → Nat → Int} {k : Nat} {g : Nat → Int} (hp : rb_tv B g k ≠ 0) : rb_den (rb_set B k g) = rb_sg (rb_tv B g k) * rb_tv B g k := by
  unfold rb_den
  rw [rb_psg hp, rb_pD]
  have := rb_sgq (rb_D B)
  generalize rb_sg (rb_D B) = s at *
  grind
theorem rb_pgd {B : Nat → Nat → Int} {k : Nat} {g : Nat → Int} (hp : rb_tv B g k ≠ 0) : rb_D (rb_set B k g) ≠ 0 := by
  intro h
  apply hp
  unfold rb_tv
  rw [h, Int.mul_zero]
theorem rb_ptk {B : Nat → Nat → Int} {k : Nat} {g : Nat → Int} (hp : rb_tv B g k ≠ 0) (h : Nat → Int) : rb_tv (rb_set B k g) h k = rb_sg (rb_tv B g k) * rb_tv B h k := by
  rw [show rb_tv (rb_set B k g) h k = rb_sg (rb_D (rb_set B k g)) * rb_D (rb_set (rb_set B k g) k h) from rfl, rb_psg hp, rb_setk, rb_pD B k h]
  have := rb_sgq (rb_D B)
  generalize rb_sg (rb_D B) = s at *
  grind
theorem rb_ptl {B : Nat → Nat → Int} {k l : Nat} {g : Nat → Int} (hk : k < 3) (hl : l < 3) (hkl : k ≠ l) (hp : rb_tv B g k ≠ 0) (h : Nat → Int) :
    rb_den B * rb_tv (rb_set B k g) h l = rb_sg (rb_tv B g k) * (rb_tv B g k * rb_tv B h l - rb_tv B h k * rb_tv B g l) := by
  have e := rb_pl B g h hk hl hkl
  rw [show rb_tv (rb_set B k g) h l = rb_sg (rb_D (rb_set B k g)) * rb_D (rb_set (rb_set B k g) l h) from rfl, rb_psg hp]
  rw [rb_pD B k g, rb_pD B l h, rb_pD B k h, rb_pD B l g] at e
  unfold rb_den
  have := rb_sgq (rb_D B)
  generalize rb_D (rb_set (rb_set B k g) l h) = X at *
  generalize rb_sg (rb_tv B g k) = sp at *
  generalize rb_tv B g k = p at *
  generalize rb_tv B h l = q at *
  generalize rb_tv B h k = r at *
  generalize rb_tv B g l = t at *
  generalize rb_sg (rb_D B) = s at *
  generalize rb_D B = d at *
  grind
/-! the values at the corner -/
def rb_vl (B : Nat → Nat → Int) (Lb : Nat → Int) (g : Nat → Int) : Int := rb_tv B g 0 * Lb 0 + rb_tv B g 1 * Lb 1 + rb_tv B g 2 * Lb 2
def rb_pt (B : Nat → Nat → Int) (Lb : Nat → Int) : Nat → Int := fun i => rb_vl B Lb (rb_e i)
theorem rb_vld (B : Nat → Nat → Int) (Lb : Nat → Int) (g : Nat → Int) : rb_vl B Lb g = rb_dot g (rb_pt B Lb) := by
  have h0 := rb_tlin B g (k := 0) (by omega)
  have h1 := rb_tlin B g (k := 1) (by omega)
  have h2 := rb_tlin B g (k := 2) (by omega)
  unfold rb_dot rb_pt rb_vl
  rw [h0, h1, h2]
  grind
theorem rb_vls (B : Nat → Nat → Int) (Lb : Nat → Int) {l : Nat} (hl : l < 3) : rb_vl B Lb (B l) = rb_den B * Lb l := by
  unfold rb_vl
  rcases rb_lt3 hl with rfl | rfl | rfl
  · rw [rb_tk, rb_tkl B (k := 1) (l := 0) (by omega) (by omega) (by omega), rb_tkl B (k := 2) (l := 0) (by omega) (by omega) (by omega)]; grind
  · rw [rb_tk, rb_tkl B (k := 0) (l := 1) (by omega) (by omega) (by omega), rb_tkl B (k := 2) (l := 1) (by omega) (by omega) (by omega)]; grind
  · rw [rb_tk, rb_tkl B (k := 0) (l := 2) (by omega) (by omega) (by omega), rb_tkl B (k := 1) (l := 2) (by omega) (by omega) (by omega)]; grind
theorem rb_pvl {B : Nat → Nat → Int} {k : Nat} {g : Nat → Int} (hk : k < 3) (hp : rb_tv B g k ≠ 0) (Lb : Nat → Int) (lu : Int) (h : Nat → Int) :
    rb_den B * rb_vl (rb_set B k g) (fun j => if j = k then lu else Lb j) h = rb_sg (rb_tv B g k) * (rb_tv B g k * rb_vl B Lb h + rb_tv B h k * (rb_den B * lu - rb_vl B Lb g)) := by
  have ek := rb_ptk hp h
  have el := fun l hl hkl => rb_ptl (l := l) hk hl hkl hp h
  rcases rb_lt3 hk with rfl | rfl | rfl
  · have e1 := el 1 (by omega) (by omega)
    have e2 := el 2 (by omega) (by omega)
    unfold rb_vl
    show rb_den B * (rb_tv (rb_set B 0 g) h 0 * lu + rb_tv (rb_set B 0 g) h 1 * Lb 1 + rb_tv (rb_set B 0 g) h 2 * Lb 2) = _
    rw [ek]
    generalize rb_sg (rb_tv B g 0) = sp at *
    grind
  · have e1 := el 0 (by omega) (by omega)
    have e2 := el 2 (by omega) (by omega)
    unfold rb_vl
    show rb_den B * (rb_tv (rb_set B 1 g) h 0 * Lb 0 + rb_tv (rb_set B 1 g) h 1 * lu + rb_tv (rb_set B 1 g) h 2 * Lb 2) = _
    rw [ek]
    generalize rb_sg (rb_tv B g 1) = sp at *
    grind
  · have e1 := el 0 (by omega) (by omega)
    have e2 := el 1 (by omega) (by omega)
    unfold rb_vl
    show rb_den B * (rb_tv (rb_set B 2 g) h 0 * Lb 0 + rb_tv (rb_set B 2 g) h 1 * Lb 1 + rb_tv (rb_set B 2 g) h 2 * lu) = _
    rw [ek]
    generalize rb_sg (rb_tv B g 2) = sp at *
    grind
/-! bounds -/
def rb_bd (g : Nat → Int) (c : Int) : Prop := ∀ i, i < 3 → zA (g i) c
theorem rb_detb {u v w : Nat → Int} {a b c : Int} (hu : rb_bd u a) (hv : rb_bd v b) (hw : rb_bd w c) : zA (rb_det u v w) (6 * (a * (b * c))) := by
  have u0 := hu 0 (by omega)
  have u1 := hu 1 (by omega)
  have u2 := hu 2 (by omega)
  have v0 := hv 0 (by omega)
  have v1 := hv 1 (by omega)
  have v2 := hv 2 (by omega)
  have w0 := hw 0 (by omega)
  have w1 := hw 1 (by omega)
  have w2 := hw 2 (by omega)
  have h := zA_add (zA_sub (zA_mul u0 (zA_sub (zA_mul v1 w2) (zA_mul v2 w1))) (zA_mul u1 (zA_sub (zA_mul v0 w2) (zA_mul v2 w0)))) (zA_mul u2 (zA_sub (zA_mul v0 w1) (zA_mul v1 w0)))
  exact zA_w h (by grind)
end
section
/-! a basis: three unknowns at their limits -/
def rc_B (G : Nat → Nat → Int) (nb : Nat → Nat) : Nat → Nat → Int := fun k => G (nb k)
def rc_Lb (L : Nat → Int) (nb : Nat → Nat) : Nat → Int := fun k => L (nb k)
def rc_gd (G : Nat → Nat → Int) (nb : Nat → Nat) : Prop := rb_D (rc_B G nb) ≠ 0
def rc_den (G : Nat → Nat → Int) (nb : Nat → Nat) : Int := rb_den (rc_B G nb)
def rc_tv (G : Nat → Nat → Int) (nb : Nat → Nat) (g : Nat → Int) (k : Nat) : Int := rb_tv (rc_B G nb) g k
def rc_vl (G : Nat → Nat → Int) (L : Nat → Int) (nb : Nat → Nat) (g : Nat → Int) : Int := rb_vl (rc_B G nb) (rc_Lb L nb) g
def rc_pt (G : Nat → Nat → Int) (L : Nat → Int) (nb : Nat → Nat) : Nat → Int := rb_pt (rc_B G nb) (rc_Lb L nb)
def rc_sl (G : Nat → Nat → Int) (L : Nat → Int) (nb : Nat → Nat) (u : Nat) : Int := rc_den G nb * L u - rc_vl G L nb (G u)
def rc_up (nb : Nat → Nat) (k u : Nat) : Nat → Nat := fun j => if j = k then u else nb j
def rc_in (nb : Nat → Nat) (u : Nat) : Prop := nb 0 = u ∨ nb 1 = u ∨ nb 2 = u
section
variable {G : Nat → Nat → Int} {L : Nat → Int} {nb : Nat → Nat}
theorem rc_Bup (k u : Nat) : rc_B G (rc_up nb k u) = rb_set (rc_B G nb) k (G u) := by
  funext j
  unfold rc_B rc_up rb_set
  by_cases e : j = k
  · rw [if_pos e, if_pos e]
  · rw [if_neg e, if_neg e]
theorem rc_Lup (k u : Nat) : rc_Lb L (rc_up nb k u) = fun j => if j = k then L u else rc_Lb L nb j := by
  funext j
  unfold rc_Lb rc_up
  by_cases e : j = k
  · rw [if_pos e, if_pos e]
  · rw [if_neg e, if_neg e]
theorem rc_inI {k : Nat} (hk : k < 3) : rc_in nb (nb k) := by
  rcases rb_lt3 hk with rfl | rfl | rfl
  · exact Or.inl rfl
  · exact Or.inr (Or.inl rfl)
  · exact Or.inr (Or.inr rfl)
theorem rc_inE {u : Nat} (h : rc_in nb u) : ∃ k, k < 3 ∧ nb k = u := by
  rcases h with h | h | h
  · exact ⟨0, by omega, h⟩
  · exact ⟨1, by omega, h⟩
  · exact ⟨2, by omega, h⟩
theorem rc_dist (h : rc_gd G nb) {k l : Nat} (hk : k < 3) (hl : l < 3) (e : nb k = nb l) : k = l := by
  by_cases hkl : k = l
  · exact hkl
  · exfalso
    apply h
    have e1 := rb_eq2 (rc_B G nb) hk hl hkl
    have e2 : rc_B G nb l = rc_B G nb k := by unfold rc_B; rw [e]
    rw [e2, rb_sets] at e1
    exact e1
theorem rc_denp (h : rc_gd G nb) : 0 < rc_den G nb := rb_denp h
theorem rc_inup (h : rc_gd G nb) {k u : Nat} (hk : k < 3) (w : Nat) : rc_in (rc_up nb k u) w ↔ (w = u ∨ (rc_in nb w ∧ w ≠ nb k)) := by
  constructor
  · intro hw
    obtain ⟨l, hl, e⟩ := rc_inE hw
    unfold rc_up at e
    by_cases c : l = k
    · rw [if_pos c] at e
      exact Or.inl e.symm
    · rw [if_neg c] at e
      refine Or.inr ⟨e ▸ rc_inI hl, ?_⟩
      intro z
      exact c (rc_dist h hl hk (e.trans z))
  · rintro (z | ⟨z, z2⟩)
    · have := rc_inI (nb := rc_up nb k u) hk
      rw [show rc_up nb k u k = u from if_pos rfl] at this
      rw [z]; exact this
    · obtain ⟨l, hl, e⟩ := rc_inE z
      have c : l ≠ k := by intro c; exact z2 (by rw [← e, c])
      have := rc_inI (nb := rc_up nb k u) hl
      rw [show rc_up nb k u l = nb l from if_neg c, e] at this
      exact this
theorem rc_tvk {k : Nat} : rc_tv G nb (G (nb k)) k = rc_den G nb := rb_tk _ _
theorem rc_tvkl {k l : Nat} (hk : k < 3) (hl : l < 3) (h : k ≠ l) : rc_tv G nb (G (nb l)) k = 0 := rb_tkl (rc_B G nb) hk hl h
theorem rc_vld (g : Nat → Int) : rc_vl G L nb g = rb_dot g (rc_pt G L nb) := rb_vld _ _ _
theorem rc_vls {l : Nat} (hl : l < 3) : rc_vl G L nb (G (nb l)) = rc_den G nb * L (nb l) := rb_vls (rc_B G nb) _ hl
theorem rc_sl0 {l : Nat} (hl : l < 3) : rc_sl G L nb (nb l) = 0 := by
  unfold rc_sl
  rw [rc_vls hl]
  omega
theorem rc_slin {w : Nat} (h : rc_in nb w) : rc_sl G L nb w = 0 := by
  obtain ⟨l, hl, e⟩ := rc_inE h
  rw [← e]; exact rc_sl0 hl
theorem rc_ex (g x : Nat → Int) : rc_den G nb * rb_dot g x = rc_tv G nb g 0 * rb_dot (G (nb 0)) x + rc_tv G nb g 1 * rb_dot (G (nb 1)) x + rc_tv G nb g 2 * rb_dot (G (nb 2)) x := rb_ex _ _ _
theorem rc_vl3 (g : Nat → Int) : rc_vl G L nb g = rc_tv G nb g 0 * L (nb 0) + rc_tv G nb g 1 * L (nb 1) + rc_tv G nb g 2 * L (nb 2) := rfl
/-- slacks at another basis -/
theorem rc_slex (nb' : Nat → Nat) (u : Nat) : rc_den G nb * rc_sl G L nb' u = rc_den G nb' * rc_sl G L nb u + (rc_tv G nb (G u) 0 * rc_sl G L nb' (nb 0) + rc_tv G nb (G u) 1 * rc_sl G L nb' (nb 1) + rc_tv G nb (G u) 2 * rc_sl G L nb' (nb 2)) := by
  have e := rc_ex (G := G) (nb := nb) (G u) (rc_pt G L nb')
  rw [← rc_vld, ← rc_vld, ← rc_vld, ← rc_vld] at e
  have e2 := rc_vl3 (G := G) (L := L) (nb := nb) (G u)
  unfold rc_sl
  generalize rc_vl G L nb (G u) = v at *
  generalize rc_vl G L nb' (G u) = v' at *
  generalize rc_vl G L nb' (G (nb 0)) = v0 at *
  generalize rc_vl G L nb' (G (nb 1)) = v1 at *
  generalize rc_vl G L nb' (G (nb 2)) = v2 at *
  generalize rc_tv G nb (G u) 0 = t0 at *
  generalize rc_tv G nb (G u) 1 = t1 at *
  generalize rc_tv G nb (G u) 2 = t2 at *
  grind
/-- the columns at another basis -/
theorem rc_tvex (nb' : Nat → Nat) (g : Nat → Int) {k : Nat} (hk : k < 3) : rc_den G nb * rc_tv G nb' g k = rc_tv G nb g 0 * rc_tv G nb' (G (nb 0)) k + rc_tv G nb g 1 * rc_tv G nb' (G (nb 1)) k + rc_tv G nb g 2 * rc_tv G nb' (G (nb 2)) k := by
  have h : ∀ f, rc_tv G nb' f k = rb_dot f (fun i => rc_tv G nb' (rb_e i) k) := fun f => rb_tlin (rc_B G nb') f hk
  rw [h g, h (G (nb 0)), h (G (nb 1)), h (G (nb 2))]
  exact rc_ex _ _
theorem rc_gdup {k u : Nat} (hp : rc_tv G nb (G u) k ≠ 0) : rc_gd G (rc_up nb k u) := by
  unfold rc_gd
  rw [rc_Bup]
  exact rb_pgd hp
theorem rc_denup {k u : Nat} (hp : rc_tv G nb (G u) k ≠ 0) : rc_den G (rc_up nb k u) = rb_sg (rc_tv G nb (G u) k) * rc_tv G nb (G u) k := by
  unfold rc_den
  rw [rc_Bup]
  exact rb_pden hp
theorem rc_tvup {k u : Nat} (hp : rc_tv G nb (G u) k ≠ 0) (g : Nat → Int) : rc_tv G (rc_up nb k u) g k = rb_sg (rc_tv G nb (G u) k) * rc_tv G nb g k := by
  unfold rc_tv
  rw [rc_Bup]
  exact rb_ptk hp g
theorem rc_tvupl {k l u : Nat} (hk : k < 3) (hl : l < 3) (hkl : k ≠ l) (hp : rc_tv G nb (G u) k ≠ 0) (g : Nat → Int) : rc_den G nb * rc_tv G (rc_up nb k u) g l = rb_sg (rc_tv G nb (G u) k) * (rc_tv G nb (G u) k * rc_tv G nb g l - rc_tv G nb g k * rc_tv G nb (G u) l) := by
  rw [show rc_tv G (rc_up nb k u) g l = rb_tv (rc_B G (rc_up nb k u)) g l from rfl, rc_Bup]
  exact rb_ptl hk hl hkl hp g
theorem rc_vlup {k u : Nat} (hk : k < 3) (hp : rc_tv G nb (G u) k ≠ 0) (g : Nat → Int) : rc_den G nb * rc_vl G L (rc_up nb k u) g = rb_sg (rc_tv G nb (G u) k) * (rc_tv G nb (G u) k * rc_vl G L nb g + rc_tv G nb g k * rc_sl G L nb u) := by
  rw [show rc_vl G L (rc_up nb k u) g = rb_vl (rc_B G (rc_up nb k u)) (rc_Lb L (rc_up nb k u)) g from rfl, rc_Bup, rc_Lup]
  exact rb_pvl hk hp _ _ g
theorem rc_slup {k u : Nat} (hk : k < 3) (hp : rc_tv G nb (G u) k ≠ 0) (w : Nat) : rc_den G nb * rc_sl G L (rc_up nb k u) w = rb_sg (rc_tv G nb (G u) k) * (rc_tv G nb (G u) k * rc_sl G L nb w - rc_tv G nb (G w) k * rc_sl G L nb u) := by
  have e := rc_vlup (L := L) hk hp (G w)
  have e2 := rc_denup hp
  rw [show rc_sl G L (rc_up nb k u) w = rc_den G (rc_up nb k u) * L w - rc_vl G L (rc_up nb k u) (G w) from rfl, e2, show rc_sl G L nb w = rc_den G nb * L w - rc_vl G L nb (G w) from rfl]
  generalize rc_vl G L (rc_up nb k u) (G w) = v' at *
  generalize rc_sl G L nb u = su at *
  generalize rb_sg (rc_tv G nb (G u) k) = sp at *
  generalize rc_tv G nb (G u) k = p at *
  generalize rc_tv G nb (G w) k = q at *
  grind
/-- two bases of the same unknowns have the same corner -/
theorem rc_same {nb' : Nat → Nat} (h : rc_gd G nb) (e : ∀ w, rc_in nb w → rc_in nb' w) (g : Nat → Int) : rc_den G nb' * rc_vl G L nb g = rc_den G nb * rc_vl G L nb' g := by
  have k : ∀ l, l < 3 → rb_dot (G (nb l)) (fun i => rc_den G nb' * rc_pt G L nb i) = rb_dot (G (nb l)) (fun i => rc_den G nb * rc_pt G L nb' i) := by
    intro l hl
    rw [rb_ddot, rb_ddot, ← rc_vld, ← rc_vld, rc_vls hl]
    obtain ⟨l', hl', el⟩ := rc_inE (e _ (rc_inI hl))
    rw [← el, rc_vls hl']
    grind
  have := rb_uniq (B := rc_B G nb) h (k 0 (by omega)) (k 1 (by omega)) (k 2 (by omega)) g
  rw [rb_ddot, rb_ddot, ← rc_vld, ← rc_vld] at this
  exact this
end
/-- fractions -/
theorem rc_frt {a b c d e f : Int} (hd : 0 < d) (hb : 0 ≤ b) (hf : 0 ≤ f) (h1 : a * d ≤ c * b) (h2 : c * f ≤ e * d) : a * f ≤ e * b := by
  have k1 := Int.mul_le_mul_of_nonneg_right h1 hf
  have k2 := Int.mul_le_mul_of_nonneg_right h2 hb
  have k3 : (a * f) * d ≤ (e * b) * d := by grind
  exact Int.le_of_mul_le_mul_right k3 hd
theorem rc_frl {a b c d e f : Int} (hd : 0 < d) (hb : 0 < b) (hf : 0 ≤ f) (h1 : a * d ≤ c * b) (h2 : c * f < e * d) : a * f < e * b := by
  have k1 := Int.mul_le_mul_of_nonneg_right h1 hf
  have k2 := Int.mul_lt_mul_of_pos_right h2 hb
  have k3 : (a * f) * d < (e * b) * d := by grind
  exact Int.lt_of_mul_lt_mul_right k3 (by omega)
theorem rc_frl' {a b c d e f : Int} (hd : 0 < d) (hb : 0 ≤ b) (hf : 0 < f) (h1 : a * d < c * b) (h2 : c * f ≤ e * d) : a * f < e * b := by
  have k1 := Int.mul_lt_mul_of_pos_right h1 hf
  have k2 := Int.mul_le_mul_of_nonneg_right h2 hb
  have k3 : (a * f) * d < (e * b) * d := by grind
  exact Int.lt_of_mul_lt_mul_right k3 (by omega)
end
section
/-! chains of exchanges: what enters and leaves; at most 8000 different bases -/
def rd_chn (G : Nat → Nat → Int) (s : Nat → Nat → Nat) (us ks : Nat → Nat) (i j : Nat) : Prop := ∀ t, i ≤ t → t < j → rc_gd G (s t) ∧ ks t < 3 ∧ ¬ rc_in (s t) (us t) ∧ s (t + 1) = rc_up (s t) (ks t) (us t)
def rd_F (s : Nat → Nat → Nat) (us ks : Nat → Nat) (i j w : Nat) : Prop := ∃ t, i ≤ t ∧ t < j ∧ (us t = w ∨ s t (ks t) = w)
theorem rd_max (P : Nat → Prop) : ∀ N, (∀ w, P w → w < N) → (∃ w, P w) → ∃ T, P T ∧ ∀ w, P w → w ≤ T := by
  intro N
  induction N with
  | zero => rintro h ⟨w, hw⟩; exact absurd (h w hw) (by omega)
  | succ N ih =>
    intro h e
    by_cases c : P N
    · exact ⟨N, c, fun w hw => by have := h w hw; omega⟩
    · refine ih (fun w hw => ?_) e
      have h1 := h w hw
      have h2 : w ≠ N := by intro z; rw [z] at hw; exact c hw
      omega
section
variable {G : Nat → Nat → Int} {s : Nat → Nat → Nat} {us ks : Nat → Nat} {i j : Nat}
theorem rd_step (hC : rd_chn G s us ks i j) {t : Nat} (h1 : i ≤ t) (h2 : t < j) (w : Nat) : rc_in (s (t + 1)) w ↔ (w = us t ∨ (rc_in (s t) w ∧ w ≠ s t (ks t))) := by
  obtain ⟨g, hk, _, e⟩ := hC t h1 h2
  rw [e]
  exact rc_inup g hk w
theorem rd_mu (hC : rd_chn G s us ks i j) {w : Nat} (hw : ∀ t, i ≤ t → t < j → s t (ks t) ≠ w) {a : Nat} (ha : i ≤ a) : ∀ d, a + d ≤ j → rc_in (s a) w → rc_in (s (a + d)) w := by
  intro d
  induction d with
  | zero => exact fun _ h => h
  | succ d ih =>
    intro hd h
    have h1 := ih (by omega) h
    exact (rd_step hC (t := a + d) (by omega) (by omega) w).mpr (Or.inr ⟨h1, fun z => hw (a + d) (by omega) (by omega) z.symm⟩)
theorem rd_md (hC : rd_chn G s us ks i j) {w : Nat} (hw : ∀ t, i ≤ t → t < j → us t ≠ w) {a : Nat} (ha : i ≤ a) : ∀ d, a + d ≤ j → rc_in (s (a + d)) w → rc_in (s a) w := by
  intro d
  induction d with
  | zero => exact fun _ h => h
  | succ d ih =>
    intro hd h
    rcases (rd_step hC (t := a + d) (by omega) (by omega) w).mp h with z | z
    · exact absurd z.symm (hw (a + d) (by omega) (by omega))
    · exact ih (by omega) z.1
theorem rd_both (hC : rd_chn G s us ks i j) {w : Nat} (he : rc_in (s i) w ↔ rc_in (s j) w) (hF : rd_F s us ks i j w) : (∃ t, i ≤ t ∧ t < j ∧ us t = w) ∧ (∃ t, i ≤ t ∧ t < j ∧ s t (ks t) = w) := by
  by_cases c1 : ∃ t, i ≤ t ∧ t < j ∧ us t = w
  · by_cases c2 : ∃ t, i ≤ t ∧ t < j ∧ s t (ks t) = w
    · exact ⟨c1, c2⟩
    · exfalso
      have hn : ∀ t, i ≤ t → t < j → s t (ks t) ≠ w := fun t h1 h2 h3 => c2 ⟨t, h1, h2, h3⟩
      obtain ⟨t, h1, h2, h3⟩ := c1
      have a1 : rc_in (s (t + 1)) w := (rd_step hC h1 h2 w).mpr (Or.inl h3.symm)
      have a2 : rc_in (s j) w := by
        have := rd_mu hC hn (a := t + 1) (by omega) (j - (t + 1)) (by omega) a1
        rwa [show t + 1 + (j - (t + 1)) = j by omega] at this
      have a3 : rc_in (s t) w := by
        have := rd_mu hC hn (a := i) (by omega) (t - i) (by omega) (he.mpr a2)
        rwa [show i + (t - i) = t by omega] at this
      exact (hC t h1 h2).2.2.1 (h3.symm ▸ a3)
  · exfalso
    have hn : ∀ t, i ≤ t → t < j → us t ≠ w := fun t h1 h2 h3 => c1 ⟨t, h1, h2, h3⟩
    obtain ⟨t, h1, h2, h3⟩ := hF
    rcases h3 with h3 | h3
    · exact hn t h1 h2 h3
    · have a1 : rc_in (s t) w := h3 ▸ rc_inI (hC t h1 h2).2.1
      have a2 : rc_in (s i) w := by
        have := rd_md hC hn (a := i) (by omega) (t - i) (by omega)
        rw [show i + (t - i) = t by omega] at this
        exact this a1
      have a3 : rc_in (s (t + 1)) w := by
        have := rd_md hC hn (a := t + 1) (by omega) (j - (t + 1)) (by omega)
        rw [show t + 1 + (j - (t + 1)) = j by omega] at this
        exact this (he.mp a2)
      rcases (rd_step hC h1 h2 w).mp a3 with z | z
      · exact hn t h1 h2 z.symm
      · exact z.2 h3.symm
theorem rd_nF (hC : rd_chn G s us ks i j) {w : Nat} (hF : ¬ rd_F s us ks i j w) {a b : Nat} (ha : i ≤ a) (ha' : a ≤ j) (hb : i ≤ b) (hb' : b ≤ j) (h : rc_in (s a) w) : rc_in (s b) w := by
  have n1 : ∀ t, i ≤ t → t < j → s t (ks t) ≠ w := fun t h1 h2 h3 => hF ⟨t, h1, h2, Or.inr h3⟩
  have n2 : ∀ t, i ≤ t → t < j → us t ≠ w := fun t h1 h2 h3 => hF ⟨t, h1, h2, Or.inl h3⟩
  by_cases c : a ≤ b
  · have := rd_mu hC n1 (a := a) ha (b - a) (by omega) h
    rwa [show a + (b - a) = b by omega] at this
  · have := rd_md hC n2 (a := b) hb (a - b) (by omega)
    rw [show b + (a - b) = a by omega] at this
    exact this h
theorem rd_fick (N : Nat) (hC : rd_chn G s us ks i j) (hij : i < j) (hb : ∀ t, i ≤ t → t < j → us t < N ∧ s t (ks t) < N) (he : ∀ w, rc_in (s i) w ↔ rc_in (s j) w) :
    ∃ T t1 t2, i ≤ t1 ∧ t1 < j ∧ i ≤ t2 ∧ t2 < j ∧ s t1 (ks t1) = T ∧ us t2 = T ∧ ∀ w, rd_F s us ks i j w → w ≤ T ∧ ∃ t, i ≤ t ∧ t < j ∧ us t = w := by
  have hB : ∀ w, rd_F s us ks i j w → w < N := by
    rintro w ⟨t, h1, h2, h3 | h3⟩
    · rw [← h3]; exact (hb t h1 h2).1
    · rw [← h3]; exact (hb t h1 h2).2
  obtain ⟨T, hT, hm⟩ := rd_max (rd_F s us ks i j) N hB ⟨us i, i, by omega, hij, Or.inl rfl⟩
  obtain ⟨⟨t2, a1, a2, a3⟩, ⟨t1, b1, b2, b3⟩⟩ := rd_both hC (he T) hT
  exact ⟨T, t1, t2, b1, b2, a1, a2, b3, a3, fun w hw => ⟨hm w hw, (rd_both hC (he w) hw).1⟩⟩
end
/-! pigeons -/
theorem rd_pig : ∀ (N : Nat) (f : Nat → Nat), (∀ i, i ≤ N → f i < N) → ∃ i j, i < j ∧ j ≤ N ∧ f i = f j := by
  intro N
  induction N with
  | zero => intro f h; exact absurd (h 0 (by omega)) (by omega)
  | succ N ih =>
    intro f h
    by_cases c : ∃ i, i ≤ N ∧ f i = f (N + 1)
    · obtain ⟨i, h1, h2⟩ := c
      exact ⟨i, N + 1, by omega, by omega, h2⟩
    · have c' : ∀ i, i ≤ N → f i ≠ f (N + 1) := fun i h1 h2 => c ⟨i, h1, h2⟩
      obtain ⟨i, j, h1, h2, h3⟩ := ih (fun i => if f i = N then f (N + 1) else f i) (by
        intro i hi
        have a := h i (by omega)
        have b := h (N + 1) (by omega)
        have d := c' i hi
        show (if f i = N then f (N + 1) else f i) < N
        by_cases e : f i = N
        · rw [if_pos e]; omega
        · rw [if_neg e]; omega)
      refine ⟨i, j, h1, by omega, ?_⟩
      have d1 := c' i (by omega)
      have d2 := c' j (by omega)
      by_cases e1 : f i = N
      · rw [if_pos e1] at h3
        by_cases e2 : f j = N
        · omega
        · rw [if_neg e2] at h3
          exact absurd h3.symm d2
      · rw [if_neg e1] at h3
        by_cases e2 : f j = N
        · rw [if_pos e2] at h3
          exact absurd h3 d1
        · rw [if_neg e2] at h3
          exact h3
def rd_mn (a b : Nat) : Nat := if a ≤ b then a else b
def rd_mx (a b : Nat) : Nat := if a ≤ b then b else a
def rd_lo (nb : Nat → Nat) : Nat := rd_mn (nb 0) (rd_mn (nb 1) (nb 2))
def rd_hi (nb : Nat → Nat) : Nat := rd_mx (nb 0) (rd_mx (nb 1) (nb 2))
def rd_cd (nb : Nat → Nat) : Nat := rd_lo nb * 400 + (nb 0 + nb 1 + nb 2 - rd_lo nb - rd_hi nb - 1) * 20 + (rd_hi nb - 2)
theorem rd_srt {a b c : Nat} (h1 : a ≠ b) (h2 : a ≠ c) (h3 : b ≠ c) (nb : Nat → Nat) (e0 : nb 0 = a) (e1 : nb 1 = b) (e2 : nb 2 = c) :
    ∃ x y z, x < y ∧ y < z ∧ rd_lo nb = x ∧ rd_hi nb = z ∧ a + b + c - x - z = y ∧ (∀ w, rc_in nb w ↔ (w = x ∨ w = y ∨ w = z)) := by
  have k : ∀ w, rc_in nb w ↔ (a = w ∨ b = w ∨ c = w) := by
    intro w
    unfold rc_in
    rw [e0, e1, e2]
  unfold rd_lo rd_hi rd_mn rd_mx
  rw [e0, e1, e2]
  by_cases p : a ≤ b <;> by_cases q : b ≤ c <;> by_cases r : a ≤ c
  · exact ⟨a, b, c, by omega, by omega, by simp [p, q, r], by simp [p, q, r], by omega, fun w => by rw [k]; omega⟩
  · omega
  · exact ⟨a, c, b, by omega, by omega, by simp [p, q, r], by simp [p, q, r], by omega, fun w => by rw [k]; omega⟩
  · exact ⟨c, a, b, by omega, by omega, by simp [p, q, r], by simp [p, q, r], by omega, fun w => by rw [k]; omega⟩
  · exact ⟨b, a, c, by omega, by omega, by simp [p, q, r], by simp [p, q, r], by omega, fun w => by rw [k]; omega⟩
  · exact ⟨b, c, a, by omega, by omega, by simp [p, q, r], by simp [p, q, r], by omega, fun w => by rw [k]; omega⟩
  · omega
  · exact ⟨c, b, a, by omega, by omega, by simp [p, q, r], by simp [p, q, r], by omega, fun w => by rw [k]; omega⟩
theorem rd_cdl {G : Nat → Nat → Int} {nb : Nat → Nat} {m : Nat} (hm : m ≤ 19) (g : rc_gd G nb) (h : ∀ k, k < 3 → nb k < 3 + m) : ∃ x y z, x < y ∧ y < z ∧ z < 22 ∧ rd_cd nb = x * 400 + (y - 1) * 20 + (z - 2) ∧ (∀ w, rc_in nb w ↔ (w = x ∨ w = y ∨ w = z)) := by
  have h1 : nb 0 ≠ nb 1 := fun e => absurd (rc_dist g (by omega) (by omega) e) (by omega)
  have h2 : nb 0 ≠ nb 2 := fun e => absurd (rc_dist g (by omega) (by omega) e) (by omega)
  have h3 : nb 1 ≠ nb 2 := fun e => absurd (rc_dist g (by omega) (by omega) e) (by omega)
  obtain ⟨x, y, z, a1, a2, a3, a4, a5, a6⟩ := rd_srt h1 h2 h3 nb rfl rfl rfl
  have hz : rc_in nb z := (a6 z).mpr (Or.inr (Or.inr rfl))
  obtain ⟨l, hl, el⟩ := rc_inE hz
  have := h l hl
  refine ⟨x, y, z, a1, a2, by omega, ?_, a6⟩
  unfold rd_cd
  rw [a3, a4, a5]
/-! a chain of steps of a kind P -/
def rd_Ch (P : (Nat → Nat) → Nat → Nat → Prop) (G : Nat → Nat → Int) (m n : Nat) (nb : Nat → Nat) : Prop :=
  ∃ (s : Nat → Nat → Nat) (us ks : Nat → Nat), s n = nb ∧ ∀ t, t < n → rc_gd G (s t) ∧ (∀ k, k < 3 → s t k < 3 + m) ∧ P (s t) (us t) (ks t) ∧ s (t + 1) = rc_up (s t) (ks t) (us t)
theorem rd_Ch0 {P : (Nat → Nat) → Nat → Nat → Prop} {G : Nat → Nat → Int} {m : Nat} {nb : Nat → Nat} : rd_Ch P G m 0 nb := ⟨fun _ => nb, fun _ => 0, fun _ => 0, rfl, fun t h => absurd h (by omega)⟩
theorem rd_ChS {P : (Nat → Nat) → Nat → Nat → Prop} {G : Nat → Nat → Int} {m n : Nat} {nb : Nat → Nat} {u k : Nat} (h : rd_Ch P G m n nb) (g : rc_gd G nb) (hb : ∀ k, k < 3 → nb k < 3 + m) (p : P nb u k) : rd_Ch P G m (n + 1) (rc_up nb k u) := by
  obtain ⟨s, us, ks, e, a⟩ := h
  refine ⟨fun t => if t ≤ n then s t else rc_up nb k u, fun t => if t < n then us t else u, fun t => if t < n then ks t else k, ?_, ?_⟩
  · exact if_neg (by omega)
  · intro t ht
    dsimp only
    by_cases c : t < n
    · rw [if_pos c, if_pos c, if_pos (by omega), if_pos (by omega)]
      exact a t c
    · have : t = n := by omega
      subst this
      rw [if_neg c, if_neg c, if_pos (by omega), if_neg (by omega), e]
      exact ⟨g, hb, p, rfl⟩
/-- no repeat, so fewer than 8000 steps -/
theorem rd_ChB {P : (Nat → Nat) → Nat → Nat → Prop} {G : Nat → Nat → Int} {m : Nat} (hm : m ≤ 19)
    (nr : ∀ (s : Nat → Nat → Nat) (us ks : Nat → Nat) (i j : Nat), i < j → (∀ t, i ≤ t → t < j → rc_gd G (s t) ∧ (∀ k, k < 3 → s t k < 3 + m) ∧ P (s t) (us t) (ks t) ∧ s (t + 1) = rc_up (s t) (ks t) (us t)) → rc_gd G (s j) → (∀ w, rc_in (s i) w ↔ rc_in (s j) w) → False)
    {n : Nat} {nb : Nat → Nat} (h : rd_Ch P G m n nb) (g : rc_gd G nb) (hb : ∀ k, k < 3 → nb k < 3 + m) : n < 8000 := by
  by_cases c : n < 8000
  · exact c
  · exfalso
    obtain ⟨s, us, ks, e, a⟩ := h
    have A : ∀ t, t ≤ n → rc_gd G (s t) ∧ (∀ k, k < 3 → s t k < 3 + m) := by
      intro t ht
      by_cases c : t < n
      · exact ⟨(a t c).1, (a t c).2.1⟩
      · have : t = n := by omega
        subst this
        rw [e]
        exact ⟨g, hb⟩
    obtain ⟨i, j, h1, h2, h3⟩ := rd_pig 8000 (fun t => rd_cd (s t)) (by
      intro t ht
      obtain ⟨x, y, z, b1, b2, b3, b4, _⟩ := rd_cdl hm (A t (by omega)).1 (A t (by omega)).2
      rw [b4]
      omega)
    obtain ⟨x, y, z, b1, b2, b3, b4, b5⟩ := rd_cdl hm (A i (by omega)).1 (A i (by omega)).2
    obtain ⟨x', y', z', b1', b2', b3', b4', b5'⟩ := rd_cdl hm (A j (by omega)).1 (A j (by omega)).2
    rw [b4, b4'] at h3
    have ex : x = x' := by omega
    have ey : y = y' := by omega
    have ez : z = z' := by omega
    subst ex ey ez
    exact nr s us ks i j h1 (fun t _ q => a t (by omega)) (A j (by omega)).1 (fun w => (b5 w).trans (b5' w).symm)
end
section
/-! Bland's rule for the search of a feasible basis -/
def re_su (G : Nat → Nat → Int) (nb : Nat → Nat) (g : Nat → Int) (l : Nat) : Prop := 0 < rc_tv G nb g l ∨ (rc_tv G nb g l < 0 ∧ nb l < 3)
def re_P1 (G : Nat → Nat → Int) (L : Nat → Int) (m : Nat) (nb : Nat → Nat) (u k : Nat) : Prop :=
  3 ≤ u ∧ u < 3 + m ∧ k < 3 ∧ rc_sl G L nb u < 0 ∧ (∀ w, 3 ≤ w → w < u → 0 ≤ rc_sl G L nb w) ∧ re_su G nb (G u) k ∧ ∀ l, l < 3 → re_su G nb (G u) l → nb k ≤ nb l
theorem re_su0 {G : Nat → Nat → Int} {nb : Nat → Nat} {g : Nat → Int} {l : Nat} (h : re_su G nb g l) : rc_tv G nb g l ≠ 0 := by
  rcases h with h | h
  · omega
  · have := h.1; omega
theorem re_nr1 {G : Nat → Nat → Int} {L : Nat → Int} {m : Nat} (s : Nat → Nat → Nat) (us ks : Nat → Nat) (i j : Nat) (hij : i < j)
    (H : ∀ t, i ≤ t → t < j → rc_gd G (s t) ∧ (∀ k, k < 3 → s t k < 3 + m) ∧ re_P1 G L m (s t) (us t) (ks t) ∧ s (t + 1) = rc_up (s t) (ks t) (us t)) (_ : rc_gd G (s j)) (he : ∀ w, rc_in (s i) w ↔ rc_in (s j) w) : False := by
  have hC : rd_chn G s us ks i j := by
    intro t h1 h2
    obtain ⟨a, _, p, e⟩ := H t h1 h2
    refine ⟨a, p.2.2.1, ?_, e⟩
    intro z
    have := rc_slin (G := G) (L := L) z
    have := p.2.2.2.1
    omega
  obtain ⟨T, t1, t2, a1, a2, b1, b2, eT1, eT2, hF⟩ := rd_fick (3 + m) hC hij (fun t h1 h2 => ⟨(H t h1 h2).2.2.1.2.1, (H t h1 h2).2.1 _ (H t h1 h2).2.2.1.2.2.1⟩) he
  obtain ⟨g1, n1, ⟨p1, p2, p3, p4, p5, p6, p7⟩, _⟩ := H t1 a1 a2
  obtain ⟨g2, n2, ⟨q1, q2, q3, q4, q5, q6, q7⟩, _⟩ := H t2 b1 b2
  have hT3 : 3 ≤ T := by omega
  have key : ∀ k, k < 3 → rc_tv G (s t1) (G (us t1)) k * rc_sl G L (s t2) (s t1 k) ≤ 0 := by
    intro k hk
    by_cases hw : rd_F s us ks i j (s t1 k)
    · obtain ⟨hle, t, c1, c2, c3⟩ := hF _ hw
      have h3 : 3 ≤ s t1 k := by rw [← c3]; exact (H t c1 c2).2.2.1.1
      by_cases e : s t1 k = T
      · have ek : k = ks t1 := rc_dist g1 hk p3 (e.trans eT1.symm)
        subst ek
        rw [e]
        have x1 : 0 < rc_tv G (s t1) (G (us t1)) (ks t1) := by
          rcases p6 with z | z
          · exact z
          · exact absurd z.2 (by omega)
        rw [← eT2]
        exact Int.mul_nonpos_of_nonneg_of_nonpos (by omega) (by omega)
      · have x1 : ¬ re_su G (s t1) (G (us t1)) k := by
          intro z
          have := p7 k hk z
          omega
        have x2 : rc_tv G (s t1) (G (us t1)) k ≤ 0 := by
          by_cases z : rc_tv G (s t1) (G (us t1)) k ≤ 0
          · exact z
          · exact absurd (Or.inl (by omega)) x1
        exact Int.mul_nonpos_of_nonpos_of_nonneg x2 (q5 _ h3 (by omega))
    · have := rd_nF hC hw (a := t1) (b := t2) (by omega) (by omega) (by omega) (by omega) (rc_inI hk)
      rw [rc_slin this, Int.mul_zero]
      exact Int.le_refl 0
  have ex := rc_slex (G := G) (L := L) (nb := s t1) (s t2) (us t1)
  have k0 := key 0 (by omega)
  have k1 := key 1 (by omega)
  have k2 := key 2 (by omega)
  have d1 := rc_denp g1
  have d2 := rc_denp g2
  have hneg : rc_den G (s t2) * rc_sl G L (s t1) (us t1) < 0 := Int.mul_neg_of_pos_of_neg d2 p4
  have hu : rd_F s us ks i j (us t1) := ⟨t1, a1, a2, Or.inl rfl⟩
  have hle := (hF _ hu).1
  have hne : us t1 ≠ T := by
    intro z
    apply (hC t1 a1 a2).2.2.1
    rw [z, ← eT1]
    exact rc_inI p3
  have hs := q5 (us t1) p1 (by omega)
  have := Int.mul_nonneg (show 0 ≤ rc_den G (s t1) by omega) hs
  omega
/-! Bland's rule for the optimum -/
def re_iu (G : Nat → Nat → Int) (nb : Nat → Nat) (c : Nat → Int) (l : Nat) : Prop := rc_tv G nb c l < 0 ∨ (0 < rc_tv G nb c l ∧ nb l < 3)
def re_dl (G : Nat → Nat → Int) (nb : Nat → Nat) (c : Nat → Int) (k : Nat) : Int := if 0 < rc_tv G nb c k then 1 else -1
def re_rt (G : Nat → Nat → Int) (nb : Nat → Nat) (c : Nat → Int) (k w : Nat) : Int := rc_tv G nb (G w) k * re_dl G nb c k
def re_P2 (G : Nat → Nat → Int) (L : Nat → Int) (m : Nat) (c : Nat → Int) (nb : Nat → Nat) (u k : Nat) : Prop :=
  k < 3 ∧ (∀ w, 3 ≤ w → w < 3 + m → 0 ≤ rc_sl G L nb w) ∧ re_iu G nb c k ∧ (∀ l, l < 3 → re_iu G nb c l → nb k ≤ nb l) ∧ 3 ≤ u ∧ u < 3 + m ∧ 0 < re_rt G nb c k u ∧
  ∀ w, 3 ≤ w → w < 3 + m → 0 < re_rt G nb c k w → rc_sl G L nb u * re_rt G nb c k w ≤ rc_sl G L nb w * re_rt G nb c k u ∧ (rc_sl G L nb u * re_rt G nb c k w = rc_sl G L nb w * re_rt G nb c k u → u ≤ w)
theorem re_dlc (G : Nat → Nat → Int) (nb : Nat → Nat) (c : Nat → Int) (k : Nat) : re_dl G nb c k = 1 ∨ re_dl G nb c k = -1 := by
  unfold re_dl
  by_cases h : 0 < rc_tv G nb c k
  · rw [if_pos h]; exact Or.inl rfl
  · rw [if_neg h]; exact Or.inr rfl
theorem re_dlp {G : Nat → Nat → Int} {nb : Nat → Nat} {c : Nat → Int} {k : Nat} (h : re_iu G nb c k) : 0 < rc_tv G nb c k * re_dl G nb c k := by
  unfold re_dl
  rcases h with h | h
  · rw [if_neg (by omega)]; omega
  · rw [if_pos h.1]; omega
section
variable {G : Nat → Nat → Int} {L : Nat → Int} {m : Nat} {c : Nat → Int} {nb : Nat → Nat} {u k : Nat}
theorem re_p0 (h : re_P2 G L m c nb u k) : rc_tv G nb (G u) k ≠ 0 := by
  have := h.2.2.2.2.2.2.1
  unfold re_rt at this
  intro z
  rw [z, Int.zero_mul] at this
  omega
theorem re_psg (h : re_P2 G L m c nb u k) : rb_sg (rc_tv G nb (G u) k) = re_dl G nb c k := by
  have h1 := h.2.2.2.2.2.2.1
  have h0 := re_p0 h
  unfold re_rt at h1
  rcases re_dlc G nb c k with z | z
  · rw [z] at h1 ⊢
    exact rb_sgnn (by omega)
  · rw [z] at h1 ⊢
    exact rb_sgn (by omega)
theorem re_nin (g : rc_gd G nb) (h : re_P2 G L m c nb u k) : ¬ rc_in nb u := by
  intro z
  obtain ⟨l, hl, e⟩ := rc_inE z
  have h1 := h.2.2.2.2.2.2.1
  have hk := h.1
  have h3 := h.2.2.2.2.1
  unfold re_rt at h1
  rw [← e] at h1
  by_cases kl : k = l
  · subst kl
    rw [rc_tvk] at h1
    have d := rc_denp g
    have i1 := h.2.2.1
    rcases re_dlc G nb c k with q | q
    · have : 0 < rc_tv G nb c k := by
        unfold re_dl at q
        by_cases w : 0 < rc_tv G nb c k
        · exact w
        · rw [if_neg w] at q; omega
      rcases i1 with r | r
      · omega
      · have := r.2; omega
    · rw [q] at h1; omega
  · rw [rc_tvkl hk hl kl, Int.zero_mul] at h1
    omega
theorem re_rd (h : re_P2 G L m c nb u k) : rc_den G (rc_up nb k u) = re_rt G nb c k u := by
  rw [rc_denup (re_p0 h), re_psg h]
  unfold re_rt
  exact Int.mul_comm _ _
theorem re_sl (h : re_P2 G L m c nb u k) (w : Nat) : rc_den G nb * rc_sl G L (rc_up nb k u) w = re_rt G nb c k u * rc_sl G L nb w - re_rt G nb c k w * rc_sl G L nb u := by
  rw [rc_slup h.1 (re_p0 h), re_psg h]
  unfold re_rt
  grind
theorem re_fe (g : rc_gd G nb) (h : re_P2 G L m c nb u k) : ∀ w, 3 ≤ w → w < 3 + m → 0 ≤ rc_sl G L (rc_up nb k u) w := by
  intro w h1 h2
  have e := re_sl h w
  have d := rc_denp g
  have a := h.2.2.2.2.2.2.1
  have s1 := h.2.1 w h1 h2
  have s2 := h.2.1 u h.2.2.2.2.1 h.2.2.2.2.2.1
  have kk : 0 ≤ rc_den G nb * rc_sl G L (rc_up nb k u) w := by
    rw [e]
    by_cases r : 0 < re_rt G nb c k w
    · have := (h.2.2.2.2.2.2.2 w h1 h2 r).1
      have c1 := Int.mul_comm (rc_sl G L nb u) (re_rt G nb c k w)
      have c2 := Int.mul_comm (rc_sl G L nb w) (re_rt G nb c k u)
      omega
    · have x1 := Int.mul_nonneg (show 0 ≤ re_rt G nb c k u by omega) s1
      have x2 := Int.mul_nonpos_of_nonpos_of_nonneg (show re_rt G nb c k w ≤ 0 by omega) s2
      omega
  by_cases z : 0 ≤ rc_sl G L (rc_up nb k u) w
  · exact z
  · have := Int.mul_neg_of_pos_of_neg d (show rc_sl G L (rc_up nb k u) w < 0 by omega)
    omega
theorem re_vl (h : re_P2 G L m c nb u k) : rc_den G nb * rc_vl G L (rc_up nb k u) c = rc_den G (rc_up nb k u) * rc_vl G L nb c + (rc_tv G nb c k * re_dl G nb c k) * rc_sl G L nb u := by
  rw [rc_vlup h.1 (re_p0 h), re_rd h, re_psg h]
  unfold re_rt
  grind
end
theorem re_nr2 {G : Nat → Nat → Int} {L : Nat → Int} {m : Nat} {c : Nat → Int} (s : Nat → Nat → Nat) (us ks : Nat → Nat) (i j : Nat) (hij : i < j)
    (H : ∀ t, i ≤ t → t < j → rc_gd G (s t) ∧ (∀ k, k < 3 → s t k < 3 + m) ∧ re_P2 G L m c (s t) (us t) (ks t) ∧ s (t + 1) = rc_up (s t) (ks t) (us t)) (gj : rc_gd G (s j)) (he : ∀ w, rc_in (s i) w ↔ rc_in (s j) w) : False := by
  have hC : rd_chn G s us ks i j := by
    intro t h1 h2
    obtain ⟨a, _, p, e⟩ := H t h1 h2
    exact ⟨a, p.1, re_nin a p, e⟩
  have hg : ∀ t, i ≤ t → t ≤ j → rc_gd G (s t) := by
    intro t h1 h2
    by_cases z : t < j
    · exact (H t h1 z).1
    · have : t = j := by omega
      rw [this]; exact gj
  have hd : ∀ t, i ≤ t → t ≤ j → 0 < rc_den G (s t) := fun t h1 h2 => rc_denp (hg t h1 h2)
  have hv : ∀ t, i ≤ t → t < j → rc_den G (s t) * rc_vl G L (s (t + 1)) c = rc_den G (s (t + 1)) * rc_vl G L (s t) c + (rc_tv G (s t) c (ks t) * re_dl G (s t) c (ks t)) * rc_sl G L (s t) (us t) := by
    intro t h1 h2
    rw [(H t h1 h2).2.2.2]
    exact re_vl (H t h1 h2).2.2.1
  have hs0 : ∀ t, i ≤ t → t < j → 0 ≤ rc_sl G L (s t) (us t) := by
    intro t h1 h2
    have p := (H t h1 h2).2.2.1
    exact p.2.1 _ p.2.2.2.2.1 p.2.2.2.2.2.1
  have hmono1 : ∀ t, i ≤ t → t < j → rc_vl G L (s t) c * rc_den G (s (t + 1)) ≤ rc_vl G L (s (t + 1)) c * rc_den G (s t) := by
    intro t h1 h2
    have e := hv t h1 h2
    have x := Int.mul_nonneg (show 0 ≤ rc_tv G (s t) c (ks t) * re_dl G (s t) c (ks t) by have := re_dlp (H t h1 h2).2.2.1.2.2.1; omega) (hs0 t h1 h2)
    rw [Int.mul_comm (rc_vl G L (s t) c), Int.mul_comm (rc_vl G L (s (t + 1)) c)]
    omega
  have hmono : ∀ a, i ≤ a → ∀ d, a + d ≤ j → rc_vl G L (s a) c * rc_den G (s (a + d)) ≤ rc_vl G L (s (a + d)) c * rc_den G (s a) := by
    intro a ha d
    induction d with
    | zero => intro _; exact Int.le_refl _
    | succ d ih =>
      intro h
      have h1 := ih (by omega)
      have h2 := hmono1 (a + d) (by omega) (by omega)
      exact rc_frt (hd (a + d) (by omega) (by omega)) (by have := hd a ha (by omega); omega) (show 0 ≤ rc_den G (s (a + d + 1)) by have := hd (a + d + 1) (by omega) (by omega); omega) h1 h2
  have hend := rc_same (G := G) (L := L) (hg i (by omega) (by omega)) (fun w => (he w).mp) c
  have hz : ∀ t, i ≤ t → t < j → rc_sl G L (s t) (us t) = 0 := by
    intro t h1 h2
    by_cases z : rc_sl G L (s t) (us t) = 0
    · exact z
    · exfalso
      have e := hv t h1 h2
      have x := Int.mul_pos (re_dlp (H t h1 h2).2.2.1.2.2.1) (show 0 < rc_sl G L (s t) (us t) by have := hs0 t h1 h2; omega)
      have st : rc_vl G L (s t) c * rc_den G (s (t + 1)) < rc_vl G L (s (t + 1)) c * rc_den G (s t) := by
        rw [Int.mul_comm (rc_vl G L (s t) c), Int.mul_comm (rc_vl G L (s (t + 1)) c)]
        omega
      have A := hmono i (by omega) (t - i) (by omega)
      rw [show i + (t - i) = t by omega] at A
      have B := hmono (t + 1) (by omega) (j - (t + 1)) (by omega)
      rw [show t + 1 + (j - (t + 1)) = j by omega] at B
      have C := rc_frl (hd t h1 (by omega)) (hd i (by omega) (by omega)) (by have := hd (t + 1) (by omega) (by omega); omega) A st
      have D := rc_frl' (hd (t + 1) (by omega) (by omega)) (by have := hd i (by omega) (by omega); omega) (hd j (by omega) (by omega)) C B
      rw [Int.mul_comm (rc_vl G L (s i) c), Int.mul_comm (rc_vl G L (s j) c)] at D
      omega
  have hstep : ∀ t, i ≤ t → t < j → ∀ w, rc_sl G L (s t) w = 0 ↔ rc_sl G L (s (t + 1)) w = 0 := by
    intro t h1 h2 w
    have e := re_sl (H t h1 h2).2.2.1 w
    rw [← (H t h1 h2).2.2.2, hz t h1 h2, Int.mul_zero, Int.sub_zero] at e
    have d1 := hd t h1 (by omega)
    have d2 := (H t h1 h2).2.2.1.2.2.2.2.2.2.1
    constructor
    · intro z
      rw [z, Int.mul_zero] at e
      rcases Int.mul_eq_zero.mp e with q | q
      · omega
      · exact q
    · intro z
      rw [z, Int.mul_zero] at e
      rcases Int.mul_eq_zero.mp e.symm with q | q
      · omega
      · exact q
  have hall : ∀ a, i ≤ a → ∀ d, a + d ≤ j → ∀ w, rc_sl G L (s a) w = 0 ↔ rc_sl G L (s (a + d)) w = 0 := by
    intro a ha d
    induction d with
    | zero => intro _ w; exact Iff.rfl
    | succ d ih =>
      intro h w
      exact (ih (by omega) w).trans (hstep (a + d) (by omega) (by omega) w)
  have hany : ∀ a b, i ≤ a → a ≤ j → i ≤ b → b ≤ j → ∀ w, rc_sl G L (s a) w = 0 → rc_sl G L (s b) w = 0 := by
    intro a b h1 h2 h3 h4 w hw
    by_cases ab : a ≤ b
    · have := (hall a h1 (b - a) (by omega) w).mp hw
      rwa [show a + (b - a) = b by omega] at this
    · have := (hall b h3 (a - b) (by omega) w)
      rw [show b + (a - b) = a by omega] at this
      exact this.mpr hw
  obtain ⟨T, t1, t2, a1, a2, b1, b2, eT1, eT2, hF⟩ := rd_fick (3 + m) hC hij (fun t h1 h2 => ⟨(H t h1 h2).2.2.1.2.2.2.2.2.1, (H t h1 h2).2.1 _ (H t h1 h2).2.2.1.1⟩) he
  obtain ⟨g1, n1, P1, _⟩ := H t1 a1 a2
  obtain ⟨g2, n2, P2, _⟩ := H t2 b1 b2
  obtain ⟨p1, p2, p3, p4, p5, p6, p7, p8⟩ := P1
  obtain ⟨q1, q2, q3, q4, q5, q6, q7, q8⟩ := P2
  have key : ∀ l, l < 3 → rc_tv G (s t1) c l * re_rt G (s t2) c (ks t2) (s t1 l) ≤ 0 := by
    intro l hl
    by_cases hw : rd_F s us ks i j (s t1 l)
    · obtain ⟨hle, t, c1, c2, c3⟩ := hF _ hw
      have h3 : 3 ≤ s t1 l := by rw [← c3]; exact (H t c1 c2).2.2.1.2.2.2.2.1
      have h4 := n1 l hl
      by_cases e : s t1 l = T
      · have ek : l = ks t1 := rc_dist g1 hl p1 (e.trans eT1.symm)
        have x1 : rc_tv G (s t1) c l < 0 := by
          rw [ek]
          rcases p3 with z | z
          · exact z
          · exact absurd z.2 (by rw [← ek]; omega)
        rw [e, ← eT2]
        exact Int.mul_nonpos_of_nonpos_of_nonneg (by omega) (by omega)
      · have x1 : ¬ re_iu G (s t1) c l := by
          intro z
          have := p4 l hl z
          omega
        have x2 : 0 ≤ rc_tv G (s t1) c l := by
          by_cases z : 0 ≤ rc_tv G (s t1) c l
          · exact z
          · exact absurd (Or.inl (by omega)) x1
        have x3 : re_rt G (s t2) c (ks t2) (s t1 l) ≤ 0 := by
          by_cases z : re_rt G (s t2) c (ks t2) (s t1 l) ≤ 0
          · exact z
          · exfalso
            have y := (q8 (s t1 l) h3 h4 (by omega)).2
            have z1 := hz t2 b1 b2
            have z2 := hany t1 t2 a1 (by omega) b1 (by omega) (s t1 l) (rc_sl0 hl)
            rw [z1, z2, Int.zero_mul, Int.zero_mul] at y
            have := y rfl
            omega
        exact Int.mul_nonpos_of_nonneg_of_nonpos x2 x3
    · have hin := rd_nF hC hw (a := t1) (b := t2) (by omega) (by omega) (by omega) (by omega) (rc_inI hl)
      obtain ⟨l', hl', el⟩ := rc_inE hin
      have nk : ks t2 ≠ l' := by
        intro z
        apply hw
        exact ⟨t2, b1, b2, Or.inr (by rw [z, el])⟩
      have : re_rt G (s t2) c (ks t2) (s t1 l) = 0 := by
        unfold re_rt
        rw [← el, rc_tvkl q1 hl' nk, Int.zero_mul]
      rw [this, Int.mul_zero]
      exact Int.le_refl 0
  have ex := rc_tvex (G := G) (nb := s t1) (s t2) c q1
  have k0 := key 0 (by omega)
  have k1 := key 1 (by omega)
  have k2 := key 2 (by omega)
  have dp := re_dlp q3
  have d1 := rc_denp g1
  have pos := Int.mul_pos d1 dp
  unfold re_rt at k0 k1 k2
  generalize re_dl G (s t2) c (ks t2) = δ at *
  generalize rc_tv G (s t2) c (ks t2) = x at *
  generalize rc_tv G (s t2) (G (s t1 0)) (ks t2) = y0 at *
  generalize rc_tv G (s t2) (G (s t1 1)) (ks t2) = y1 at *
  generalize rc_tv G (s t2) (G (s t1 2)) (ks t2) = y2 at *
  generalize rc_tv G (s t1) c 0 = z0 at *
  generalize rc_tv G (s t1) c 1 = z1 at *
  generalize rc_tv G (s t1) c 2 = z2 at *
  have : rc_den G (s t1) * (x * δ) = z0 * (y0 * δ) + z1 * (y1 * δ) + z2 * (y2 * δ) := by
    rw [← Int.mul_assoc, ex]
    grind
  omega
end
section
/-! a system of rows: unknowns 0, 1, 2 are the coordinates, unknown 3 + j is row j -/
def rf_G (A : Nat → Nat → Int) : Nat → Nat → Int := fun u => if u < 3 then rb_e u else A (u - 3)
def rf_L (b : Nat → Int) : Nat → Int := fun u => if u < 3 then 0 else b (u - 3)
def rf_in (m : Nat) (A : Nat → Nat → Int) (b : Nat → Int) (x : Nat → Int) (d : Int) : Prop := 0 < d ∧ ∀ j, j < m → rb_dot (A j) x ≤ d * b j
theorem rf_Gr (A : Nat → Nat → Int) (j : Nat) : rf_G A (3 + j) = A j := by
  unfold rf_G
  rw [if_neg (by omega), show 3 + j - 3 = j by omega]
theorem rf_Lr (b : Nat → Int) (j : Nat) : rf_L b (3 + j) = b j := by
  unfold rf_L
  rw [if_neg (by omega), show 3 + j - 3 = j by omega]
theorem rf_Gv (A : Nat → Nat → Int) {u : Nat} (h : u < 3) : rf_G A u = rb_e u := if_pos h
theorem rf_Lv (b : Nat → Int) {u : Nat} (h : u < 3) : rf_L b u = 0 := if_pos h
theorem rf_row {u m : Nat} (h : 3 ≤ u) (h2 : u < 3 + m) : ∃ j, j < m ∧ u = 3 + j := ⟨u - 3, by omega, by omega⟩
section
variable {m : Nat} {A : Nat → Nat → Int} {b : Nat → Int} {nb : Nat → Nat}
/-- a feasible basis -/
theorem rf_feas (g : rc_gd (rf_G A) nb) (h : ∀ w, 3 ≤ w → w < 3 + m → 0 ≤ rc_sl (rf_G A) (rf_L b) nb w) : rf_in m A b (rc_pt (rf_G A) (rf_L b) nb) (rc_den (rf_G A) nb) := by
  refine ⟨rc_denp g, fun j hj => ?_⟩
  have := h (3 + j) (by omega) (by omega)
  unfold rc_sl at this
  rw [rf_Gr, rf_Lr, rc_vld] at this
  omega
theorem rf_lim {x : Nat → Int} {d : Int} (hx : rf_in m A b x d) {u : Nat} (h3 : 3 ≤ u) (hu : u < 3 + m) : rb_dot (rf_G A u) x ≤ d * rf_L b u := by
  obtain ⟨j, hj, rfl⟩ := rf_row h3 hu
  rw [rf_Gr, rf_Lr]
  exact hx.2 j hj
/-- a conflict -/
theorem rf_conf (g : rc_gd (rf_G A) nb) (hb : ∀ k, k < 3 → nb k < 3 + m) {u : Nat} (h3 : 3 ≤ u) (hu : u < 3 + m) (hs : rc_sl (rf_G A) (rf_L b) nb u < 0) (hn : ∀ l, l < 3 → ¬ re_su (rf_G A) nb (rf_G A u) l) {x : Nat → Int} {d : Int} (hx : rf_in m A b x d) : False := by
  have key : ∀ l, l < 3 → rc_tv (rf_G A) nb (rf_G A u) l * (d * rf_L b (nb l)) ≤ rc_tv (rf_G A) nb (rf_G A u) l * rb_dot (rf_G A (nb l)) x := by
    intro l hl
    have n := hn l hl
    have t0 : rc_tv (rf_G A) nb (rf_G A u) l ≤ 0 := by
      by_cases z : rc_tv (rf_G A) nb (rf_G A u) l ≤ 0
      · exact z
      · exact absurd (Or.inl (by omega)) n
    by_cases c : nb l < 3
    · have : rc_tv (rf_G A) nb (rf_G A u) l = 0 := by
        by_cases z : rc_tv (rf_G A) nb (rf_G A u) l < 0
        · exact absurd (Or.inr ⟨z, c⟩) n
        · omega
      rw [this, Int.zero_mul, Int.zero_mul]
      exact Int.le_refl 0
    · have := rf_lim hx (u := nb l) (by omega) (hb l hl)
      exact Int.mul_le_mul_of_nonpos_left t0 this
  have e := rc_ex (G := rf_G A) (nb := nb) (rf_G A u) x
  have k0 := key 0 (by omega)
  have k1 := key 1 (by omega)
  have k2 := key 2 (by omega)
  have v := rc_vl3 (G := rf_G A) (L := rf_L b) (nb := nb) (rf_G A u)
  have dp := rc_denp g
  have l1 := rf_lim hx h3 hu
  unfold rc_sl at hs
  have hd := hx.1
  have a1 := Int.mul_le_mul_of_nonneg_left l1 (show 0 ≤ rc_den (rf_G A) nb by omega)
  have a2 := Int.mul_lt_mul_of_pos_left hs hd
  generalize rc_den (rf_G A) nb = D at *
  generalize rc_vl (rf_G A) (rf_L b) nb (rf_G A u) = W at *
  generalize rc_tv (rf_G A) nb (rf_G A u) 0 = t0 at *
  generalize rc_tv (rf_G A) nb (rf_G A u) 1 = t1 at *
  generalize rc_tv (rf_G A) nb (rf_G A u) 2 = t2 at *
  generalize rb_dot (rf_G A (nb 0)) x = x0 at *
  generalize rb_dot (rf_G A (nb 1)) x = x1 at *
  generalize rb_dot (rf_G A (nb 2)) x = x2 at *
  generalize rb_dot (rf_G A u) x = xu at *
  subst v
  grind
/-- an optimal basis bounds the form, with equality only where its rows are at their limits -/
theorem rf_opt (hb : ∀ k, k < 3 → nb k < 3 + m) {c : Nat → Int} (hn : ∀ l, l < 3 → ¬ re_iu (rf_G A) nb c l) {x : Nat → Int} {d : Int} (hx : rf_in m A b x d) :
    rc_den (rf_G A) nb * rb_dot c x ≤ d * rc_vl (rf_G A) (rf_L b) nb c ∧ (rc_den (rf_G A) nb * rb_dot c x = d * rc_vl (rf_G A) (rf_L b) nb c → ∀ l, l < 3 → rc_tv (rf_G A) nb c l ≠ 0 → rb_dot (rf_G A (nb l)) x = d * rf_L b (nb l)) := by
  have key : ∀ l, l < 3 → 0 ≤ rc_tv (rf_G A) nb c l ∧ (rc_tv (rf_G A) nb c l ≠ 0 → rb_dot (rf_G A (nb l)) x ≤ d * rf_L b (nb l)) := by
    intro l hl
    have n := hn l hl
    have t0 : 0 ≤ rc_tv (rf_G A) nb c l := by
      by_cases z : 0 ≤ rc_tv (rf_G A) nb c l
      · exact z
      · exact absurd (Or.inl (by omega)) n
    refine ⟨t0, fun z => ?_⟩
    by_cases q : nb l < 3
    · exact absurd (Or.inr ⟨by omega, q⟩) n
    · exact rf_lim hx (u := nb l) (by omega) (hb l hl)
  have key2 : ∀ l, l < 3 → rc_tv (rf_G A) nb c l * rb_dot (rf_G A (nb l)) x ≤ rc_tv (rf_G A) nb c l * (d * rf_L b (nb l)) ∧ (rc_tv (rf_G A) nb c l * rb_dot (rf_G A (nb l)) x = rc_tv (rf_G A) nb c l * (d * rf_L b (nb l)) → rc_tv (rf_G A) nb c l ≠ 0 → rb_dot (rf_G A (nb l)) x = d * rf_L b (nb l)) := by
    intro l hl
    obtain ⟨a, q⟩ := key l hl
    by_cases z : rc_tv (rf_G A) nb c l = 0
    · rw [z]
      exact ⟨by rw [Int.zero_mul, Int.zero_mul]; exact Int.le_refl 0, fun _ w => absurd rfl w⟩
    · refine ⟨Int.mul_le_mul_of_nonneg_left (q z) a, fun e _ => ?_⟩
      exact Int.eq_of_mul_eq_mul_left z e
  have e := rc_ex (G := rf_G A) (nb := nb) c x
  have v := rc_vl3 (G := rf_G A) (L := rf_L b) (nb := nb) c
  have k0 := key2 0 (by omega)
  have k1 := key2 1 (by omega)
  have k2 := key2 2 (by omega)
  have s : d * rc_vl (rf_G A) (rf_L b) nb c = rc_tv (rf_G A) nb c 0 * (d * rf_L b (nb 0)) + rc_tv (rf_G A) nb c 1 * (d * rf_L b (nb 1)) + rc_tv (rf_G A) nb c 2 * (d * rf_L b (nb 2)) := by
    rw [v]; grind
  rw [e, s]
  obtain ⟨k01, k02⟩ := k0
  obtain ⟨k11, k12⟩ := k1
  obtain ⟨k21, k22⟩ := k2
  refine ⟨by omega, fun q l hl => ?_⟩
  rcases rb_lt3 hl with rfl | rfl | rfl
  · exact k02 (by omega)
  · exact k12 (by omega)
  · exact k22 (by omega)
/-- the ray of column k -/
def rf_ray (G : Nat → Nat → Int) (nb : Nat → Nat) (k : Nat) (δ : Int) : Nat → Int := fun i => rc_tv G nb (rb_e i) k * δ
theorem rf_rayd {G : Nat → Nat → Int} {k : Nat} (hk : k < 3) (δ : Int) (g : Nat → Int) : rb_dot g (rf_ray G nb k δ) = rc_tv G nb g k * δ := by
  have e : rc_tv G nb g k = _ := rb_tlin (rc_B G nb) g hk
  rw [e]
  unfold rb_dot rf_ray rc_tv
  grind
end
/-- the three planes of nb meet in x / d -/
def rf_cor (G : Nat → Nat → Int) (L : Nat → Int) (N : Nat) (nb : Nat → Nat) (x : Nat → Int) (d : Int) : Prop := rc_gd G nb ∧ (∀ k, k < 3 → nb k < N) ∧ 0 < d ∧ ∀ k, k < 3 → rb_dot (G (nb k)) x = d * L (nb k)
theorem rf_corX {G : Nat → Nat → Int} {L : Nat → Int} {N : Nat} {nb : Nat → Nat} (g : rc_gd G nb) (h : ∀ k, k < 3 → nb k < N) : rf_cor G L N nb (rc_pt G L nb) (rc_den G nb) :=
  ⟨g, h, rc_denp g, fun k hk => by rw [← rc_vld, rc_vls hk]⟩
/-- the meeting point is one -/
theorem rf_cor1 {G : Nat → Nat → Int} {L : Nat → Int} {N : Nat} {nb : Nat → Nat} {x y : Nat → Int} {d e : Int} (hx : rf_cor G L N nb x d) (hy : ∀ k, k < 3 → rb_dot (G (nb k)) y = e * L (nb k)) (g : Nat → Int) : e * rb_dot g x = d * rb_dot g y := by
  have k : ∀ l, l < 3 → rb_dot (G (nb l)) (fun i => e * x i) = rb_dot (G (nb l)) (fun i => d * y i) := by
    intro l hl
    rw [rb_ddot, rb_ddot, hx.2.2.2 l hl, hy l hl]
    grind
  have := rb_uniq (B := rc_B G nb) hx.1 (k 0 (by omega)) (k 1 (by omega)) (k 2 (by omega)) g
  rw [rb_ddot, rb_ddot] at this
  exact this
/-! nearest to zero, coordinate by coordinate -/
def rf_ab (z : Int) : Int := if z < 0 then -z else z
theorem rf_abn {z : Int} (h : z ≤ 0) : rf_ab z = -z := by
  unfold rf_ab
  by_cases c : z < 0
  · rw [if_pos c]
  · rw [if_neg c]; omega
theorem rf_abp {z : Int} (h : 0 ≤ z) : rf_ab z = z := if_neg (by omega)
theorem rf_ab0 (z : Int) : 0 ≤ rf_ab z := by
  unfold rf_ab
  by_cases c : z < 0
  · rw [if_pos c]; omega
  · rw [if_neg c]; omega
theorem rf_abz {z : Int} (h : rf_ab z = 0) : z = 0 := by
  unfold rf_ab at h
  by_cases c : z < 0
  · rw [if_pos c] at h; omega
  · rw [if_neg c] at h; exact h
theorem rf_abm (z d : Int) (hd : 0 ≤ d) : rf_ab (z * d) = rf_ab z * d := by
  by_cases c : z < 0
  · have := Int.mul_nonpos_of_nonpos_of_nonneg (show z ≤ 0 by omega) hd
    rw [rf_abn this, rf_abn (by omega)]; grind
  · have := Int.mul_nonneg (show 0 ≤ z by omega) hd
    rw [rf_abp this, rf_abp (by omega)]
/-- S' is the part of S whose coordinate i is nearest to zero -/
def rf_nst (S S' : (Nat → Int) → Int → Prop) (i : Nat) : Prop :=
  ∃ V E : Int, 0 < E ∧ (∀ x d, S x d → rf_ab V * d ≤ rf_ab (x i) * E ∧ (rf_ab V * d = rf_ab (x i) * E → S' x d)) ∧ ∀ x d, S' x d → S x d ∧ x i * E = V * d
theorem rf_nst0 {S : (Nat → Int) → Int → Prop} {i : Nat} (hS : ∀ x d, S x d → 0 < d) : rf_nst S (fun x d => S x d ∧ x i = 0) i := by
  refine ⟨0, 1, by omega, fun x d h => ?_, fun x d h => ⟨h.1, by rw [h.2]; omega⟩⟩
  rw [show rf_ab 0 = 0 from rfl, Int.zero_mul, Int.mul_one]
  exact ⟨rf_ab0 _, fun e => ⟨h, rf_abz e.symm⟩⟩
/-- x / d is better than y / e: nearer to zero, by the first coordinate that differs -/
def rf_bt (x : Nat → Int) (d : Int) (y : Nat → Int) (e : Int) : Prop :=
  rf_ab (x 0) * e < rf_ab (y 0) * d ∨ (rf_ab (x 0) * e = rf_ab (y 0) * d ∧ (rf_ab (x 1) * e < rf_ab (y 1) * d ∨ (rf_ab (x 1) * e = rf_ab (y 1) * d ∧ rf_ab (x 2) * e < rf_ab (y 2) * d)))
theorem rf_nst1 {S S' : (Nat → Int) → Int → Prop} {i : Nat} (h : rf_nst S S' i) {p y : Nat → Int} {d e : Int} (hd : 0 < d) (he : 0 < e) (hp : S' p d) (hy : S y e) (hn : ¬ rf_ab (p i) * e < rf_ab (y i) * d) : rf_ab (p i) * e = rf_ab (y i) * d ∧ S' y e ∧ p i * e = y i * d := by
  obtain ⟨V, E, hE, h1, h2⟩ := h
  have a := (h2 p d hp).2
  have b := h1 y e hy
  have a' : rf_ab (p i) * E = rf_ab V * d := by rw [← rf_abm _ _ (by omega), ← rf_abm _ _ (by omega), a]
  have c1 : rf_ab (y i) * d ≤ rf_ab (p i) * e := by omega
  have c2 : rf_ab V * e ≤ rf_ab (y i) * E := b.1
  have c3 := Int.mul_le_mul_of_nonneg_right c1 (show 0 ≤ E by omega)
  have c4 := Int.mul_le_mul_of_nonneg_right c2 (show 0 ≤ d by omega)
  have c5 : rf_ab V * e * d = rf_ab (y i) * E * d := by
    have : rf_ab (p i) * e * E = rf_ab V * e * d := by
      rw [show rf_ab (p i) * e * E = rf_ab (p i) * E * e by grind, a']; grind
    have : rf_ab (y i) * d * E = rf_ab (y i) * E * d := by grind
    omega
  have c6 : rf_ab V * e = rf_ab (y i) * E := Int.eq_of_mul_eq_mul_right (by omega) c5
  have hy' := b.2 c6
  have f := (h2 y e hy').2
  have k : p i * e = y i * d := by
    have : p i * e * E = y i * d * E := by
      rw [show p i * e * E = p i * E * e by grind, a, show y i * d * E = y i * E * d by grind, f]; grind
    exact Int.eq_of_mul_eq_mul_right (by omega) this
  refine ⟨?_, hy', k⟩
  rw [← rf_abm _ _ (by omega), ← rf_abm _ _ (by omega), k]
theorem rf_canon {S0 S1 S2 S3 : (Nat → Int) → Int → Prop} (n0 : rf_nst S0 S1 0) (n1 : rf_nst S1 S2 1) (n2 : rf_nst S2 S3 2) {p y : Nat → Int} {d e : Int} (hd : 0 < d) (he : 0 < e) (hp : S3 p d) (hy : S0 y e) (hn : ¬ rf_bt p d y e) :
    ∀ i, i < 3 → p i * e = y i * d := by
  have p2 : S2 p d := by obtain ⟨V, E, _, _, h2⟩ := n2; exact (h2 p d hp).1
  have p1 : S1 p d := by obtain ⟨V, E, _, _, h2⟩ := n1; exact (h2 p d p2).1
  obtain ⟨a1, a2, a3⟩ := rf_nst1 n0 hd he p1 hy (fun z => hn (Or.inl z))
  obtain ⟨b1, b2, b3⟩ := rf_nst1 n1 hd he p2 a2 (fun z => hn (Or.inr ⟨a1, Or.inl z⟩))
  obtain ⟨c1, c2, c3⟩ := rf_nst1 n2 hd he hp b2 (fun z => hn (Or.inr ⟨a1, Or.inr ⟨b1, z⟩⟩))
  intro i hi
  rcases rb_lt3 hi with rfl | rfl | rfl
  · exact a3
  · exact b3
  · exact c3
/-- better is transitive -/
theorem rf_btT {x y z : Nat → Int} {d e f : Int} (hd : 0 < d) (he : 0 < e) (hf : 0 < f) (h1 : rf_bt x d y e) (h2 : rf_bt y e z f) : rf_bt x d z f := by
  have L : ∀ {a b c : Int}, a * e < b * d → b * f ≤ c * e → a * f < c * d := fun h k => rc_frl' he (by omega) hf h k
  have L' : ∀ {a b c : Int}, a * e ≤ b * d → b * f < c * e → a * f < c * d := fun h k => rc_frl he hd (by omega) h k
  have E : ∀ {a b c : Int}, a * e = b * d → b * f = c * e → a * f = c * d := by
    intro a b c h k
    have p := rc_frt he (show 0 ≤ d by omega) (show 0 ≤ f by omega) (Int.le_of_eq h) (Int.le_of_eq k)
    have q := rc_frt he (show 0 ≤ f by omega) (show 0 ≤ d by omega) (Int.le_of_eq k.symm) (Int.le_of_eq h.symm)
    omega
  rcases h1 with h1 | ⟨g1, h1⟩
  · rcases h2 with h2 | ⟨g2, h2⟩
    · exact Or.inl (L h1 (by omega))
    · exact Or.inl (L h1 (by omega))
  · rcases h2 with h2 | ⟨g2, h2⟩
    · exact Or.inl (L' (by omega) h2)
    · refine Or.inr ⟨E g1 g2, ?_⟩
      rcases h1 with h1 | ⟨k1, h1⟩
      · rcases h2 with h2 | ⟨k2, h2⟩
        · exact Or.inl (L h1 (by omega))
        · exact Or.inl (L h1 (by omega))
      · rcases h2 with h2 | ⟨k2, h2⟩
        · exact Or.inl (L' (by omega) h2)
        · exact Or.inr ⟨E k1 k2, L h1 (by omega)⟩
end
section
/-! the component's tableau as a picture of a basis -/
def rf_sm (f : Nat → Int) : Nat → Int
  | 0 => 0
  | n + 1 => rf_sm f n + f n
theorem rf_sm3 {f : Nat → Int} {v : Nat} (hv : v ≤ 3) (h : ∀ k, v ≤ k → k < 3 → f k = 0) : rf_sm f v = f 0 + f 1 + f 2 := by
  have c : v = 0 ∨ v = 1 ∨ v = 2 ∨ v = 3 := by omega
  rcases c with rfl | rfl | rfl | rfl
  · rw [h 0 (by omega) (by omega), h 1 (by omega) (by omega), h 2 (by omega) (by omega)]; rfl
  · rw [h 1 (by omega) (by omega), h 2 (by omega) (by omega)]; simp [rf_sm]
  · rw [h 2 (by omega) (by omega)]; simp [rf_sm]
  · simp [rf_sm]
theorem xw_ix (r i : Nat) : (3 : Int32) * nI r + nI i = nI (3 * r + i) := by
  rw [show (3 : Int32) = nI 3 from rfl, pk_mul, nI_add]
theorem xw_in {r i N : Nat} (h : 3 * r + i < N) (hN : N < 2 ^ 31) : vp_in (3 * nI r + nI i) N := by
  rw [xw_ix]
  exact vp_in_nI h hN
theorem xw_cl {r i : Nat} (h : 3 * r + i < 2 ^ 31) : (3 * nI r + nI i).toNatClampNeg = 3 * r + i := by
  rw [xw_ix]
  exact nI_clamp h
def rg_c (v u : Nat) : Nat := if u < 3 then u else u - 3 + v
def rg_ok (v m u : Nat) : Prop := u < v ∨ (3 ≤ u ∧ u < 3 + m)
def rg_b (V Q : Nat → Int) : Nat → Int := fun j => V j * zM + Q j
def rg_N (v m : Nat) (nb : Nat → Nat) (xnb : Nat → Int32) : Prop := (∀ k, k < v → xnb k = nI (rg_c v (nb k)) ∧ rg_ok v m (nb k)) ∧ (∀ k, v ≤ k → k < 3 → nb k = k)
/-- the rows that are loaded -/
def rg_R (m : Nat) (V Q : Nat → Int) (xrv xrd : Nat → Int64) : Prop := ∀ j, j < m → xrv j = zL (V j) ∧ xrd j = zL (Q j)
def rg_A (v m : Nat) (A : Nat → Nat → Int) (xcf : Nat → Int64) : Prop := ∀ j, j < m → ∀ i, i < v → xcf (3 * j + i) = zL (A j i)
/-- their bounds -/
def rg_S (v m : Nat) (A : Nat → Nat → Int) (V Q : Nat → Int) : Prop := 1 ≤ v ∧ v ≤ 3 ∧ m ≤ 19 ∧ ∀ j, j < m → rb_bd (A j) 20 ∧ (∀ i, v ≤ i → i < 3 → A j i = 0) ∧ zA (V j) 1000 ∧ zA (Q j) 1
/-- the basis -/
def rg_T (v m : Nat) (A : Nat → Nat → Int) (c : Nat → Int) (nb bs : Nat → Nat) (xde : Int64) (xta : Nat → Int64) (xba xnb : Nat → Int32) : Prop :=
  rc_gd (rf_G A) nb ∧ xde = zL (rc_den (rf_G A) nb) ∧ rg_N v m nb xnb ∧
  (∀ r, r < m → xba r = nI (rg_c v (bs r)) ∧ rg_ok v m (bs r) ∧ ¬ rc_in nb (bs r)) ∧
  (∀ u, rg_ok v m u → rc_in nb u ∨ ∃ r, r < m ∧ bs r = u) ∧
  (∀ r r', r < m → r' < m → bs r = bs r' → r = r') ∧
  (∀ r, r < m → ∀ k, k < v → xta (3 * r + k) = zL (rc_tv (rf_G A) nb (rf_G A (bs r)) k)) ∧
  (∀ k, k < v → xta (3 * m + k) = zL (rc_tv (rf_G A) nb c k))
theorem rg_Lb (V Q : Nat → Int) (u : Nat) : rf_L (rg_b V Q) u = rf_L V u * zM + rf_L Q u := by
  unfold rf_L
  by_cases h : u < 3
  · rw [if_pos h, if_pos h, if_pos h]; omega
  · rw [if_neg h, if_neg h, if_neg h]; rfl
theorem rg_vl (G : Nat → Nat → Int) (V Q : Nat → Int) (nb : Nat → Nat) (g : Nat → Int) : rc_vl G (rf_L (rg_b V Q)) nb g = rc_vl G (rf_L V) nb g * zM + rc_vl G (rf_L Q) nb g := by
  rw [rc_vl3, rc_vl3, rc_vl3, rg_Lb, rg_Lb, rg_Lb]
  grind
theorem rg_sl (G : Nat → Nat → Int) (V Q : Nat → Int) (nb : Nat → Nat) (u : Nat) : rc_sl G (rf_L (rg_b V Q)) nb u = rc_sl G (rf_L V) nb u * zM + rc_sl G (rf_L Q) nb u := by
  unfold rc_sl
  rw [rg_vl, rg_Lb]
  grind
theorem rg_cr {v u : Nat} (h : 3 ≤ u) : rg_c v u = u - 3 + v := if_neg (by omega)
theorem rg_cv {v u : Nat} (h : u < 3) : rg_c v u = u := if_pos h
/-- the number of a basic or nonbasic unknown, less the variables -/
theorem rg_rw {v m u : Nat} (h : 3 ≤ u) (hu : u < 3 + m) (hm : m ≤ 19) (hv : v ≤ 3) : nI (rg_c v u) - nI v = nI (u - 3) := by
  rw [rg_cr h, pk_sub (by omega), show u - 3 + v - v = u - 3 by omega]
theorem rg_vr {v u : Nat} (h : u < v) (hv : v ≤ 3) : nI (rg_c v u) - nI v < 0 := by
  rw [rg_cv (by omega)]
  exact pk_sneg (by omega) h
end
section
section
variable {v m : Nat} {A : Nat → Nat → Int} {V Q : Nat → Int} {nb : Nat → Nat} {g : Nat → Int} {r : Nat}
variable {xmf xmb xml xfo xbo xol xst xps xcc xho xrc xof xos xcr : Int32} {xpd xto xon xod xde xsp xsq xlp xlq xpn xpe : Int64} {xco xbf xbk xbv xbl xke xro xba xnb : Nat → Int32} {xpp xpq xmu xcf xrv xrd xta : Nat → Int64}
theorem xw_sumRowL {post : SX → Prop} (hv : v ≤ 3) (hm : m ≤ 19) (hr : r < 21) (hN : rg_N v m nb xnb) (hR : rg_R m V Q xrv xrd) (ht : ∀ k, k < v → xta (3 * r + k) = zL (rc_tv (rf_G A) nb g k))
    (K : post (nI v, xmf, xmb, xml, xfo, xbo, xol, xst, xpd, xps, xcc, xto, xho, xon, xod, xrc, xof, xos, xde, xcr, zL (rc_vl (rf_G A) (rf_L V) nb g), zL (rc_vl (rf_G A) (rf_L Q) nb g), xlp, xlq, xpn, xpe, xco, xbf, xbk, xbv, xbl, xpp, xpq, xmu, xke, xcf, xrv, xrd, xro, xta, xba, xnb)) :
    ∀ d i n, i + d = v → d < n → wX_sumRow_12 post (nI r) (nI v) xmf xmb xml xfo xbo xol xst xpd xps xcc xto xho xon xod xrc xof xos xde xcr xlp xlq xpn xpe xco xbf xbk xbv xbl xpp xpq xmu xke xcf xrv xrd xro xta xba xnb n (nI i) (zL (rf_sm (fun k => rc_tv (rf_G A) nb g k * rf_L V (nb k)) i)) (zL (rf_sm (fun k => rc_tv (rf_G A) nb g k * rf_L Q (nb k)) i)) := by
  intro d
  induction d with
  | zero =>
    intro i n hi hn
    obtain ⟨n, rfl⟩ : ∃ n', n = n' + 1 := ⟨n - 1, by omega⟩
    have e : i = v := by omega
    subst e
    have z : ∀ W : Nat → Int, rf_sm (fun k => rc_tv (rf_G A) nb g k * rf_L W (nb k)) i = rc_vl (rf_G A) (rf_L W) nb g := by
      intro W
      rw [rf_sm3 hv, rc_vl3]
      intro k h1 h2
      rw [hN.2 k h1 h2, rf_Lv _ h2, Int.mul_zero]
    rw [z V, z Q]
    exact br_t (nI_le (by omega) (by omega)) K
  | succ d ih =>
    intro i n hi hn
    obtain ⟨n, rfl⟩ : ∃ n', n = n' + 1 := ⟨n - 1, by omega⟩
    have hi3 : (nI i).toNatClampNeg = i := nI_clamp (by omega)
    obtain ⟨eN, oN⟩ := hN.1 i (by omega)
    refine br_f (nI_ge (by omega) (by omega)) ⟨vp_in_nI (by omega) (by omega), ?_⟩
    rw [hi3, eN]
    intro x3 e3
    have ih' := ih (i + 1) n (by omega) (by omega)
    simp only [rf_sm] at ih'
    rcases oN with c | ⟨c, c2⟩
    · subst e3
      refine br_t (rg_vr c hv) ?_
      rw [rf_Lv _ (show nb i < 3 by omega), rf_Lv _ (show nb i < 3 by omega), Int.mul_zero, Int.add_zero, Int.add_zero] at ih'
      exact nm_r (nI_1 i) ih'
    · rw [rg_rw c c2 hm hv] at e3
      subst e3
      have hx : vp_in (3 * nI r + nI i) 63 := xw_in (by omega) (by omega)
      have hc : (3 * nI r + nI i).toNatClampNeg = 3 * r + i := xw_cl (by omega)
      have hj : vp_in (nI (nb i - 3)) 20 := vp_in_nI (by omega) (by omega)
      have hjc : (nI (nb i - 3)).toNatClampNeg = nb i - 3 := nI_clamp (by omega)
      have hL : ∀ W : Nat → Int, rf_L W (nb i) = W (nb i - 3) := fun W => if_neg (by omega)
      obtain ⟨r1, r2⟩ := hR (nb i - 3) (by omega)
      refine br_f (nI_pos (by omega)) ⟨hx, hj, ?_⟩
      rw [hc, hjc, ht i (by omega), r1, r2, zL_mul, zL_mul, zL_add, zL_add]
      rw [hL, hL] at ih'
      exact nm_e ⟨hx, hj, nm_e (nm_r (nI_1 i) ih')⟩
theorem xw_sumRow {post : SX → Prop} (hv : v ≤ 3) (hm : m ≤ 19) (hr : r < 21) (hN : rg_N v m nb xnb) (hR : rg_R m V Q xrv xrd) (ht : ∀ k, k < v → xta (3 * r + k) = zL (rc_tv (rf_G A) nb g k))
    (K : post (nI v, xmf, xmb, xml, xfo, xbo, xol, xst, xpd, xps, xcc, xto, xho, xon, xod, xrc, xof, xos, xde, xcr, zL (rc_vl (rf_G A) (rf_L V) nb g), zL (rc_vl (rf_G A) (rf_L Q) nb g), xlp, xlq, xpn, xpe, xco, xbf, xbk, xbv, xbl, xpp, xpq, xmu, xke, xcf, xrv, xrd, xro, xta, xba, xnb)) : wpX_sumRow post (nI v, xmf, xmb, xml, xfo, xbo, xol, xst, xpd, xps, xcc, xto, xho, xon, xod, xrc, xof, xos, xde, xcr, xsp, xsq, xlp, xlq, xpn, xpe, xco, xbf, xbk, xbv, xbl, xpp, xpq, xmu, xke, xcf, xrv, xrd, xro, xta, xba, xnb) (nI r) :=
  ⟨v + 1, xw_sumRowL hv hm hr hN hR ht K v 0 (v + 1) (by omega) (by omega)⟩
theorem xw_neg {post : Int32 → Prop} {u : SX} {P Q' : Int} (hP : zB P) (hQ : zA Q' 1000000000000000) (K1 : P * zM + Q' < 0 → post 1) (K0 : ¬ P * zM + Q' < 0 → post 0) : wpX_negative post u (zL P) (zL Q') := by
  have hQ2 : zB Q' := zA_B hQ (by omega)
  rw [zM_neg hQ] at K1 K0
  unfold wpX_negative
  rw [show (0 : Int64) = zL 0 from rfl, zL_lt hP zB_0, zL_eq hP zB_0, zL_le zB_0 hQ2]
  refine br_c (fun h => K1 (Or.inl h)) (fun h => br_c (fun h2 => br_c (fun h3 => K0 ?_) (fun h3 => K1 (Or.inr ⟨h2, by omega⟩))) (fun h2 => K0 ?_))
  · rintro (z | z)
    · exact h z
    · have := z.2; omega
  · rintro (z | z)
    · exact h z
    · exact h2 z.1
end
end
section
/-! bounds of the tableau; the search of the least row or column -/
theorem rg_eb (i : Nat) : rb_bd (rb_e i) 20 := by
  intro j _
  unfold rb_e zA
  by_cases h : j = i
  · rw [if_pos h]; omega
  · rw [if_neg h]; omega
theorem rg_Gb {v m : Nat} {A : Nat → Nat → Int} {V Q : Nat → Int} (hS : rg_S v m A V Q) {u : Nat} (hu : u < 3 + m) : rb_bd (rf_G A u) 20 := by
  by_cases h : u < 3
  · rw [rf_Gv A h]; exact rg_eb u
  · obtain ⟨j, hj, rfl⟩ := rf_row (by omega) hu
    rw [rf_Gr]
    exact (hS.2.2.2 j hj).1
theorem rg_Bb {B : Nat → Nat → Int} (h : ∀ k, k < 3 → rb_bd (B k) 20) : zA (rb_D B) 48000 := rb_detb (h 0 (by omega)) (h 1 (by omega)) (h 2 (by omega))
theorem rg_sgb {s z c : Int} (hs : s = 1 ∨ s = -1) (h : zA z c) : zA (s * z) c := by
  rcases hs with rfl | rfl
  · rw [Int.one_mul]; exact h
  · rw [Int.neg_mul, Int.one_mul]; exact zA_neg h
theorem rg_tvb {G : Nat → Nat → Int} {nb : Nat → Nat} {g : Nat → Int} (h : ∀ k, k < 3 → rb_bd (G (nb k)) 20) (hg : rb_bd g 20) (k : Nat) : zA (rc_tv G nb g k) 48000 := by
  refine rg_sgb (rb_sgc _) (rg_Bb ?_)
  intro l hl
  unfold rb_set
  by_cases e : l = k
  · rw [if_pos e]; exact hg
  · rw [if_neg e]; exact h l hl
theorem rg_deb {G : Nat → Nat → Int} {nb : Nat → Nat} (h : ∀ k, k < 3 → rb_bd (G (nb k)) 20) : zA (rc_den G nb) 48000 := rg_sgb (rb_sgc _) (rg_Bb h)
theorem rg_vlb {G : Nat → Nat → Int} {L : Nat → Int} {nb : Nat → Nat} {g : Nat → Int} {c : Int} (h : ∀ k, k < 3 → rb_bd (G (nb k)) 20) (hg : rb_bd g 20) (hL : ∀ k, k < 3 → zA (L (nb k)) c) : zA (rc_vl G L nb g) (144000 * c) := by
  rw [rc_vl3]
  have a := zA_mul (rg_tvb h hg 0) (hL 0 (by omega))
  have b := zA_mul (rg_tvb h hg 1) (hL 1 (by omega))
  have d := zA_mul (rg_tvb h hg 2) (hL 2 (by omega))
  exact zA_w (zA_add (zA_add a b) d) (by omega)
theorem rg_slb {G : Nat → Nat → Int} {L : Nat → Int} {nb : Nat → Nat} {u : Nat} {c : Int} (h : ∀ k, k < 3 → rb_bd (G (nb k)) 20) (hg : rb_bd (G u) 20) (hL : ∀ k, k < 3 → zA (L (nb k)) c) (hu : zA (L u) c) : zA (rc_sl G L nb u) (192000 * c) := by
  exact zA_w (zA_sub (zA_mul (rg_deb h) hu) (rg_vlb h hg hL)) (by omega)
theorem rg_LV {v m : Nat} {A : Nat → Nat → Int} {V Q : Nat → Int} (hS : rg_S v m A V Q) {u : Nat} (hu : u < 3 + m) : zA (rf_L V u) 1000 ∧ zA (rf_L Q u) 1 := by
  by_cases h : u < 3
  · rw [rf_Lv V h, rf_Lv Q h]; exact ⟨zA_0 (by omega), zA_0 (by omega)⟩
  · obtain ⟨j, hj, rfl⟩ := rf_row (by omega) hu
    rw [rf_Lr, rf_Lr]
    exact (hS.2.2.2 j hj).2.2
theorem rg_okl {v m u : Nat} (hv : v ≤ 3) (h : rg_ok v m u) : u < 3 + m := by
  rcases h with h | h
  · omega
  · exact h.2
theorem rg_Nl {v m : Nat} {nb : Nat → Nat} {xnb : Nat → Int32} (hv : v ≤ 3) (h : rg_N v m nb xnb) : ∀ k, k < 3 → nb k < 3 + m := by
  intro k hk
  by_cases c : k < v
  · exact rg_okl hv (h.1 k c).2
  · rw [h.2 k (by omega) hk]; omega
/-- a column of a missing variable is zero -/
theorem rg_col0 {B : Nat → Nat → Int} {k : Nat} (hk : k < 3) (h : ∀ l, l < 3 → B l k = 0) : rb_D B = 0 := by
  have h0 := h 0 (by omega)
  have h1 := h 1 (by omega)
  have h2 := h 2 (by omega)
  unfold rb_D rb_det
  rcases rb_lt3 hk with rfl | rfl | rfl <;> rw [h0, h1, h2] <;> grind
theorem rg_G0 {v m : Nat} {A : Nat → Nat → Int} {V Q : Nat → Int} (hS : rg_S v m A V Q) {u k : Nat} (hu : rg_ok v m u) (h1 : v ≤ k) (h2 : k < 3) : rf_G A u k = 0 := by
  rcases hu with h | ⟨h, h'⟩
  · rw [rf_Gv A (by omega)]
    exact if_neg (by omega)
  · obtain ⟨j, hj, rfl⟩ := rf_row h h'
    rw [rf_Gr]
    exact (hS.2.2.2 j hj).2.1 k h1 h2
theorem rg_pad {v m : Nat} {A : Nat → Nat → Int} {V Q : Nat → Int} {nb : Nat → Nat} {xnb : Nat → Int32} (hS : rg_S v m A V Q) (hN : rg_N v m nb xnb) {g : Nat → Int} {k : Nat} (h1 : v ≤ k) (h2 : k < 3) (hg : g k = 0) : rc_tv (rf_G A) nb g k = 0 := by
  unfold rc_tv rb_tv
  rw [rg_col0 (B := rb_set (rc_B (rf_G A) nb) k g) (k := k) h2, Int.mul_zero]
  intro l hl
  unfold rb_set rc_B
  by_cases e : l = k
  · rw [if_pos e]; exact hg
  · rw [if_neg e]
    by_cases c : l < v
    · exact rg_G0 hS (hN.1 l c).2 h1 h2
    · rw [hN.2 l (by omega) hl, rf_Gv A hl]
      exact if_neg (fun z => e z.symm)
/-- the least one so far -/
def rg_I (su : Nat → Prop) (nb : Nat → Nat) (i : Nat) (x : Int32) : Prop := (x = -1 ∧ ∀ k, k < i → ¬ su k) ∨ (∃ b, b < i ∧ x = nI b ∧ su b ∧ ∀ k, k < i → su k → nb b ≤ nb k)
theorem rg_I0 {su : Nat → Prop} {nb : Nat → Nat} : rg_I su nb 0 (-1) := Or.inl ⟨rfl, fun k h => absurd h (by omega)⟩
theorem rg_Ino {su : Nat → Prop} {nb : Nat → Nat} {i : Nat} {x : Int32} (h : rg_I su nb i x) (hs : ¬ su i) : rg_I su nb (i + 1) x := by
  rcases h with ⟨e, h⟩ | ⟨b, hb, e, h1, h2⟩
  · refine Or.inl ⟨e, fun k hk => ?_⟩
    by_cases c : k = i
    · rw [c]; exact hs
    · exact h k (by omega)
  · refine Or.inr ⟨b, by omega, e, h1, fun k hk h3 => ?_⟩
    by_cases c : k = i
    · rw [c] at h3; exact absurd h3 hs
    · exact h2 k (by omega) h3
theorem rg_Ik {su : Nat → Prop} {nb : Nat → Nat} {i b : Nat} {x : Int32} (hb : b < i) (e : x = nI b) (h1 : su b) (h2 : ∀ k, k < i → su k → nb b ≤ nb k) (hle : nb b ≤ nb i) : rg_I su nb (i + 1) x := by
  refine Or.inr ⟨b, by omega, e, h1, fun k hk h3 => ?_⟩
  by_cases c : k = i
  · rw [c]; exact hle
  · exact h2 k (by omega) h3
theorem rg_Ie {su : Nat → Prop} {nb : Nat → Nat} {i : Nat} (h : ∀ k, k < i → ¬ su k) (hs : su i) : rg_I su nb (i + 1) (nI i) := by
  refine Or.inr ⟨i, by omega, rfl, hs, fun k hk h3 => ?_⟩
  by_cases c : k = i
  · rw [c]; exact Nat.le_refl _
  · exact absurd h3 (h k (by omega))
theorem rg_In {su : Nat → Prop} {nb : Nat → Nat} {i b : Nat} (h2 : ∀ k, k < i → su k → nb b ≤ nb k) (hle : nb i ≤ nb b) (hs : su i) : rg_I su nb (i + 1) (nI i) := by
  refine Or.inr ⟨i, by omega, rfl, hs, fun k hk h3 => ?_⟩
  by_cases c : k = i
  · rw [c]; exact Nat.le_refl _
  · have := h2 k (by omega) h3; omega
theorem rg_m1 : (-1 : Int32) < 0 := by decide
theorem rg_cle {v m a b : Nat} (ha : rg_ok v m a) (hb : rg_ok v m b) (hv : v ≤ 3) (hm : m ≤ 19) : nI (rg_c v a) ≤ nI (rg_c v b) ↔ a ≤ b := by
  have la := rg_okl hv ha
  have lb := rg_okl hv hb
  have h1 : rg_c v a < 2 ^ 31 := by unfold rg_c; by_cases c : a < 3 <;> simp only [c, if_true, if_false] <;> omega
  have h2 : rg_c v b < 2 ^ 31 := by unfold rg_c; by_cases c : b < 3 <;> simp only [c, if_true, if_false] <;> omega
  rw [nI_leI h1 h2]
  unfold rg_c
  unfold rg_ok at ha hb
  by_cases c : a < 3 <;> by_cases d : b < 3 <;> simp only [c, d, if_true, if_false] <;> omega
theorem rg_clt {v m a : Nat} (ha : rg_ok v m a) (hv : v ≤ 3) (hm : m ≤ 19) : nI (rg_c v a) < nI v ↔ a < 3 := by
  have la := rg_okl hv ha
  have h1 : rg_c v a < 2 ^ 31 := by unfold rg_c; by_cases c : a < 3 <;> simp only [c, if_true, if_false] <;> omega
  rw [nI_ltI h1 (by omega)]
  unfold rg_ok at ha
  by_cases c : a < 3
  · rw [rg_cv c]; omega
  · rw [rg_cr (by omega)]; omega
theorem rg_cge {v m a : Nat} (ha : rg_ok v m a) (hv : v ≤ 3) (hm : m ≤ 19) : nI v ≤ nI (rg_c v a) ↔ 3 ≤ a := by
  have h := rg_clt ha hv hm
  rw [← Int32.not_lt, h]
  omega
section
variable {v m : Nat} {A : Nat → Nat → Int} {V Q : Nat → Int} {c : Nat → Int} {nb bs : Nat → Nat} {r : Nat}
variable {xmf xmb xml xfo xbo xol xst xps xcc xho xof xos xcr : Int32} {xpd xto xon xod xde xsp xsq xlp xlq xpn xpe : Int64} {xco xbf xbk xbv xbl xke xro xba xnb : Nat → Int32} {xpp xpq xmu xcf xrv xrd xta : Nat → Int64}
theorem xw_cslack {post : SX → Prop} (hv : v ≤ 3) (hm : m ≤ 19) (hr : r < m) (hT : rg_T v m A c nb bs xde xta xba xnb) (hR : rg_R m V Q xrv xrd) (h3 : 3 ≤ bs r)
    (K : post (nI v, xmf, xmb, xml, xfo, xbo, xol, xst, xpd, xps, xcc, xto, xho, xon, xod, nI m, xof, xos, xde, xcr, zL (rc_vl (rf_G A) (rf_L V) nb (rf_G A (bs r))), zL (rc_vl (rf_G A) (rf_L Q) nb (rf_G A (bs r))), zL (rc_sl (rf_G A) (rf_L V) nb (bs r)), zL (rc_sl (rf_G A) (rf_L Q) nb (bs r)), xpn, xpe, xco, xbf, xbk, xbv, xbl, xpp, xpq, xmu, xke, xcf, xrv, xrd, xro, xta, xba, xnb)) : wpX_computeSlack post (nI v, xmf, xmb, xml, xfo, xbo, xol, xst, xpd, xps, xcc, xto, xho, xon, xod, nI m, xof, xos, xde, xcr, xsp, xsq, xlp, xlq, xpn, xpe, xco, xbf, xbk, xbv, xbl, xpp, xpq, xmu, xke, xcf, xrv, xrd, xro, xta, xba, xnb) (nI r) := by
  obtain ⟨g, ed, hN, hB, _, _, ht, _⟩ := hT
  obtain ⟨eb, ob, _⟩ := hB r hr
  have hu := rg_okl hv ob
  refine And.intro (vp_in_nI (by omega) (by omega)) ?_
  rw [nI_clamp (show r < 2 ^ 31 by omega), eb, rg_rw h3 hu hm hv]
  refine nm_e (xw_sumRow hv hm (by omega) hN hR (ht r hr) ?_)
  have hj : vp_in (nI (bs r - 3)) 20 := vp_in_nI (by omega) (by omega)
  obtain ⟨r1, r2⟩ := hR (bs r - 3) (by omega)
  have hL : ∀ W : Nat → Int, rf_L W (bs r) = W (bs r - 3) := fun W => if_neg (by omega)
  refine And.intro hj (nm_r (e' := zL (rc_sl (rf_G A) (rf_L V) nb (bs r))) ?_ (And.intro hj (nm_r (e' := zL (rc_sl (rf_G A) (rf_L Q) nb (bs r))) ?_ K)))
  · rw [nI_clamp (by omega), r1, ed, zL_mul, zL_sub, ← hL V]; rfl
  · rw [nI_clamp (by omega), r2, ed, zL_mul, zL_sub, ← hL Q]; rfl
end
end
section
/-! violatedRow, repairColumn, improvingColumn -/
section
variable {v m : Nat} {A : Nat → Nat → Int} {V Q : Nat → Int} {c : Nat → Int} {nb bs : Nat → Nat}
variable {xmf xmb xml xfo xbo xol xst xps xcc xho xof xos xcr : Int32} {xpd xto xon xod xde xsp xsq xlp xlq xpn xpe : Int64} {xco xbf xbk xbv xbl xke xro xba xnb : Nat → Int32} {xpp xpq xmu xcf xrv xrd xta : Nat → Int64}
def rg_vs (A : Nat → Nat → Int) (V Q : Nat → Int) (nb bs : Nat → Nat) (r : Nat) : Prop := 3 ≤ bs r ∧ rc_sl (rf_G A) (rf_L (rg_b V Q)) nb (bs r) < 0
theorem xw_vr44 {post : Int32 → SX → Prop} {J : Int32 → Int32 → Int32 → Int32 → Int32 → Int32 → Int32 → Int32 → Int32 → Int32 → Int64 → Int32 → Int32 → Int64 → Int32 → Int64 → Int64 → Int32 → Int32 → Int32 → Int64 → Int32 → Int64 → Int64 → Int64 → Int64 → Int64 → Int64 → (Nat → Int32) → (Nat → Int32) → (Nat → Int32) → (Nat → Int32) → (Nat → Int32) → (Nat → Int64) → (Nat → Int64) → (Nat → Int64) → (Nat → Int32) → (Nat → Int64) → (Nat → Int64) → (Nat → Int64) → (Nat → Int32) → (Nat → Int64) → (Nat → Int32) → (Nat → Int32) → Prop} {x1 : Int32} {r : Nat} (hS : rg_S v m A V Q) (hr : r < m) (hT : rg_T v m A c nb bs xde xta xba xnb) (hR : rg_R m V Q xrv xrd) (h3 : 3 ≤ bs r)
    (K1 : rg_vs A V Q nb bs r → ∀ xsp xsq xlp xlq, J (nI r) (nI (r + 1)) (nI v) xmf xmb xml xfo xbo xol xst xpd xps xcc xto xho xon xod (nI m) xof xos xde xcr xsp xsq xlp xlq xpn xpe xco xbf xbk xbv xbl xpp xpq xmu xke xcf xrv xrd xro xta xba xnb) (K0 : ¬ rg_vs A V Q nb bs r → ∀ xsp xsq xlp xlq, J x1 (nI (r + 1)) (nI v) xmf xmb xml xfo xbo xol xst xpd xps xcc xto xho xon xod (nI m) xof xos xde xcr xsp xsq xlp xlq xpn xpe xco xbf xbk xbv xbl xpp xpq xmu xke xcf xrv xrd xro xta xba xnb) : wX_violatedRow_44 post J x1 (nI r) (nI v) xmf xmb xml xfo xbo xol xst xpd xps xcc xto xho xon xod (nI m) xof xos xde xcr xsp xsq xlp xlq xpn xpe xco xbf xbk xbv xbl xpp xpq xmu xke xcf xrv xrd xro xta xba xnb := by
  have hv := hS.2.1
  have hm := hS.2.2.1
  unfold wX_violatedRow_44
  refine xw_cslack hv hm hr hT hR h3 ?_
  have ob := (hT.2.2.2.1 r hr).2.1
  have hu := rg_okl hv ob
  have hl := rg_Nl hv hT.2.2.1
  have b1 := rg_slb (G := rf_G A) (L := rf_L V) (nb := nb) (u := bs r) (c := 1000) (fun k hk => rg_Gb hS (hl k hk)) (rg_Gb hS hu) (fun k hk => (rg_LV hS (hl k hk)).1) (rg_LV hS hu).1
  have b2 := rg_slb (G := rf_G A) (L := rf_L Q) (nb := nb) (u := bs r) (c := 1) (fun k hk => rg_Gb hS (hl k hk)) (rg_Gb hS hu) (fun k hk => (rg_LV hS (hl k hk)).2) (rg_LV hS hu).2
  refine xw_neg (zA_B b1 (by omega)) (zA_w b2 (by omega)) (fun h => ?_) (fun h => ?_)
  · exact br_f (by decide) (nm_r (nI_1 r) (K1 ⟨h3, by rw [rg_sl]; exact h⟩ _ _ _ _))
  · exact br_t rfl (nm_r (nI_1 r) (K0 (fun z => h (by rw [← rg_sl]; exact z.2)) _ _ _ _))
theorem xw_vrL {post : Int32 → SX → Prop} (hS : rg_S v m A V Q) (hT : rg_T v m A c nb bs xde xta xba xnb) (hR : rg_R m V Q xrv xrd)
    (K : ∀ x xsp xsq xlp xlq, rg_I (rg_vs A V Q nb bs) bs m x → post x (nI v, xmf, xmb, xml, xfo, xbo, xol, xst, xpd, xps, xcc, xto, xho, xon, xod, nI m, xof, xos, xde, xcr, xsp, xsq, xlp, xlq, xpn, xpe, xco, xbf, xbk, xbv, xbl, xpp, xpq, xmu, xke, xcf, xrv, xrd, xro, xta, xba, xnb)) :
    ∀ d i n x xsp xsq xlp xlq, i + d = m → d < n → rg_I (rg_vs A V Q nb bs) bs i x → wX_violatedRow_4 post n x (nI i) (nI v) xmf xmb xml xfo xbo xol xst xpd xps xcc xto xho xon xod (nI m) xof xos xde xcr xsp xsq xlp xlq xpn xpe xco xbf xbk xbv xbl xpp xpq xmu xke xcf xrv xrd xro xta xba xnb := by
  have hv := hS.2.1
  have hm := hS.2.2.1
  intro d
  induction d with
  | zero =>
    intro i n x xsp xsq xlp xlq hi hn hI
    obtain ⟨n, rfl⟩ : ∃ n', n = n' + 1 := ⟨n - 1, by omega⟩
    have e : i = m := by omega
    subst e
    exact br_t (nI_le (by omega) (by omega)) (K _ _ _ _ _ hI)
  | succ d ih =>
    intro i n x xsp xsq xlp xlq hi hn hI
    obtain ⟨n, rfl⟩ : ∃ n', n = n' + 1 := ⟨n - 1, by omega⟩
    have hc : (nI i).toNatClampNeg = i := nI_clamp (by omega)
    obtain ⟨eb, ob, _⟩ := hT.2.2.2.1 i (by omega)
    refine br_f (nI_ge (by omega) (by omega)) (And.intro (vp_in_nI (by omega) (by omega)) ?_)
    rw [hc, eb, rg_clt ob hv hm]
    refine br_c (fun h => nm_r (nI_1 i) (ih (i + 1) n x _ _ _ _ (by omega) (by omega) (rg_Ino hI (fun z => by have := z.1; omega)))) (fun h => ?_)
    rcases hI with ⟨ex, hI⟩ | ⟨b, hb, ex, h1, h2⟩
    · subst ex
      refine br_t rg_m1 (xw_vr44 hS (by omega) hT hR (by omega) (fun h xsp xsq xlp xlq => ?_) (fun h xsp xsq xlp xlq => ?_))
      · exact ih (i + 1) n _ _ _ _ _ (by omega) (by omega) (rg_Ie hI h)
      · exact ih (i + 1) n _ _ _ _ _ (by omega) (by omega) (rg_Ino (Or.inl ⟨rfl, hI⟩) h)
    · subst ex
      obtain ⟨eb2, ob2, _⟩ := hT.2.2.2.1 b (by omega)
      refine br_f (nI_pos (by omega)) (And.intro (vp_in_nI (by omega) (by omega)) (And.intro (vp_in_nI (by omega) (by omega)) ?_))
      rw [nI_clamp (show b < 2 ^ 31 by omega), eb2, rg_cle ob2 ob hv hm]
      refine br_c (fun h => nm_r (nI_1 i) (ih (i + 1) n _ _ _ _ _ (by omega) (by omega) (rg_Ik hb rfl h1 h2 h))) (fun h3 => ?_)
      refine xw_vr44 hS (by omega) hT hR (by omega) (fun h xsp xsq xlp xlq => ?_) (fun h xsp xsq xlp xlq => ?_)
      · exact ih (i + 1) n _ _ _ _ _ (by omega) (by omega) (rg_In h2 (by omega) h)
      · exact ih (i + 1) n _ _ _ _ _ (by omega) (by omega) (rg_Ino (Or.inr ⟨b, hb, rfl, h1, h2⟩) h)
theorem xw_vr {post : Int32 → SX → Prop} (hS : rg_S v m A V Q) (hT : rg_T v m A c nb bs xde xta xba xnb) (hR : rg_R m V Q xrv xrd)
    (K : ∀ x xsp xsq xlp xlq, rg_I (rg_vs A V Q nb bs) bs m x → post x (nI v, xmf, xmb, xml, xfo, xbo, xol, xst, xpd, xps, xcc, xto, xho, xon, xod, nI m, xof, xos, xde, xcr, xsp, xsq, xlp, xlq, xpn, xpe, xco, xbf, xbk, xbv, xbl, xpp, xpq, xmu, xke, xcf, xrv, xrd, xro, xta, xba, xnb)) : wpX_violatedRow post (nI v, xmf, xmb, xml, xfo, xbo, xol, xst, xpd, xps, xcc, xto, xho, xon, xod, nI m, xof, xos, xde, xcr, xsp, xsq, xlp, xlq, xpn, xpe, xco, xbf, xbk, xbv, xbl, xpp, xpq, xmu, xke, xcf, xrv, xrd, xro, xta, xba, xnb) :=
  ⟨m + 1, xw_vrL hS hT hR K m 0 (m + 1) (-1) _ _ _ _ (by omega) (by omega) rg_I0⟩
theorem xw_rc56 {post : Int32 → Prop} {J : Int32 → Int32 → Prop} {x1 x : Int32} {i : Nat} {su : Nat → Prop} (hv : v ≤ 3) (hm : m ≤ 19) (hN : rg_N v m nb xnb) (hi : i < v) (hI : rg_I su nb i x) (hs : su i) (K : ∀ x', rg_I su nb (i + 1) x' → J x' (nI (i + 1))) : wX_repairColumn_56 post J x1 x (nI i) 1 (nI v) xmf xmb xml xfo xbo xol xst xpd xps xcc xto xho xon xod (nI m) xof xos xde xcr xsp xsq xlp xlq xpn xpe xco xbf xbk xbv xbl xpp xpq xmu xke xcf xrv xrd xro xta xba xnb := by
  unfold wX_repairColumn_56
  refine br_f (by decide) ?_
  rcases hI with ⟨ex, hI⟩ | ⟨b, hb, ex, h1, h2⟩
  · subst ex
    exact br_t rg_m1 (nm_r (nI_1 i) (K _ (rg_Ie hI hs)))
  · subst ex
    obtain ⟨eb, ob⟩ := hN.1 b (by omega)
    obtain ⟨ei, oi⟩ := hN.1 i (by omega)
    refine br_f (nI_pos (by omega)) (And.intro (vp_in_nI (by omega) (by omega)) (And.intro (vp_in_nI (by omega) (by omega)) ?_))
    rw [nI_clamp (show b < 2 ^ 31 by omega), nI_clamp (show i < 2 ^ 31 by omega), eb, ei, rg_cle ob oi hv hm]
    exact br_c (fun h => nm_r (nI_1 i) (K _ (rg_Ik hb rfl h1 h2 h))) (fun h => nm_r (nI_1 i) (K _ (rg_In h2 (by omega) hs)))
theorem xw_ic56 {post : Int32 → Prop} {J : Int32 → Int32 → Prop} {x : Int32} {i : Nat} {su : Nat → Prop} (hv : v ≤ 3) (hm : m ≤ 19) (hN : rg_N v m nb xnb) (hi : i < v) (hI : rg_I su nb i x) (hs : su i) (K : ∀ x', rg_I su nb (i + 1) x' → J x' (nI (i + 1))) : wX_improvingColumn_56 post J x (nI i) 1 (nI v) xmf xmb xml xfo xbo xol xst xpd xps xcc xto xho xon xod (nI m) xof xos xde xcr xsp xsq xlp xlq xpn xpe xco xbf xbk xbv xbl xpp xpq xmu xke xcf xrv xrd xro xta xba xnb := by
  unfold wX_improvingColumn_56
  refine br_f (by decide) ?_
  rcases hI with ⟨ex, hI⟩ | ⟨b, hb, ex, h1, h2⟩
  · subst ex
    exact br_t rg_m1 (nm_r (nI_1 i) (K _ (rg_Ie hI hs)))
  · subst ex
    obtain ⟨eb, ob⟩ := hN.1 b (by omega)
    obtain ⟨ei, oi⟩ := hN.1 i (by omega)
    refine br_f (nI_pos (by omega)) (And.intro (vp_in_nI (by omega) (by omega)) (And.intro (vp_in_nI (by omega) (by omega)) ?_))
    rw [nI_clamp (show b < 2 ^ 31 by omega), nI_clamp (show i < 2 ^ 31 by omega), eb, ei, rg_cle ob oi hv hm]
    exact br_c (fun h => nm_r (nI_1 i) (K _ (rg_Ik hb rfl h1 h2 h))) (fun h => nm_r (nI_1 i) (K _ (rg_In h2 (by omega) hs)))
/-- the answer over all three columns -/
theorem rg_I3 {su : Nat → Prop} {x : Int32} (hv : v ≤ 3) (h : rg_I su nb v x) (hp : ∀ k, v ≤ k → k < 3 → ¬ su k) : (x = -1 ∧ ∀ k, k < 3 → ¬ su k) ∨ (∃ b, b < v ∧ x = nI b ∧ su b ∧ ∀ k, k < 3 → su k → nb b ≤ nb k) := by
  rcases h with ⟨e, h⟩ | ⟨b, hb, e, h1, h2⟩
  · refine Or.inl ⟨e, fun k hk => ?_⟩
    by_cases z : k < v
    · exact h k z
    · exact hp k (by omega) hk
  · refine Or.inr ⟨b, hb, e, h1, fun k hk hs => ?_⟩
    by_cases z : k < v
    · exact h2 k z hs
    · exact absurd hs (hp k (by omega) hk)
theorem xw_rcL {post : Int32 → Prop} {r : Nat} {g : Nat → Int} (hS : rg_S v m A V Q) (hr : r < 21) (hN : rg_N v m nb xnb) (hg : rb_bd g 20) (ht : ∀ k, k < v → xta (3 * r + k) = zL (rc_tv (rf_G A) nb g k)) (K : ∀ x, rg_I (re_su (rf_G A) nb g) nb v x → post x) :
    ∀ d i n x, i + d = v → d < n → rg_I (re_su (rf_G A) nb g) nb i x → wX_repairColumn_4 post (nI r) (nI v) xmf xmb xml xfo xbo xol xst xpd xps xcc xto xho xon xod (nI m) xof xos xde xcr xsp xsq xlp xlq xpn xpe xco xbf xbk xbv xbl xpp xpq xmu xke xcf xrv xrd xro xta xba xnb n x (nI i) := by
  have hv := hS.2.1
  have hm := hS.2.2.1
  intro d
  induction d with
  | zero =>
    intro i n x hi hn hI
    obtain ⟨n, rfl⟩ : ∃ n', n = n' + 1 := ⟨n - 1, by omega⟩
    have e : i = v := by omega
    subst e
    exact br_t (nI_le (by omega) (by omega)) (K _ hI)
  | succ d ih =>
    intro i n x hi hn hI
    obtain ⟨n, rfl⟩ : ∃ n', n = n' + 1 := ⟨n - 1, by omega⟩
    have hx : vp_in (3 * nI r + nI i) 63 := xw_in (by omega) (by omega)
    have hc : (3 * nI r + nI i).toNatClampNeg = 3 * r + i := xw_cl (by omega)
    have hb := zA_B (rg_tvb (G := rf_G A) (nb := nb) (fun k hk => rg_Gb hS (rg_Nl hv hN k hk)) hg i) (by omega)
    obtain ⟨ei, oi⟩ := hN.1 i (by omega)
    have J : ∀ x', rg_I (re_su (rf_G A) nb g) nb (i + 1) x' → wX_repairColumn_4 post (nI r) (nI v) xmf xmb xml xfo xbo xol xst xpd xps xcc xto xho xon xod (nI m) xof xos xde xcr xsp xsq xlp xlq xpn xpe xco xbf xbk xbv xbl xpp xpq xmu xke xcf xrv xrd xro xta xba xnb n x' (nI (i + 1)) := fun x' h => ih (i + 1) n x' (by omega) (by omega) h
    refine br_f (nI_ge (by omega) (by omega)) (And.intro hx ?_)
    rw [hc, ht i (by omega)]
    refine nm_e ?_
    rw [show (0 : Int64) = zL 0 from rfl, zL_lt zB_0 hb, zL_le zB_0 hb]
    refine br_c (fun h => ?_) (fun h => br_c (fun h2 => ?_) (fun h2 => ?_))
    · exact xw_rc56 hv hm hN (by omega) hI (Or.inl h) J
    · exact br_t rfl (nm_r (nI_1 i) (J _ (rg_Ino hI (by intro z; rcases z with z | z; · exact h z
                                                        · have := z.1; omega))))
    · refine And.intro (vp_in_nI (by omega) (by omega)) ?_
      rw [nI_clamp (show i < 2 ^ 31 by omega), ei, rg_cge oi hv hm]
      refine br_c (fun h3 => ?_) (fun h3 => ?_)
      · exact br_t rfl (nm_r (nI_1 i) (J _ (rg_Ino hI (by intro z; rcases z with z | z; · exact h z
                                                          · have := z.2; omega))))
      · exact xw_rc56 hv hm hN (by omega) hI (Or.inr ⟨by omega, by omega⟩) J
theorem xw_rc {post : Int32 → Prop} {r : Nat} {g : Nat → Int} (hS : rg_S v m A V Q) (hr : r < 21) (hN : rg_N v m nb xnb) (hg : rb_bd g 20) (hg0 : ∀ k, v ≤ k → k < 3 → g k = 0) (ht : ∀ k, k < v → xta (3 * r + k) = zL (rc_tv (rf_G A) nb g k))
    (K0 : (∀ k, k < 3 → ¬ re_su (rf_G A) nb g k) → post (-1)) (K1 : ∀ k, k < v → re_su (rf_G A) nb g k → (∀ l, l < 3 → re_su (rf_G A) nb g l → nb k ≤ nb l) → post (nI k)) : wpX_repairColumn post (nI v, xmf, xmb, xml, xfo, xbo, xol, xst, xpd, xps, xcc, xto, xho, xon, xod, nI m, xof, xos, xde, xcr, xsp, xsq, xlp, xlq, xpn, xpe, xco, xbf, xbk, xbv, xbl, xpp, xpq, xmu, xke, xcf, xrv, xrd, xro, xta, xba, xnb) (nI r) := by
  refine ⟨v + 1, xw_rcL hS hr hN hg ht ?_ v 0 (v + 1) (-1) (by omega) (by omega) rg_I0⟩
  intro x h
  rcases rg_I3 hS.2.1 h (fun k h1 h2 z => re_su0 z (rg_pad hS hN h1 h2 (hg0 k h1 h2))) with ⟨rfl, hh⟩ | ⟨b, hb, rfl, h1, h2⟩
  · exact K0 hh
  · exact K1 b hb h1 h2
theorem re_iu0 {G : Nat → Nat → Int} {g : Nat → Int} {l : Nat} (h : re_iu G nb g l) : rc_tv G nb g l ≠ 0 := by
  rcases h with h | h
  · omega
  · have := h.1; omega
theorem xw_icL {post : Int32 → Prop} {g : Nat → Int} (hS : rg_S v m A V Q) (hN : rg_N v m nb xnb) (hg : rb_bd g 20) (ht : ∀ k, k < v → xta (3 * m + k) = zL (rc_tv (rf_G A) nb g k)) (K : ∀ x, rg_I (re_iu (rf_G A) nb g) nb v x → post x) :
    ∀ d i n x, i + d = v → d < n → rg_I (re_iu (rf_G A) nb g) nb i x → wX_improvingColumn_4 post (nI v) xmf xmb xml xfo xbo xol xst xpd xps xcc xto xho xon xod (nI m) xof xos xde xcr xsp xsq xlp xlq xpn xpe xco xbf xbk xbv xbl xpp xpq xmu xke xcf xrv xrd xro xta xba xnb n x (nI i) := by
  have hv := hS.2.1
  have hm := hS.2.2.1
  intro d
  induction d with
  | zero =>
    intro i n x hi hn hI
    obtain ⟨n, rfl⟩ : ∃ n', n = n' + 1 := ⟨n - 1, by omega⟩
    have e : i = v := by omega
    subst e
    exact br_t (nI_le (by omega) (by omega)) (K _ hI)
  | succ d ih =>
    intro i n x hi hn hI
    obtain ⟨n, rfl⟩ : ∃ n', n = n' + 1 := ⟨n - 1, by omega⟩
    have hx : vp_in (3 * nI m + nI i) 63 := xw_in (by omega) (by omega)
    have hc : (3 * nI m + nI i).toNatClampNeg = 3 * m + i := xw_cl (by omega)
    have hb := zA_B (rg_tvb (G := rf_G A) (nb := nb) (fun k hk => rg_Gb hS (rg_Nl hv hN k hk)) hg i) (by omega)
    obtain ⟨ei, oi⟩ := hN.1 i (by omega)
    have J : ∀ x', rg_I (re_iu (rf_G A) nb g) nb (i + 1) x' → wX_improvingColumn_4 post (nI v) xmf xmb xml xfo xbo xol xst xpd xps xcc xto xho xon xod (nI m) xof xos xde xcr xsp xsq xlp xlq xpn xpe xco xbf xbk xbv xbl xpp xpq xmu xke xcf xrv xrd xro xta xba xnb n x' (nI (i + 1)) := fun x' h => ih (i + 1) n x' (by omega) (by omega) h
    refine br_f (nI_ge (by omega) (by omega)) (And.intro hx ?_)
    rw [hc, ht i (by omega)]
    refine nm_e ?_
    rw [show (0 : Int64) = zL 0 from rfl, zL_lt hb zB_0, zL_le hb zB_0]
    refine br_c (fun h => ?_) (fun h => br_c (fun h2 => ?_) (fun h2 => ?_))
    · exact xw_ic56 hv hm hN (by omega) hI (Or.inl h) J
    · exact br_t rfl (nm_r (nI_1 i) (J _ (rg_Ino hI (by intro z; rcases z with z | z; · exact h z
                                                        · have := z.1; omega))))
    · refine And.intro (vp_in_nI (by omega) (by omega)) ?_
      rw [nI_clamp (show i < 2 ^ 31 by omega), ei, rg_cge oi hv hm]
      refine br_c (fun h3 => ?_) (fun h3 => ?_)
      · exact br_t rfl (nm_r (nI_1 i) (J _ (rg_Ino hI (by intro z; rcases z with z | z; · exact h z
                                                          · have := z.2; omega))))
      · exact xw_ic56 hv hm hN (by omega) hI (Or.inr ⟨by omega, by omega⟩) J
theorem xw_ic {post : Int32 → Prop} {g : Nat → Int} (hS : rg_S v m A V Q) (hN : rg_N v m nb xnb) (hg : rb_bd g 20) (hg0 : ∀ k, v ≤ k → k < 3 → g k = 0) (ht : ∀ k, k < v → xta (3 * m + k) = zL (rc_tv (rf_G A) nb g k))
    (K0 : (∀ k, k < 3 → ¬ re_iu (rf_G A) nb g k) → post (-1)) (K1 : ∀ k, k < v → re_iu (rf_G A) nb g k → (∀ l, l < 3 → re_iu (rf_G A) nb g l → nb k ≤ nb l) → post (nI k)) : wpX_improvingColumn post (nI v, xmf, xmb, xml, xfo, xbo, xol, xst, xpd, xps, xcc, xto, xho, xon, xod, nI m, xof, xos, xde, xcr, xsp, xsq, xlp, xlq, xpn, xpe, xco, xbf, xbk, xbv, xbl, xpp, xpq, xmu, xke, xcf, xrv, xrd, xro, xta, xba, xnb) := by
  refine ⟨v + 1, xw_icL hS hN hg ht ?_ v 0 (v + 1) (-1) (by omega) (by omega) rg_I0⟩
  intro x h
  rcases rg_I3 hS.2.1 h (fun k h1 h2 z => re_iu0 z (rg_pad hS hN h1 h2 (hg0 k h1 h2))) with ⟨rfl, hh⟩ | ⟨b, hb, rfl, h1, h2⟩
  · exact K0 hh
  · exact K1 b hb h1 h2
end
end
section
/-! pivot -/
def rg_cl (v m : Nat) (f : Nat → Nat → Int) (ta : Nat → Int64) : Prop := ∀ i l, i ≤ m → l < v → ta (3 * i + l) = zL (f i l)
theorem rg_clu {v m i l : Nat} {f f' : Nat → Nat → Int} {ta : Nat → Int64} {z : Int} (hv : v ≤ 3) (h : rg_cl v m f ta) (hl : l < v) (hf : ∀ i' l', i' ≤ m → l' < v → f' i' l' = if i' = i ∧ l' = l then z else f i' l') : rg_cl v m f' (vp_updL ta (3 * i + l) (zL z)) := by
  intro i' l' h1 h2
  rw [hf i' l' h1 h2]
  by_cases c : i' = i ∧ l' = l
  · rw [if_pos c, c.1, c.2, pk_uLs]
  · rw [if_neg c, pk_uLn (by omega)]
    exact h i' l' h1 h2
theorem rg_clw {v m : Nat} {f f' : Nat → Nat → Int} {ta : Nat → Int64} (h : rg_cl v m f ta) (hf : ∀ i l, i ≤ m → l < v → f i l = f' i l) : rg_cl v m f' ta := by
  intro i l h1 h2
  rw [← hf i l h1 h2]
  exact h i l h1 h2
section
variable {v m : Nat}
variable {xmf xmb xml xfo xbo xol xst xps xcc xho xof xos xcr : Int32} {xpd xto xon xod xde xsp xsq xlp xlq xpn xpe : Int64} {xco xbf xbk xbv xbl xke xro xba xnb : Nat → Int32} {xpp xpq xmu xcf xrv xrd xta : Nat → Int64}
def rg_nf (f : Nat → Nat → Int) (i l : Nat) : Nat → Nat → Int := fun i' l' => if i' < i ∨ (i' = i ∧ l' < l) then -f i' l' else f i' l'
theorem xw_ng21 {post : SX → Prop} {f : Nat → Nat → Int} {i : Nat} (hv : v ≤ 3) (hm : m ≤ 19) (hi : i ≤ m) {J : Int32 → (Nat → Int32) → (Nat → Int32) → (Nat → Int32) → (Nat → Int32) → (Nat → Int32) → (Nat → Int64) → (Nat → Int64) → (Nat → Int64) → (Nat → Int32) → (Nat → Int64) → (Nat → Int64) → (Nat → Int64) → (Nat → Int32) → (Nat → Int64) → (Nat → Int32) → (Nat → Int32) → Prop} (K : ∀ xta, rg_cl v m (rg_nf f (i + 1) 0) xta → J (nI (i + 1)) xco xbf xbk xbv xbl xpp xpq xmu xke xcf xrv xrd xro xta xba xnb) :
    ∀ d l n xta, l + d = v → d < n → rg_cl v m (rg_nf f i l) xta → wX_negateTableau_21 post J (nI i) (nI v) xmf xmb xml xfo xbo xol xst xpd xps xcc xto xho xon xod (nI m) xof xos xde xcr xsp xsq xlp xlq xpn xpe n (nI l) xco xbf xbk xbv xbl xpp xpq xmu xke xcf xrv xrd xro xta xba xnb := by
  intro d
  induction d with
  | zero =>
    intro l n xta hl hn h
    obtain ⟨n, rfl⟩ : ∃ n', n = n' + 1 := ⟨n - 1, by omega⟩
    have e : l = v := by omega
    subst e
    refine br_t (nI_le (by omega) (by omega)) (nm_r (nI_1 i) (K _ (rg_clw h ?_)))
    intro i' l' h1 h2
    unfold rg_nf
    by_cases c : i' < i + 1
    · rw [if_pos (by omega), if_pos (by omega)]
    · rw [if_neg (by omega), if_neg (by omega)]
  | succ d ih =>
    intro l n xta hl hn h
    obtain ⟨n, rfl⟩ : ∃ n', n = n' + 1 := ⟨n - 1, by omega⟩
    have hx : vp_in (3 * nI i + nI l) 63 := xw_in (by omega) (by omega)
    have hc : (3 * nI i + nI l).toNatClampNeg = 3 * i + l := xw_cl (by omega)
    refine br_f (nI_ge (by omega) (by omega)) (And.intro hx (And.intro hx ?_))
    rw [hc, h i l hi (by omega), zL_neg]
    refine nm_e (nm_r (nI_1 l) (ih (l + 1) n _ (by omega) (by omega) (rg_clu hv h (by omega) ?_)))
    intro i' l' h1 h2
    unfold rg_nf
    by_cases c : i' = i ∧ l' = l
    · obtain ⟨rfl, rfl⟩ := c
      rw [if_pos (by omega), if_pos ⟨rfl, rfl⟩, if_neg (by omega)]
    · rw [if_neg c]
      by_cases c2 : i' < i ∨ (i' = i ∧ l' < l)
      · rw [if_pos (by omega), if_pos c2]
      · rw [if_neg (by omega), if_neg c2]
theorem xw_ng11 {post : SX → Prop} {f : Nat → Nat → Int} (hv : v ≤ 3) (hm : m ≤ 19) (K : ∀ xta, rg_cl v m (fun i l => -f i l) xta → post (nI v, xmf, xmb, xml, xfo, xbo, xol, xst, xpd, xps, xcc, xto, xho, xon, xod, nI m, xof, xos, xde, xcr, xsp, xsq, xlp, xlq, xpn, xpe, xco, xbf, xbk, xbv, xbl, xpp, xpq, xmu, xke, xcf, xrv, xrd, xro, xta, xba, xnb)) :
    ∀ d i n xta, i + d = m + 1 → d < n → rg_cl v m (rg_nf f i 0) xta → wX_negateTableau_11 post (nI v) xmf xmb xml xfo xbo xol xst xpd xps xcc xto xho xon xod (nI m) xof xos xde xcr xsp xsq xlp xlq xpn xpe n (nI i) xco xbf xbk xbv xbl xpp xpq xmu xke xcf xrv xrd xro xta xba xnb := by
  intro d
  induction d with
  | zero =>
    intro i n xta hi hn h
    obtain ⟨n, rfl⟩ : ∃ n', n = n' + 1 := ⟨n - 1, by omega⟩
    have e : i = m + 1 := by omega
    subst e
    refine br_t (nI_lt (by omega) (by omega)) (K _ (rg_clw h ?_))
    intro i' l' h1 h2
    unfold rg_nf
    rw [if_pos (by omega)]
  | succ d ih =>
    intro i n xta hi hn h
    obtain ⟨n, rfl⟩ : ∃ n', n = n' + 1 := ⟨n - 1, by omega⟩
    refine br_f (nI_nlt (by omega) (by omega)) ⟨v + 1, xw_ng21 hv hm (by omega) (fun xta h2 => ?_) v 0 (v + 1) _ (by omega) (by omega) h⟩
    exact ih (i + 1) n _ (by omega) (by omega) h2
theorem xw_ng {post : SX → Prop} {f : Nat → Nat → Int} {d : Int} (hv : v ≤ 3) (hm : m ≤ 19) (ed : xde = zL d) (h : rg_cl v m f xta) (K : ∀ xta, rg_cl v m (fun i l => -f i l) xta → post (nI v, xmf, xmb, xml, xfo, xbo, xol, xst, xpd, xps, xcc, xto, xho, xon, xod, nI m, xof, xos, zL (-d), xcr, xsp, xsq, xlp, xlq, xpn, xpe, xco, xbf, xbk, xbv, xbl, xpp, xpq, xmu, xke, xcf, xrv, xrd, xro, xta, xba, xnb)) : wpX_negateTableau post (nI v, xmf, xmb, xml, xfo, xbo, xol, xst, xpd, xps, xcc, xto, xho, xon, xod, nI m, xof, xos, xde, xcr, xsp, xsq, xlp, xlq, xpn, xpe, xco, xbf, xbk, xbv, xbl, xpp, xpq, xmu, xke, xcf, xrv, xrd, xro, xta, xba, xnb) := by
  refine nm_r (e' := zL (-d)) (by rw [ed, zL_neg]) ⟨m + 2, xw_ng11 (f := f) hv hm K (m + 1) 0 (m + 2) _ (by omega) (by omega) (rg_clw h ?_)⟩
  intro i l h1 h2
  unfold rg_nf
  rw [if_neg (by omega)]
/-! the rows but r -/
def rg_pf (f q : Nat → Nat → Int) (r k i l : Nat) : Nat → Nat → Int := fun i' l' => if (i' < i ∨ (i' = i ∧ l' < l)) ∧ i' ≠ r ∧ l' ≠ k then q i' l' else f i' l'
theorem xw_pv65 {post : SX → Prop} {f q : Nat → Nat → Int} {r k i : Nat} {d : Int} (hv : v ≤ 3) (hm : m ≤ 19) (hr : r < m) (hk : k < v) (hi : i ≤ m) (hir : i ≠ r) (hd : zB d) (hd0 : d ≠ 0) (hq : ∀ l, l < v → l ≠ k → f r k * f i l - f i k * f r l = q i l * d) (hb : ∀ l, l < v → zB (f r k * f i l - f i k * f r l))
    {J : Int32 → (Nat → Int32) → (Nat → Int32) → (Nat → Int32) → (Nat → Int32) → (Nat → Int32) → (Nat → Int64) → (Nat → Int64) → (Nat → Int64) → (Nat → Int32) → (Nat → Int64) → (Nat → Int64) → (Nat → Int64) → (Nat → Int32) → (Nat → Int64) → (Nat → Int32) → (Nat → Int32) → Prop} (K : ∀ xta, rg_cl v m (rg_pf f q r k (i + 1) 0) xta → J (nI (i + 1)) xco xbf xbk xbv xbl xpp xpq xmu xke xcf xrv xrd xro xta xba xnb) :
    ∀ e l n xta, l + e = v → e < n → rg_cl v m (rg_pf f q r k i l) xta → wX_pivot_65 post J (nI r) (nI k) (zL (f r k)) (zL d) (nI i) (zL (f i k)) (nI v) xmf xmb xml xfo xbo xol xst xpd xps xcc xto xho xon xod (nI m) xof xos xde xcr xsp xsq xlp xlq xpn xpe n (nI l) xco xbf xbk xbv xbl xpp xpq xmu xke xcf xrv xrd xro xta xba xnb := by
  intro e
  induction e with
  | zero =>
    intro l n xta hl hn h
    obtain ⟨n, rfl⟩ : ∃ n', n = n' + 1 := ⟨n - 1, by omega⟩
    have e : l = v := by omega
    subst e
    refine br_t (nI_le (by omega) (by omega)) (nm_r (nI_1 i) (K _ (rg_clw h ?_)))
    intro i' l' h1 h2
    unfold rg_pf
    by_cases c : i' < i + 1 ∧ i' ≠ r ∧ l' ≠ k
    · rw [if_pos (by omega), if_pos (by omega)]
    · rw [if_neg (by omega), if_neg (by omega)]
  | succ e ih =>
    intro l n xta hl hn h
    obtain ⟨n, rfl⟩ : ∃ n', n = n' + 1 := ⟨n - 1, by omega⟩
    refine br_f (nI_ge (by omega) (by omega)) ?_
    by_cases ck : l = k
    · subst ck
      refine br_t rfl (nm_r (nI_1 l) (ih (l + 1) n _ (by omega) (by omega) (rg_clw h ?_)))
      intro i' l' h1 h2
      unfold rg_pf
      by_cases c : (i' < i ∨ (i' = i ∧ l' < l)) ∧ i' ≠ r ∧ l' ≠ l
      · rw [if_pos c, if_pos (by omega)]
      · rw [if_neg c, if_neg (by omega)]
    · have hx : vp_in (3 * nI i + nI l) 63 := xw_in (by omega) (by omega)
      have hc : (3 * nI i + nI l).toNatClampNeg = 3 * i + l := xw_cl (by omega)
      have hx2 : vp_in (3 * nI r + nI l) 63 := xw_in (by omega) (by omega)
      have hc2 : (3 * nI r + nI l).toNatClampNeg = 3 * r + l := xw_cl (by omega)
      have hd2 : ¬ zL d = 0 := by rw [show (0 : Int64) = zL 0 from rfl, zL_eq hd zB_0]; exact hd0
      have e1 : rg_pf f q r k i l i l = f i l := by unfold rg_pf; exact if_neg (by omega)
      have e2 : rg_pf f q r k i l r l = f r l := by unfold rg_pf; exact if_neg (by omega)
      refine br_f (by rw [nI_eq (by omega) (by omega)]; exact ck) (And.intro hx (And.intro hx2 (And.intro hd2 (And.intro hx ?_))))
      rw [hc, hc2, h i l hi (by omega), h r l (by omega) (by omega), e1, e2, zL_mul, zL_mul, zL_sub, zL_div (hb l (by omega)) hd hd0 (hq l (by omega) ck)]
      refine nm_e (nm_r (nI_1 l) (ih (l + 1) n _ (by omega) (by omega) (rg_clu hv h (by omega) ?_)))
      intro i' l' h1 h2
      unfold rg_pf
      by_cases c : i' = i ∧ l' = l
      · obtain ⟨rfl, rfl⟩ := c
        rw [if_pos (by omega), if_pos ⟨rfl, rfl⟩]
      · rw [if_neg c]
        by_cases c2 : (i' < i ∨ (i' = i ∧ l' < l)) ∧ i' ≠ r ∧ l' ≠ k
        · rw [if_pos (by omega), if_pos c2]
        · rw [if_neg (by omega), if_neg c2]
theorem xw_pv34 {post : SX → Prop} {f q : Nat → Nat → Int} {r k : Nat} {d : Int} (hv : v ≤ 3) (hm : m ≤ 19) (hr : r < m) (hk : k < v) (hd : zB d) (hd0 : d ≠ 0) (hq : ∀ i l, i ≤ m → i ≠ r → l < v → l ≠ k → f r k * f i l - f i k * f r l = q i l * d) (hb : ∀ i l, i ≤ m → l < v → zB (f r k * f i l - f i k * f r l))
    (K : ∀ xta, rg_cl v m (rg_pf f q r k (m + 1) 0) xta → ∃ n, wX_pivot_139 post (nI r) (nI k) (zL (f r k)) (zL d) (nI v) xmf xmb xml xfo xbo xol xst xpd xps xcc xto xho xon xod (nI m) xof xos xde xcr xsp xsq xlp xlq xpn xpe n 0 xco xbf xbk xbv xbl xpp xpq xmu xke xcf xrv xrd xro xta xba xnb) :
    ∀ e i n xta, i + e = m + 1 → e < n → rg_cl v m (rg_pf f q r k i 0) xta → wX_pivot_34 post (nI r) (nI k) (zL (f r k)) (zL d) (nI v) xmf xmb xml xfo xbo xol xst xpd xps xcc xto xho xon xod (nI m) xof xos xde xcr xsp xsq xlp xlq xpn xpe n (nI i) xco xbf xbk xbv xbl xpp xpq xmu xke xcf xrv xrd xro xta xba xnb := by
  intro e
  induction e with
  | zero =>
    intro i n xta hi hn h
    obtain ⟨n, rfl⟩ : ∃ n', n = n' + 1 := ⟨n - 1, by omega⟩
    have e : i = m + 1 := by omega
    subst e
    exact br_t (nI_lt (by omega) (by omega)) (K _ h)
  | succ e ih =>
    intro i n xta hi hn h
    obtain ⟨n, rfl⟩ : ∃ n', n = n' + 1 := ⟨n - 1, by omega⟩
    refine br_f (nI_nlt (by omega) (by omega)) ?_
    by_cases cr : i = r
    · subst cr
      refine br_t rfl (nm_r (nI_1 i) (ih (i + 1) n _ (by omega) (by omega) (rg_clw h ?_)))
      intro i' l' h1 h2
      unfold rg_pf
      by_cases c : (i' < i ∨ (i' = i ∧ l' < 0)) ∧ i' ≠ i ∧ l' ≠ k
      · rw [if_pos c, if_pos (by omega)]
      · rw [if_neg c, if_neg (by omega)]
    · have hx : vp_in (3 * nI i + nI k) 63 := xw_in (by omega) (by omega)
      have hc : (3 * nI i + nI k).toNatClampNeg = 3 * i + k := xw_cl (by omega)
      have e1 : rg_pf f q r k i 0 i k = f i k := by unfold rg_pf; exact if_neg (by omega)
      refine br_f (by rw [nI_eq (by omega) (by omega)]; exact cr) (And.intro hx ?_)
      rw [hc, h i k (by omega) hk, e1]
      refine nm_e ⟨v + 1, xw_pv65 hv hm hr hk (by omega) cr hd hd0 (hq i · (by omega) cr) (hb i · (by omega)) (fun xta h2 => ?_) v 0 (v + 1) _ (by omega) (by omega) h⟩
      exact ih (i + 1) n _ (by omega) (by omega) h2
/-! row r -/
def rg_rf (f : Nat → Nat → Int) (r k : Nat) (d : Int) (l : Nat) : Nat → Nat → Int := fun i' l' => if i' = r ∧ l' < l then (if l' = k then d else -f i' l') else f i' l'
theorem xw_pv139 {post : SX → Prop} {f : Nat → Nat → Int} {r k : Nat} {p d : Int} (hv : v ≤ 3) (hm : m ≤ 19) (hr : r < m) (hk : k < v) (hp : zB p)
    (K1 : ∀ xta, 0 ≤ p → rg_cl v m (rg_rf f r k d v) xta → post (nI v, xmf, xmb, xml, xfo, xbo, xol, xst, xpd, xps, xcc, xto, xho, xon, xod, nI m, xof, xos, zL p, xcr, xsp, xsq, xlp, xlq, xpn, xpe, xco, xbf, xbk, xbv, xbl, xpp, xpq, xmu, xke, xcf, xrv, xrd, xro, xta, upd xba r (xnb k), upd xnb k (xba r)))
    (K2 : ∀ xta, p < 0 → rg_cl v m (fun i l => -rg_rf f r k d v i l) xta → post (nI v, xmf, xmb, xml, xfo, xbo, xol, xst, xpd, xps, xcc, xto, xho, xon, xod, nI m, xof, xos, zL (-p), xcr, xsp, xsq, xlp, xlq, xpn, xpe, xco, xbf, xbk, xbv, xbl, xpp, xpq, xmu, xke, xcf, xrv, xrd, xro, xta, upd xba r (xnb k), upd xnb k (xba r))) :
    ∀ e l n xta, l + e = v → e < n → rg_cl v m (rg_rf f r k d l) xta → wX_pivot_139 post (nI r) (nI k) (zL p) (zL d) (nI v) xmf xmb xml xfo xbo xol xst xpd xps xcc xto xho xon xod (nI m) xof xos xde xcr xsp xsq xlp xlq xpn xpe n (nI l) xco xbf xbk xbv xbl xpp xpq xmu xke xcf xrv xrd xro xta xba xnb := by
  intro e
  induction e with
  | zero =>
    intro l n xta hl hn h
    obtain ⟨n, rfl⟩ : ∃ n', n = n' + 1 := ⟨n - 1, by omega⟩
    have e : l = v := by omega
    subst e
    have hxr : vp_in (nI r) 20 := vp_in_nI (by omega) (by omega)
    have hxk : vp_in (nI k) 3 := vp_in_nI (by omega) (by omega)
    refine br_t (nI_le (by omega) (by omega)) (And.intro hxr (nm_e (And.intro hxk (And.intro hxr ?_))))
    rw [nI_clamp (show r < 2 ^ 31 by omega), nI_clamp (show k < 2 ^ 31 by omega)]
    refine nm_e (And.intro hxk (nm_e ?_))
    rw [show (0 : Int64) = zL 0 from rfl, zL_le zB_0 hp]
    exact br_c (fun z => K1 _ z h) (fun z => xw_ng hv hm rfl h (fun xta h2 => K2 _ (by omega) h2))
  | succ e ih =>
    intro l n xta hl hn h
    obtain ⟨n, rfl⟩ : ∃ n', n = n' + 1 := ⟨n - 1, by omega⟩
    have hx : vp_in (3 * nI r + nI l) 63 := xw_in (by omega) (by omega)
    have hc : (3 * nI r + nI l).toNatClampNeg = 3 * r + l := xw_cl (by omega)
    refine br_f (nI_ge (by omega) (by omega)) ?_
    by_cases ck : l = k
    · subst ck
      refine br_t rfl (And.intro hx ?_)
      rw [hc]
      refine nm_e (nm_r (nI_1 l) (ih (l + 1) n _ (by omega) (by omega) (rg_clu hv h (by omega) ?_)))
      intro i' l' h1 h2
      unfold rg_rf
      by_cases c : i' = r ∧ l' = l
      · obtain ⟨rfl, rfl⟩ := c
        rw [if_pos (by omega), if_pos rfl, if_pos ⟨rfl, rfl⟩]
      · rw [if_neg c]
        by_cases c2 : i' = r ∧ l' < l
        · rw [if_pos (by omega), if_pos c2]
        · rw [if_neg (by omega), if_neg c2]
    · have e1 : rg_rf f r k d l r l = f r l := by unfold rg_rf; exact if_neg (by omega)
      refine br_f (by rw [nI_eq (by omega) (by omega)]; exact ck) (And.intro hx (And.intro hx ?_))
      rw [hc, h r l (by omega) (by omega), e1, zL_neg]
      refine nm_e (nm_r (nI_1 l) (ih (l + 1) n _ (by omega) (by omega) (rg_clu hv h (by omega) ?_)))
      intro i' l' h1 h2
      unfold rg_rf
      by_cases c : i' = r ∧ l' = l
      · obtain ⟨rfl, rfl⟩ := c
        rw [if_pos (by omega), if_neg ck, if_pos ⟨rfl, rfl⟩]
      · rw [if_neg c]
        by_cases c2 : i' = r ∧ l' < l
        · rw [if_pos (by omega), if_pos c2]
        · rw [if_neg (by omega), if_neg c2]
end
end
section
/-! pivot: the picture of the next basis -/
def rg_gg (A : Nat → Nat → Int) (c : Nat → Int) (m : Nat) (bs : Nat → Nat) (i : Nat) : Nat → Int := if i < m then rf_G A (bs i) else c
theorem rg_Tcl {v m : Nat} {A : Nat → Nat → Int} {c : Nat → Int} {nb bs : Nat → Nat} {xde : Int64} {xta : Nat → Int64} {xba xnb : Nat → Int32} (hT : rg_T v m A c nb bs xde xta xba xnb) : rg_cl v m (fun i l => rc_tv (rf_G A) nb (rg_gg A c m bs i) l) xta := by
  intro i l h1 h2
  unfold rg_gg
  dsimp only
  by_cases z : i < m
  · rw [if_pos z]; exact hT.2.2.2.2.2.2.1 i z l h2
  · rw [if_neg z, show i = m by omega]; exact hT.2.2.2.2.2.2.2 l h2
theorem rg_Tmk {v m : Nat} {A : Nat → Nat → Int} {c : Nat → Int} {nb bs : Nat → Nat} {xde : Int64} {xta xta' : Nat → Int64} {xba xnb : Nat → Int32} {r k : Nat} (hv : v ≤ 3) (hT : rg_T v m A c nb bs xde xta xba xnb) (hr : r < m) (hk : k < v) (hp : rc_tv (rf_G A) nb (rf_G A (bs r)) k ≠ 0)
    (hcl : rg_cl v m (fun i l => rc_tv (rf_G A) (rc_up nb k (bs r)) (rg_gg A c m (rc_up bs r (nb k)) i) l) xta') :
    rg_T v m A c (rc_up nb k (bs r)) (rc_up bs r (nb k)) (zL (rc_den (rf_G A) (rc_up nb k (bs r)))) xta' (upd xba r (xnb k)) (upd xnb k (xba r)) := by
  obtain ⟨g, ed, hN, hB, hC, hI, _, _⟩ := hT
  obtain ⟨br, okr, nin⟩ := hB r hr
  obtain ⟨bk, okk⟩ := hN.1 k hk
  refine ⟨rc_gdup hp, rfl, ⟨fun k' hk' => ?_, fun k' h1 h2 => ?_⟩, fun r' hr' => ?_, fun u hu => ?_, fun r1 r2 h1 h2 e => ?_, fun i hi l hl => ?_, fun l hl => ?_⟩
  · unfold rc_up
    by_cases e : k' = k
    · rw [if_pos e, e, pk_us]; exact ⟨br, okr⟩
    · rw [if_neg e, pk_un e]; exact hN.1 k' hk'
  · unfold rc_up
    rw [if_neg (by omega)]
    exact hN.2 k' h1 h2
  · by_cases e : r' = r
    · subst e
      rw [show rc_up bs r' (nb k) r' = nb k from if_pos rfl, pk_us]
      refine ⟨bk, okk, fun z => ?_⟩
      rcases (rc_inup g (by omega) _).mp z with z | z
      · apply nin; rw [← z]; exact rc_inI (by omega)
      · exact z.2 rfl
    · rw [show rc_up bs r (nb k) r' = bs r' from if_neg e, pk_un e]
      obtain ⟨b1, b2, b3⟩ := hB r' hr'
      refine ⟨b1, b2, fun z => ?_⟩
      rcases (rc_inup g (by omega) _).mp z with z | z
      · exact e (hI _ _ hr' hr z)
      · exact b3 z.1
  · rcases hC u hu with z | ⟨r', hr', z⟩
    · by_cases e : u = nb k
      · exact Or.inr ⟨r, hr, by rw [show rc_up bs r (nb k) r = nb k from if_pos rfl, e]⟩
      · exact Or.inl ((rc_inup g (by omega) _).mpr (Or.inr ⟨z, e⟩))
    · by_cases e : r' = r
      · exact Or.inl ((rc_inup g (by omega) _).mpr (Or.inl (by rw [← z, e])))
      · exact Or.inr ⟨r', hr', by rw [show rc_up bs r (nb k) r' = bs r' from if_neg e, z]⟩
  · unfold rc_up at e
    by_cases e1 : r1 = r
    · by_cases e2 : r2 = r
      · rw [e1, e2]
      · rw [if_pos e1, if_neg e2] at e
        exact absurd (show rc_in nb (bs r2) by rw [← e]; exact rc_inI (by omega)) (hB r2 h2).2.2
    · by_cases e2 : r2 = r
      · rw [if_neg e1, if_pos e2] at e
        exact absurd (show rc_in nb (bs r1) by rw [e]; exact rc_inI (by omega)) (hB r1 h1).2.2
      · rw [if_neg e1, if_neg e2] at e
        exact hI _ _ h1 h2 e
  · have := hcl i l (by omega) hl
    unfold rg_gg at this
    dsimp only at this
    rw [if_pos hi] at this
    exact this
  · have := hcl m l (by omega) hl
    unfold rg_gg at this
    dsimp only at this
    rw [if_neg (by omega)] at this
    exact this
section
variable {v m : Nat} {A : Nat → Nat → Int} {V Q : Nat → Int} {c : Nat → Int} {nb bs : Nat → Nat}
variable {xmf xmb xml xfo xbo xol xst xps xcc xho xof xos xcr : Int32} {xpd xto xon xod xde xsp xsq xlp xlq xpn xpe : Int64} {xco xbf xbk xbv xbl xke xro xba xnb : Nat → Int32} {xpp xpq xmu xcf xrv xrd xta : Nat → Int64}
theorem xw_pivot {post : SX → Prop} {r k : Nat} (hS : rg_S v m A V Q) (hcb : rb_bd c 20) (hT : rg_T v m A c nb bs xde xta xba xnb) (hr : r < m) (hk : k < v) (hp : rc_tv (rf_G A) nb (rf_G A (bs r)) k ≠ 0)
    (K : ∀ xde xta xba xnb, rg_T v m A c (rc_up nb k (bs r)) (rc_up bs r (nb k)) xde xta xba xnb → post (nI v, xmf, xmb, xml, xfo, xbo, xol, xst, xpd, xps, xcc, xto, xho, xon, xod, nI m, xof, xos, xde, xcr, xsp, xsq, xlp, xlq, xpn, xpe, xco, xbf, xbk, xbv, xbl, xpp, xpq, xmu, xke, xcf, xrv, xrd, xro, xta, xba, xnb)) : wpX_pivot post (nI v, xmf, xmb, xml, xfo, xbo, xol, xst, xpd, xps, xcc, xto, xho, xon, xod, nI m, xof, xos, xde, xcr, xsp, xsq, xlp, xlq, xpn, xpe, xco, xbf, xbk, xbv, xbl, xpp, xpq, xmu, xke, xcf, xrv, xrd, xro, xta, xba, xnb) (nI r) (nI k) := by
  have hv := hS.2.1
  have hm := hS.2.2.1
  have hl := rg_Nl hv hT.2.2.1
  have hG := fun k hk => rg_Gb hS (hl k hk)
  have g := hT.1
  have ed := hT.2.1
  have hcl := rg_Tcl hT
  have dp := rc_denp g
  have hgg : ∀ i, rb_bd (rg_gg A c m bs i) 20 := by
    intro i
    unfold rg_gg
    by_cases z : i < m
    · rw [if_pos z]; exact rg_Gb hS (rg_okl hv (hT.2.2.2.1 i z).2.1)
    · rw [if_neg z]; exact hcb
  have hgr : rg_gg A c m bs r = rf_G A (bs r) := if_pos hr
  have hx : vp_in (3 * nI r + nI k) 63 := xw_in (by omega) (by omega)
  have hc : (3 * nI r + nI k).toNatClampNeg = 3 * r + k := xw_cl (by omega)
  have bp := zA_B (rg_tvb hG (hgg r) k) (by omega)
  have bd := zA_B (rg_deb hG) (by omega)
  have e0 := hcl r k (by omega) hk
  dsimp only at e0
  refine And.intro hx ?_
  rw [hc, e0]
  have sq := rb_sgq (rc_tv (rf_G A) nb (rf_G A (bs r)) k)
  have gnb : rc_gd (rf_G A) nb := g
  refine nm_e ?_
  rw [show (0 : Int64) = zL 0 from rfl, zL_eq bp zB_0]
  refine br_f (by rw [hgr]; exact hp) ?_
  rw [ed, zL_eq bd zB_0]
  refine br_f (by omega) ⟨m + 2, xw_pv34 (f := fun i l => rc_tv (rf_G A) nb (rg_gg A c m bs i) l) (q := fun i l => rb_sg (rc_tv (rf_G A) nb (rf_G A (bs r)) k) * rc_tv (rf_G A) (rc_up nb k (bs r)) (rg_gg A c m bs i) l) hv hm hr hk bd (by omega) ?_ ?_ ?_ (m + 1) 0 (m + 2) _ (by omega) (by omega) ?_⟩
  · intro i l _ _ h3 h4
    have e := rc_tvupl (G := rf_G A) (nb := nb) (k := k) (l := l) (u := bs r) (by omega) (by omega) (fun z => h4 z.symm) hp (rg_gg A c m bs i)
    rw [hgr]
    generalize rb_sg (rc_tv (rf_G A) nb (rf_G A (bs r)) k) = s at *
    generalize rc_tv (rf_G A) (rc_up nb k (bs r)) (rg_gg A c m bs i) l = t' at *
    grind
  · intro i l _ _
    exact zA_B (zA_sub (zA_mul (rg_tvb hG (hgg r) k) (rg_tvb hG (hgg i) l)) (zA_mul (rg_tvb hG (hgg i) k) (rg_tvb hG (hgg r) l))) (by omega)
  · intro xta h
    have fin : ∀ i l, i ≤ m → l < v → rg_rf (rg_pf (fun i l => rc_tv (rf_G A) nb (rg_gg A c m bs i) l) (fun i l => rb_sg (rc_tv (rf_G A) nb (rf_G A (bs r)) k) * rc_tv (rf_G A) (rc_up nb k (bs r)) (rg_gg A c m bs i) l) r k (m + 1) 0) r k (rc_den (rf_G A) nb) v i l = rb_sg (rc_tv (rf_G A) nb (rf_G A (bs r)) k) * rc_tv (rf_G A) (rc_up nb k (bs r)) (rg_gg A c m (rc_up bs r (nb k)) i) l := by
      intro i l h1 h2
      unfold rg_rf rg_pf
      dsimp only
      by_cases ci : i = r
      · subst ci
        have e5 : rg_gg A c m (rc_up bs i (nb k)) i = rf_G A (nb k) := by
          unfold rg_gg
          rw [if_pos hr, show rc_up bs i (nb k) i = nb k from if_pos rfl]
        rw [if_pos ⟨rfl, h2⟩, e5]
        by_cases ck : l = k
        · subst ck
          rw [if_pos rfl, rc_tvup hp, rc_tvk]
          generalize rb_sg (rc_tv (rf_G A) nb (rf_G A (bs i)) l) = s at *
          grind
        · rw [if_neg ck, if_neg (by omega), hgr]
          have e := rc_tvupl (G := rf_G A) (nb := nb) (k := k) (l := l) (u := bs i) (by omega) (by omega) (fun z => ck z.symm) hp (rf_G A (nb k))
          rw [rc_tvkl (nb := nb) (k := l) (l := k) (by omega) (by omega) ck, rc_tvk, Int.mul_zero] at e
          have e6 : rc_den (rf_G A) nb * rc_tv (rf_G A) (rc_up nb k (bs i)) (rf_G A (nb k)) l = rc_den (rf_G A) nb * (-(rb_sg (rc_tv (rf_G A) nb (rf_G A (bs i)) k) * rc_tv (rf_G A) nb (rf_G A (bs i)) l)) := by
            rw [e]; grind
          have e7 := Int.eq_of_mul_eq_mul_left (by omega) e6
          rw [e7]
          generalize rb_sg (rc_tv (rf_G A) nb (rf_G A (bs i)) k) = s at *
          grind
      · have e5 : rg_gg A c m (rc_up bs r (nb k)) i = rg_gg A c m bs i := by
          unfold rg_gg
          rw [show rc_up bs r (nb k) i = bs i from if_neg ci]
        rw [if_neg (fun z => ci z.1), e5]
        by_cases ck : l = k
        · subst ck
          rw [if_neg (by omega), rc_tvup hp]
          generalize rb_sg (rc_tv (rf_G A) nb (rf_G A (bs r)) l) = s at *
          grind
        · rw [if_pos (by omega)]
    refine ⟨v + 1, xw_pv139 (f := rg_pf (fun i l => rc_tv (rf_G A) nb (rg_gg A c m bs i) l) (fun i l => rb_sg (rc_tv (rf_G A) nb (rf_G A (bs r)) k) * rc_tv (rf_G A) (rc_up nb k (bs r)) (rg_gg A c m bs i) l) r k (m + 1) 0) hv hm hr hk bp ?_ ?_ v 0 (v + 1) _ (by omega) (by omega) (rg_clw h ?_)⟩
    · intro xta hp0 h2
      rw [hgr] at hp0 ⊢
      have s1 : rb_sg (rc_tv (rf_G A) nb (rf_G A (bs r)) k) = 1 := rb_sgnn (by omega)
      have := rg_Tmk (xta' := xta) hv hT hr hk hp (rg_clw h2 (fun i l h1 h2 => by rw [fin i l h1 h2, s1, Int.one_mul]))
      rw [rc_denup hp, s1, Int.one_mul] at this
      exact K _ _ _ _ this
    · intro xta hp0 h2
      rw [hgr] at hp0 ⊢
      have s1 : rb_sg (rc_tv (rf_G A) nb (rf_G A (bs r)) k) = -1 := rb_sgn (by omega)
      have := rg_Tmk (xta' := xta) hv hT hr hk hp (rg_clw h2 (fun i l h1 h2 => by rw [fin i l h1 h2, s1]; omega))
      rw [rc_denup hp, s1, show -1 * rc_tv (rf_G A) nb (rf_G A (bs r)) k = -rc_tv (rf_G A) nb (rf_G A (bs r)) k by omega] at this
      exact K _ _ _ _ this
    · intro i l h1 h2
      unfold rg_rf
      rw [if_neg (by omega)]
  · refine rg_clw hcl ?_
    intro i l h1 h2
    unfold rg_pf
    rw [if_neg (by omega)]
end
end
section
/-! startTableau, findFeasible -/
theorem rg_D0 (A : Nat → Nat → Int) : rb_D (rc_B (rf_G A) (fun k => k)) = 1 := by
  show rb_det (rb_e 0) (rb_e 1) (rb_e 2) = 1
  decide
theorem rg_den0 (A : Nat → Nat → Int) : rc_den (rf_G A) (fun k => k) = 1 := by
  unfold rc_den rb_den
  rw [rg_D0]; rfl
theorem rg_tv0 (A : Nat → Nat → Int) (g : Nat → Int) {k : Nat} (hk : k < 3) : rc_tv (rf_G A) (fun k => k) g k = g k := by
  unfold rc_tv rb_tv
  rw [rg_D0, show rb_sg 1 = 1 from rfl, Int.one_mul]
  rcases rb_lt3 hk with rfl | rfl | rfl
  · show rb_det g (rb_e 1) (rb_e 2) = _
    simp [rb_det, rb_e]
  · show rb_det (rb_e 0) g (rb_e 2) = _
    simp [rb_det, rb_e]
  · show rb_det (rb_e 0) (rb_e 1) g = _
    simp [rb_det, rb_e]
/-- the objective -/
def rg_O (v : Nat) (c : Nat → Int) (of : Nat) (xos : Int32) (xco : Nat → Int32) : Prop := of < 9 ∧ rb_bd c 20 ∧ (∀ k, v ≤ k → k < 3 → c k = 0) ∧ ∀ k, k < v → (xos * xco (3 * of + k)).toInt64 = zL (c k)
/-- a basis with no row violated -/
def rg_F (m : Nat) (A : Nat → Nat → Int) (V Q : Nat → Int) (nb : Nat → Nat) : Prop := ∀ w, 3 ≤ w → w < 3 + m → 0 ≤ rc_sl (rf_G A) (rf_L (rg_b V Q)) nb w
/-- a row in conflict -/
def rg_X (m : Nat) (A : Nat → Nat → Int) (V Q : Nat → Int) (nb bs : Nat → Nat) (r : Nat) : Prop := r < m ∧ 3 ≤ bs r ∧ rc_sl (rf_G A) (rf_L (rg_b V Q)) nb (bs r) < 0 ∧ ∀ l, l < 3 → ¬ re_su (rf_G A) nb (rf_G A (bs r)) l
section
variable {v m of : Nat} {A : Nat → Nat → Int} {V Q : Nat → Int} {c : Nat → Int}
variable {xmf xmb xml xfo xbo xol xst xps xcc xho xos xcr : Int32} {xpd xto xon xod xde xsp xsq xlp xlq xpn xpe : Int64} {xco xbf xbk xbv xbl xke xro xba xnb : Nat → Int32} {xpp xpq xmu xcf xrv xrd xta : Nat → Int64}
theorem xw_st89 {post : SX → Prop} {r : Nat} (hS : rg_S v m A V Q) (hA : rg_A v m A xcf) (hr : r < m) {J : Int32 → (Nat → Int32) → (Nat → Int32) → (Nat → Int32) → (Nat → Int32) → (Nat → Int32) → (Nat → Int64) → (Nat → Int64) → (Nat → Int64) → (Nat → Int32) → (Nat → Int64) → (Nat → Int64) → (Nat → Int64) → (Nat → Int32) → (Nat → Int64) → (Nat → Int32) → (Nat → Int32) → Prop} (W : (Nat → Int64) → Prop) (hW : ∀ ta l, l < v → W ta → W (vp_updL ta (3 * r + l) (zL (A r l))))
    (K : ∀ xta, W xta → (∀ k, k < v → xta (3 * r + k) = zL (A r k)) → J (nI (r + 1)) xco xbf xbk xbv xbl xpp xpq xmu xke xcf xrv xrd xro xta xba xnb) :
    ∀ d l n xta, l + d = v → d < n → W xta → (∀ k, k < l → xta (3 * r + k) = zL (A r k)) → wX_startTableau_89 post J (nI r) (nI v) xmf xmb xml xfo xbo xol xst xpd xps xcc xto xho xon xod (nI m) (nI of) xos xde xcr xsp xsq xlp xlq xpn xpe n (nI l) xco xbf xbk xbv xbl xpp xpq xmu xke xcf xrv xrd xro xta xba xnb := by
  have hv := hS.2.1
  have hm := hS.2.2.1
  intro d
  induction d with
  | zero =>
    intro l n xta hl hn h1 h2
    obtain ⟨n, rfl⟩ : ∃ n', n = n' + 1 := ⟨n - 1, by omega⟩
    have e : l = v := by omega
    subst e
    exact br_t (nI_le (by omega) (by omega)) (nm_r (nI_1 r) (K _ h1 h2))
  | succ d ih =>
    intro l n xta hl hn h1 h2
    obtain ⟨n, rfl⟩ : ∃ n', n = n' + 1 := ⟨n - 1, by omega⟩
    have hx : vp_in (3 * nI r + nI l) 63 := xw_in (by omega) (by omega)
    have hx2 : vp_in (3 * nI r + nI l) 60 := xw_in (by omega) (by omega)
    have hc : (3 * nI r + nI l).toNatClampNeg = 3 * r + l := xw_cl (by omega)
    refine br_f (nI_ge (by omega) (by omega)) (And.intro hx2 (And.intro hx ?_))
    rw [hc, hA r hr l (by omega)]
    refine nm_e (nm_r (nI_1 l) (ih (l + 1) n _ (by omega) (by omega) (hW _ _ (by omega) h1) ?_))
    intro k hk
    by_cases e : k = l
    · rw [e, pk_uLs]
    · rw [pk_uLn (by omega)]; exact h2 k (by omega)
theorem xw_st67 {post : SX → Prop} (hS : rg_S v m A V Q) (hA : rg_A v m A xcf)
    (K : ∀ xta xba, (∀ k, k < v → xta (3 * m + k) = zL (c k)) → (∀ r, r < m → xba r = nI (v + r) ∧ ∀ k, k < v → xta (3 * r + k) = zL (A r k)) → post (nI v, xmf, xmb, xml, xfo, xbo, xol, xst, xpd, xps, xcc, xto, xho, xon, xod, nI m, nI of, xos, xde, xcr, xsp, xsq, xlp, xlq, xpn, xpe, xco, xbf, xbk, xbv, xbl, xpp, xpq, xmu, xke, xcf, xrv, xrd, xro, xta, xba, xnb)) :
    ∀ d i n xta xba, i + d = m → d < n → (∀ k, k < v → xta (3 * m + k) = zL (c k)) → (∀ r, r < i → xba r = nI (v + r) ∧ ∀ k, k < v → xta (3 * r + k) = zL (A r k)) → wX_startTableau_67 post (nI v) xmf xmb xml xfo xbo xol xst xpd xps xcc xto xho xon xod (nI m) (nI of) xos xde xcr xsp xsq xlp xlq xpn xpe n (nI i) xco xbf xbk xbv xbl xpp xpq xmu xke xcf xrv xrd xro xta xba xnb := by
  have hv := hS.2.1
  have hm := hS.2.2.1
  intro d
  induction d with
  | zero =>
    intro i n xta xba hi hn h1 h2
    obtain ⟨n, rfl⟩ : ∃ n', n = n' + 1 := ⟨n - 1, by omega⟩
    have e : i = m := by omega
    subst e
    exact br_t (nI_le (by omega) (by omega)) (K _ _ h1 h2)
  | succ d ih =>
    intro i n xta xba hi hn h1 h2
    obtain ⟨n, rfl⟩ : ∃ n', n = n' + 1 := ⟨n - 1, by omega⟩
    refine br_f (nI_ge (by omega) (by omega)) (And.intro (vp_in_nI (by omega) (by omega)) ?_)
    rw [nI_clamp (show i < 2 ^ 31 by omega), nI_add]
    refine nm_e ⟨v + 1, xw_st89 hS hA (by omega) (fun ta => (∀ k, k < v → ta (3 * m + k) = zL (c k)) ∧ (∀ r, r < i → ∀ k, k < v → ta (3 * r + k) = zL (A r k))) ?_ ?_ v 0 (v + 1) _ (by omega) (by omega) ⟨h1, fun r hr => (h2 r hr).2⟩ (fun k hk => absurd hk (by omega))⟩
    · rintro ta l hl ⟨a, b⟩
      refine ⟨fun k hk => ?_, fun r hr k hk => ?_⟩
      · rw [pk_uLn (by omega)]; exact a k hk
      · rw [pk_uLn (by omega)]; exact b r hr k hk
    · rintro xta ⟨a, b⟩ h3
      refine ih (i + 1) n _ _ (by omega) (by omega) a ?_
      intro r hr
      by_cases e : r = i
      · rw [e, pk_us]; exact ⟨rfl, h3⟩
      · rw [pk_un e]; exact ⟨(h2 r (by omega)).1, b r (by omega)⟩
theorem xw_st12 {post : SX → Prop} (hS : rg_S v m A V Q) (hA : rg_A v m A xcf) (hO : rg_O v c of xos xco)
    (K : ∀ xta xba xnb, (∀ k, k < v → xnb k = nI k) → (∀ k, k < v → xta (3 * m + k) = zL (c k)) → (∀ r, r < m → xba r = nI (v + r) ∧ ∀ k, k < v → xta (3 * r + k) = zL (A r k)) → post (nI v, xmf, xmb, xml, xfo, xbo, xol, xst, xpd, xps, xcc, xto, xho, xon, xod, nI m, nI of, xos, xde, xcr, xsp, xsq, xlp, xlq, xpn, xpe, xco, xbf, xbk, xbv, xbl, xpp, xpq, xmu, xke, xcf, xrv, xrd, xro, xta, xba, xnb)) :
    ∀ d i n xta xnb, i + d = v → d < n → (∀ k, k < i → xnb k = nI k) → (∀ k, k < i → xta (3 * m + k) = zL (c k)) → wX_startTableau_12 post (nI v) xmf xmb xml xfo xbo xol xst xpd xps xcc xto xho xon xod (nI m) (nI of) xos xde xcr xsp xsq xlp xlq xpn xpe n (nI i) xco xbf xbk xbv xbl xpp xpq xmu xke xcf xrv xrd xro xta xba xnb := by
  have hv := hS.2.1
  have hm := hS.2.2.1
  intro d
  induction d with
  | zero =>
    intro i n xta xnb hi hn h1 h2
    obtain ⟨n, rfl⟩ : ∃ n', n = n' + 1 := ⟨n - 1, by omega⟩
    have e : i = v := by omega
    subst e
    exact br_t (nI_le (by omega) (by omega)) ⟨m + 1, xw_st67 hS hA (fun _ _ a b => K _ _ _ h1 a b) m 0 (m + 1) _ _ (by omega) (by omega) h2 (fun r hr => absurd hr (by omega))⟩
  | succ d ih =>
    intro i n xta xnb hi hn h1 h2
    obtain ⟨n, rfl⟩ : ∃ n', n = n' + 1 := ⟨n - 1, by omega⟩
    have hof := hO.1
    have hx : vp_in (3 * nI of + nI i) 27 := xw_in (by omega) (by omega)
    have hc : (3 * nI of + nI i).toNatClampNeg = 3 * of + i := xw_cl (by omega)
    have hx2 : vp_in (3 * nI m + nI i) 63 := xw_in (by omega) (by omega)
    have hc2 : (3 * nI m + nI i).toNatClampNeg = 3 * m + i := xw_cl (by omega)
    refine br_f (nI_ge (by omega) (by omega)) (And.intro (vp_in_nI (by omega) (by omega)) ?_)
    rw [nI_clamp (show i < 2 ^ 31 by omega)]
    refine nm_e (And.intro hx (And.intro hx2 ?_))
    rw [hc, hc2, hO.2.2.2 i (by omega)]
    refine nm_e (nm_r (nI_1 i) (ih (i + 1) n _ _ (by omega) (by omega) ?_ ?_))
    · intro k hk
      by_cases e : k = i
      · rw [e, pk_us]
      · rw [pk_un e]; exact h1 k (by omega)
    · intro k hk
      by_cases e : k = i
      · rw [e, pk_uLs]
      · rw [pk_uLn (by omega)]; exact h2 k (by omega)
theorem xw_start {post : SX → Prop} (hS : rg_S v m A V Q) (hA : rg_A v m A xcf) (hO : rg_O v c of xos xco)
    (K : ∀ nb bs xde xta xba xnb, rg_T v m A c nb bs xde xta xba xnb → post (nI v, xmf, xmb, xml, xfo, xbo, xol, xst, xpd, xps, xcc, xto, xho, xon, xod, nI m, nI of, xos, xde, -1, xsp, xsq, xlp, xlq, xpn, xpe, xco, xbf, xbk, xbv, xbl, xpp, xpq, xmu, xke, xcf, xrv, xrd, xro, xta, xba, xnb)) : wpX_startTableau post (nI v, xmf, xmb, xml, xfo, xbo, xol, xst, xpd, xps, xcc, xto, xho, xon, xod, nI m, nI of, xos, xde, xcr, xsp, xsq, xlp, xlq, xpn, xpe, xco, xbf, xbk, xbv, xbl, xpp, xpq, xmu, xke, xcf, xrv, xrd, xro, xta, xba, xnb) := by
  have hv := hS.2.1
  have hm := hS.2.2.1
  refine ⟨v + 1, xw_st12 hS hA hO ?_ v 0 (v + 1) _ _ (by omega) (by omega) (fun k hk => absurd hk (by omega)) (fun k hk => absurd hk (by omega))⟩
  intro xta xba xnb h1 h2 h3
  refine K (fun k => k) (fun r => 3 + r) _ _ _ _ ⟨?_, ?_, ⟨?_, fun k _ _ => rfl⟩, ?_, ?_, ?_, ?_, ?_⟩
  · unfold rc_gd
    rw [rg_D0]; decide
  · rw [rg_den0]; rfl
  · intro k hk
    dsimp only
    rw [h1 k hk, rg_cv (by omega)]
    exact ⟨rfl, Or.inl hk⟩
  · intro r hr
    dsimp only
    refine ⟨?_, Or.inr ⟨by omega, by omega⟩, ?_⟩
    · rw [(h3 r hr).1, rg_cr (by omega), show 3 + r - 3 + v = v + r by omega]
    · unfold rc_in; dsimp only; omega
  · intro u hu
    rcases hu with h | ⟨h, h'⟩
    · exact Or.inl (rc_inI (nb := fun k => k) (by omega))
    · exact Or.inr ⟨u - 3, by omega, by dsimp only; omega⟩
  · intro r r' _ _ e
    dsimp only at e
    omega
  · intro r hr k hk
    rw [(h3 r hr).2 k hk, rg_tv0 A _ (by omega), rf_Gr]
  · intro k hk
    rw [h2 k hk, rg_tv0 A _ (by omega)]
/-- no row is violated -/
theorem rg_Fm {nb bs : Nat → Nat} {xde : Int64} {xta : Nat → Int64} {xba xnb : Nat → Int32} (hT : rg_T v m A c nb bs xde xta xba xnb) (h : ∀ r, r < m → ¬ rg_vs A V Q nb bs r) : rg_F m A V Q nb := by
  intro w h1 h2
  rcases hT.2.2.2.2.1 w (Or.inr ⟨h1, h2⟩) with z | ⟨r, hr, e⟩
  · rw [rc_slin z]; exact Int.le_refl 0
  · have := h r hr
    unfold rg_vs at this
    rw [e] at this
    by_cases q : 0 ≤ rc_sl (rf_G A) (rf_L (rg_b V Q)) nb w
    · exact q
    · exact absurd ⟨h1, by omega⟩ this
theorem xw_ffL {post : Int32 → SX → Prop} (hS : rg_S v m A V Q) (hR : rg_R m V Q xrv xrd) (hcb : rb_bd c 20)
    (K1 : ∀ nb bs xde xta xba xnb xsp xsq xlp xlq, rg_T v m A c nb bs xde xta xba xnb → rg_F m A V Q nb → post 1 (nI v, xmf, xmb, xml, xfo, xbo, xol, xst, xpd, xps, xcc, xto, xho, xon, xod, nI m, nI of, xos, xde, xcr, xsp, xsq, xlp, xlq, xpn, xpe, xco, xbf, xbk, xbv, xbl, xpp, xpq, xmu, xke, xcf, xrv, xrd, xro, xta, xba, xnb))
    (K0 : ∀ nb bs xde xta xba xnb xsp xsq xlp xlq r, rg_T v m A c nb bs xde xta xba xnb → rg_X m A V Q nb bs r → post 0 (nI v, xmf, xmb, xml, xfo, xbo, xol, xst, xpd, xps, xcc, xto, xho, xon, xod, nI m, nI of, xos, xde, nI r, xsp, xsq, xlp, xlq, xpn, xpe, xco, xbf, xbk, xbv, xbl, xpp, xpq, xmu, xke, xcf, xrv, xrd, xro, xta, xba, xnb)) :
    ∀ d st n nb bs xde xta xba xnb xsp xsq xlp xlq, st + d = 8000 → d < n → rd_Ch (re_P1 (rf_G A) (rf_L (rg_b V Q)) m) (rf_G A) m st nb → rg_T v m A c nb bs xde xta xba xnb → wX_findFeasible_6 post n (nI st) (nI v) xmf xmb xml xfo xbo xol xst xpd xps xcc xto xho xon xod (nI m) (nI of) xos xde xcr xsp xsq xlp xlq xpn xpe xco xbf xbk xbv xbl xpp xpq xmu xke xcf xrv xrd xro xta xba xnb := by
  have hv := hS.2.1
  have hm := hS.2.2.1
  intro d
  induction d with
  | zero =>
    intro st n nb bs xde xta xba xnb xsp xsq xlp xlq hi hn hC hT
    have := rd_ChB hm (fun s us ks i j => re_nr1 s us ks i j) hC hT.1 (rg_Nl hv hT.2.2.1)
    omega
  | succ d ih =>
    intro st n nb bs xde xta xba xnb xsp xsq xlp xlq hi hn hC hT
    obtain ⟨n, rfl⟩ : ∃ n', n = n' + 1 := ⟨n - 1, by omega⟩
    have hst := rd_ChB hm (fun s us ks i j => re_nr1 s us ks i j) hC hT.1 (rg_Nl hv hT.2.2.1)
    have hN := hT.2.2.1
    refine br_f (nI_ge (b := 10000) (by omega) (by decide)) (xw_vr hS hT hR (fun x xsp xsq xlp xlq hI => ?_))
    rcases hI with ⟨ex, hI⟩ | ⟨b, hb, ex, h1, h2⟩
    · subst ex
      exact br_f (by decide) (K1 _ _ _ _ _ _ _ _ _ _ hT (rg_Fm hT hI))
    · subst ex
      obtain ⟨eb, ob, nb_in⟩ := hT.2.2.2.1 b hb
      refine br_t (nI_pos' (by omega)) (xw_rc hS (by omega) hN (rg_Gb hS (rg_okl hv ob)) (fun k h1 h2 => rg_G0 hS ob h1 h2) (hT.2.2.2.2.2.2.1 b hb) (fun h => ?_) (fun k hk hs hle => ?_))
      · exact br_f (by decide) (K0 _ _ _ _ _ _ _ _ _ _ b hT ⟨hb, h1.1, h1.2, h⟩)
      · refine br_t (nI_pos' (by omega)) (xw_pivot hS hcb hT hb hk (re_su0 hs) (fun xde xta xba xnb hT2 => ?_))
        refine nm_r (nI_1 st) (ih (st + 1) n _ _ _ _ _ _ _ _ _ _ (by omega) (by omega) (rd_ChS hC hT.1 (rg_Nl hv hN) ⟨h1.1, rg_okl hv ob, by omega, h1.2, ?_, hs, hle⟩) hT2)
        intro w w1 w2
        rcases hT.2.2.2.2.1 w (Or.inr ⟨w1, by have := rg_okl hv ob; omega⟩) with z | ⟨r, hr, e⟩
        · rw [rc_slin z]; exact Int.le_refl 0
        · by_cases q : 0 ≤ rc_sl (rf_G A) (rf_L (rg_b V Q)) nb w
          · exact q
          · have := h2 r hr ⟨by omega, by rw [e]; omega⟩
            omega
theorem xw_ff {post : Int32 → SX → Prop} (hS : rg_S v m A V Q) (hA : rg_A v m A xcf) (hR : rg_R m V Q xrv xrd) (hO : rg_O v c of xos xco)
    (K1 : ∀ nb bs xde xta xba xnb xsp xsq xlp xlq, rg_T v m A c nb bs xde xta xba xnb → rg_F m A V Q nb → post 1 (nI v, xmf, xmb, xml, xfo, xbo, xol, xst, xpd, xps, xcc, xto, xho, xon, xod, nI m, nI of, xos, xde, -1, xsp, xsq, xlp, xlq, xpn, xpe, xco, xbf, xbk, xbv, xbl, xpp, xpq, xmu, xke, xcf, xrv, xrd, xro, xta, xba, xnb))
    (K0 : ∀ nb bs xde xta xba xnb xsp xsq xlp xlq r, rg_T v m A c nb bs xde xta xba xnb → rg_X m A V Q nb bs r → post 0 (nI v, xmf, xmb, xml, xfo, xbo, xol, xst, xpd, xps, xcc, xto, xho, xon, xod, nI m, nI of, xos, xde, nI r, xsp, xsq, xlp, xlq, xpn, xpe, xco, xbf, xbk, xbv, xbl, xpp, xpq, xmu, xke, xcf, xrv, xrd, xro, xta, xba, xnb)) : wpX_findFeasible post (nI v, xmf, xmb, xml, xfo, xbo, xol, xst, xpd, xps, xcc, xto, xho, xon, xod, nI m, nI of, xos, xde, xcr, xsp, xsq, xlp, xlq, xpn, xpe, xco, xbf, xbk, xbv, xbl, xpp, xpq, xmu, xke, xcf, xrv, xrd, xro, xta, xba, xnb) := by
  unfold wpX_findFeasible
  refine xw_start hS hA hO (fun nb bs xde xta xba xnb hT => ?_)
  exact ⟨8001, xw_ffL hS hR hO.2.1 K1 K0 8000 0 8001 _ _ _ _ _ _ _ _ _ _ (by omega) (by omega) rd_Ch0 hT⟩
end
end
section
/-! blockingRow, maximize -/
def rg_ra (A : Nat → Nat → Int) (nb : Nat → Nat) (k : Nat) (δ : Int) (w : Nat) : Int := rc_tv (rf_G A) nb (rf_G A w) k * δ
def rg_sw (A : Nat → Nat → Int) (V Q : Nat → Int) (nb : Nat → Nat) (w : Nat) : Int := rc_sl (rf_G A) (rf_L (rg_b V Q)) nb w
/-- row b stops no later than row r -/
def rg_le (A : Nat → Nat → Int) (V Q : Nat → Int) (nb bs : Nat → Nat) (k : Nat) (δ : Int) (b r : Nat) : Prop :=
  rg_sw A V Q nb (bs b) * rg_ra A nb k δ (bs r) ≤ rg_sw A V Q nb (bs r) * rg_ra A nb k δ (bs b) ∧ (rg_sw A V Q nb (bs b) * rg_ra A nb k δ (bs r) = rg_sw A V Q nb (bs r) * rg_ra A nb k δ (bs b) → bs b ≤ bs r)
def rg_bt (A : Nat → Nat → Int) (V Q : Nat → Int) (nb bs : Nat → Nat) (k : Nat) (δ : Int) (i b : Nat) : Prop :=
  rg_sw A V Q nb (bs i) * rg_ra A nb k δ (bs b) < rg_sw A V Q nb (bs b) * rg_ra A nb k δ (bs i) ∨ (rg_sw A V Q nb (bs i) * rg_ra A nb k δ (bs b) = rg_sw A V Q nb (bs b) * rg_ra A nb k δ (bs i) ∧ bs i < bs b)
def rg_bs (A : Nat → Nat → Int) (nb bs : Nat → Nat) (k : Nat) (δ : Int) (r : Nat) : Prop := 3 ≤ bs r ∧ 0 < rg_ra A nb k δ (bs r)
def rg_BI (A : Nat → Nat → Int) (V Q : Nat → Int) (nb bs : Nat → Nat) (k : Nat) (δ : Int) (i : Nat) (x : Int32) (x4 x6 x8 : Int64) : Prop :=
  (x = -1 ∧ ∀ r, r < i → ¬ rg_bs A nb bs k δ r) ∨
  (∃ b, b < i ∧ x = nI b ∧ rg_bs A nb bs k δ b ∧ x4 = zL (rc_sl (rf_G A) (rf_L V) nb (bs b)) ∧ x6 = zL (rc_sl (rf_G A) (rf_L Q) nb (bs b)) ∧ x8 = zL (rg_ra A nb k δ (bs b)) ∧ ∀ r, r < i → rg_bs A nb bs k δ r → rg_le A V Q nb bs k δ b r)
section
variable {A : Nat → Nat → Int} {V Q : Nat → Int} {nb bs : Nat → Nat} {k : Nat} {δ : Int}
theorem rg_BI1 {i : Nat} {x : Int32} {x4 x6 x8 : Int64} (h : rg_BI A V Q nb bs k δ i x x4 x6 x8) (hs : ¬ rg_bs A nb bs k δ i) : rg_BI A V Q nb bs k δ (i + 1) x x4 x6 x8 := by
  rcases h with ⟨e, h⟩ | ⟨b, hb, e, h1, h4, h6, h8, h2⟩
  · refine Or.inl ⟨e, fun r hr z => ?_⟩
    by_cases c : r = i
    · rw [c] at z; exact hs z
    · exact h r (by omega) z
  · refine Or.inr ⟨b, by omega, e, h1, h4, h6, h8, fun r hr z => ?_⟩
    by_cases c : r = i
    · rw [c] at z; exact absurd z hs
    · exact h2 r (by omega) z
theorem rg_BI2 {i : Nat} (h : ∀ r, r < i → ¬ rg_bs A nb bs k δ r) (hs : rg_bs A nb bs k δ i) : rg_BI A V Q nb bs k δ (i + 1) (nI i) (zL (rc_sl (rf_G A) (rf_L V) nb (bs i))) (zL (rc_sl (rf_G A) (rf_L Q) nb (bs i))) (zL (rg_ra A nb k δ (bs i))) := by
  refine Or.inr ⟨i, by omega, rfl, hs, rfl, rfl, rfl, fun r hr z => ?_⟩
  by_cases c : r = i
  · rw [c]; exact ⟨Int.le_refl _, fun _ => Nat.le_refl _⟩
  · exact absurd z (h r (by omega))
theorem rg_BI3 {i b : Nat} {x : Int32} {x4 x6 x8 : Int64} (hb : b < i) (ex : x = nI b) (h1 : rg_bs A nb bs k δ b) (h4 : x4 = zL (rc_sl (rf_G A) (rf_L V) nb (bs b))) (h6 : x6 = zL (rc_sl (rf_G A) (rf_L Q) nb (bs b))) (h8 : x8 = zL (rg_ra A nb k δ (bs b))) (h2 : ∀ r, r < i → rg_bs A nb bs k δ r → rg_le A V Q nb bs k δ b r) (hl : rg_le A V Q nb bs k δ b i) : rg_BI A V Q nb bs k δ (i + 1) x x4 x6 x8 := by
  refine Or.inr ⟨b, by omega, ex, h1, h4, h6, h8, fun r hr z => ?_⟩
  by_cases c : r = i
  · rw [c]; exact hl
  · exact h2 r (by omega) z
theorem rg_BI4 {i b : Nat} (h1 : rg_bs A nb bs k δ b) (h2 : ∀ r, r < i → rg_bs A nb bs k δ r → rg_le A V Q nb bs k δ b r) (hs : rg_bs A nb bs k δ i) (hl : rg_bt A V Q nb bs k δ i b) : rg_BI A V Q nb bs k δ (i + 1) (nI i) (zL (rc_sl (rf_G A) (rf_L V) nb (bs i))) (zL (rc_sl (rf_G A) (rf_L Q) nb (bs i))) (zL (rg_ra A nb k δ (bs i))) := by
  refine Or.inr ⟨i, by omega, rfl, hs, rfl, rfl, rfl, fun r hr z => ?_⟩
  by_cases c : r = i
  · rw [c]; exact ⟨Int.le_refl _, fun _ => Nat.le_refl _⟩
  · obtain ⟨a1, a2⟩ := h2 r (by omega) z
    have p1 := h1.2
    have p2 := hs.2
    have p3 := z.2
    unfold rg_bt at hl
    unfold rg_le
    generalize rg_sw A V Q nb (bs i) = si at *
    generalize rg_sw A V Q nb (bs b) = sb at *
    generalize rg_sw A V Q nb (bs r) = sr at *
    generalize rg_ra A nb k δ (bs i) = ri at *
    generalize rg_ra A nb k δ (bs b) = rb at *
    generalize rg_ra A nb k δ (bs r) = rr at *
    rcases hl with hl | ⟨hl, hl2⟩
    · have := rc_frl' p1 (show 0 ≤ ri by omega) p3 hl a1
      exact ⟨by omega, fun e => by omega⟩
    · refine ⟨rc_frt p1 (show 0 ≤ ri by omega) (show 0 ≤ rr by omega) (Int.le_of_eq hl) a1, fun e => ?_⟩
      by_cases q : sb * rr = sr * rb
      · have := a2 q; omega
      · have := rc_frl p1 p2 (show 0 ≤ rr by omega) (Int.le_of_eq hl) (show sb * rr < sr * rb by omega)
        omega
end
section
variable {v m : Nat} {A : Nat → Nat → Int} {V Q : Nat → Int} {c : Nat → Int} {nb bs : Nat → Nat} {k : Nat} {δ : Int}
variable {xmf xmb xml xfo xbo xol xst xps xcc xho xof xos xcr : Int32} {xpd xto xon xod xde xsp xsq xlp xlq xpn xpe : Int64} {xco xbf xbk xbv xbl xke xro xba xnb : Nat → Int32} {xpp xpq xmu xcf xrv xrd xta : Nat → Int64}
theorem xw_bl75 {post : Int32 → SX → Prop} {J : Int32 → Int64 → Int64 → Int64 → Int32 → Int32 → Int32 → Int32 → Int32 → Int32 → Int32 → Int32 → Int32 → Int64 → Int32 → Int32 → Int64 → Int32 → Int64 → Int64 → Int32 → Int32 → Int32 → Int64 → Int32 → Int64 → Int64 → Int64 → Int64 → Int64 → Int64 → (Nat → Int32) → (Nat → Int32) → (Nat → Int32) → (Nat → Int32) → (Nat → Int32) → (Nat → Int64) → (Nat → Int64) → (Nat → Int64) → (Nat → Int32) → (Nat → Int64) → (Nat → Int64) → (Nat → Int64) → (Nat → Int32) → (Nat → Int64) → (Nat → Int32) → (Nat → Int32) → Prop} {x1 x2 : Int32} {i b : Nat} (hS : rg_S v m A V Q) (hT : rg_T v m A c nb bs xde xta xba xnb) (hi : i < m) (hb : b < m) (hd : δ = 1 ∨ δ = -1)
    (Kk : rg_le A V Q nb bs k δ b i → J (nI b) (zL (rc_sl (rf_G A) (rf_L V) nb (bs b))) (zL (rc_sl (rf_G A) (rf_L Q) nb (bs b))) (zL (rg_ra A nb k δ (bs b))) (nI (i + 1)) (nI v) xmf xmb xml xfo xbo xol xst xpd xps xcc xto xho xon xod (nI m) xof xos xde xcr xsp xsq (zL (rc_sl (rf_G A) (rf_L V) nb (bs i))) (zL (rc_sl (rf_G A) (rf_L Q) nb (bs i))) xpn xpe xco xbf xbk xbv xbl xpp xpq xmu xke xcf xrv xrd xro xta xba xnb)
    (Kr : rg_bt A V Q nb bs k δ i b → J (nI i) (zL (rc_sl (rf_G A) (rf_L V) nb (bs i))) (zL (rc_sl (rf_G A) (rf_L Q) nb (bs i))) (zL (rg_ra A nb k δ (bs i))) (nI (i + 1)) (nI v) xmf xmb xml xfo xbo xol xst xpd xps xcc xto xho xon xod (nI m) xof xos xde xcr xsp xsq (zL (rc_sl (rf_G A) (rf_L V) nb (bs i))) (zL (rc_sl (rf_G A) (rf_L Q) nb (bs i))) xpn xpe xco xbf xbk xbv xbl xpp xpq xmu xke xcf xrv xrd xro xta xba xnb) :
    wX_blockingRow_75 post J x1 x2 (nI b) (zL (rc_sl (rf_G A) (rf_L V) nb (bs b))) (zL (rc_sl (rf_G A) (rf_L Q) nb (bs b))) (zL (rg_ra A nb k δ (bs b))) (nI i) (zL (rg_ra A nb k δ (bs i))) 0 (nI v) xmf xmb xml xfo xbo xol xst xpd xps xcc xto xho xon xod (nI m) xof xos xde xcr xsp xsq (zL (rc_sl (rf_G A) (rf_L V) nb (bs i))) (zL (rc_sl (rf_G A) (rf_L Q) nb (bs i))) xpn xpe xco xbf xbk xbv xbl xpp xpq xmu xke xcf xrv xrd xro xta xba xnb := by
  have hv := hS.2.1
  have hm := hS.2.2.1
  have hl := rg_Nl hv hT.2.2.1
  obtain ⟨ei, oi, _⟩ := hT.2.2.2.1 i hi
  obtain ⟨eb, ob, _⟩ := hT.2.2.2.1 b hb
  have ui := rg_okl hv oi
  have ub := rg_okl hv ob
  have hG := fun k hk => rg_Gb hS (hl k hk)
  have sV : ∀ u, u < 3 + m → zA (rc_sl (rf_G A) (rf_L V) nb u) 192000000 := fun u hu => rg_slb (c := 1000) hG (rg_Gb hS hu) (fun k hk => (rg_LV hS (hl k hk)).1) (rg_LV hS hu).1
  have sQ : ∀ u, u < 3 + m → zA (rc_sl (rf_G A) (rf_L Q) nb u) 192000 := fun u hu => rg_slb (c := 1) hG (rg_Gb hS hu) (fun k hk => (rg_LV hS (hl k hk)).2) (rg_LV hS hu).2
  have rB : ∀ u, u < 3 + m → zA (rg_ra A nb k δ u) 48000 := by
    intro u hu
    unfold rg_ra
    rw [Int.mul_comm]
    exact rg_sgb hd (rg_tvb hG (rg_Gb hS hu) k)
  have hP := zA_sub (zA_mul (sV _ ui) (rB _ ub)) (zA_mul (sV _ ub) (rB _ ui))
  have hQ := zA_sub (zA_mul (sQ _ ui) (rB _ ub)) (zA_mul (sQ _ ub) (rB _ ui))
  have hPB := zA_B hP (by omega)
  have hQB := zA_B hQ (by omega)
  have hQ1 := zA_w (d := 1000000000000000) hQ (by omega)
  have key : (rc_sl (rf_G A) (rf_L V) nb (bs i) * rg_ra A nb k δ (bs b) - rc_sl (rf_G A) (rf_L V) nb (bs b) * rg_ra A nb k δ (bs i)) * zM + (rc_sl (rf_G A) (rf_L Q) nb (bs i) * rg_ra A nb k δ (bs b) - rc_sl (rf_G A) (rf_L Q) nb (bs b) * rg_ra A nb k δ (bs i)) = rg_sw A V Q nb (bs i) * rg_ra A nb k δ (bs b) - rg_sw A V Q nb (bs b) * rg_ra A nb k δ (bs i) := by
    unfold rg_sw
    rw [rg_sl, rg_sl]
    grind
  have zE := zM_eq hQ1 (P := rc_sl (rf_G A) (rf_L V) nb (bs i) * rg_ra A nb k δ (bs b) - rc_sl (rf_G A) (rf_L V) nb (bs b) * rg_ra A nb k δ (bs i))
  rw [key] at zE
  unfold wX_blockingRow_75
  refine br_t rfl ?_
  rw [zL_mul, zL_mul, zL_sub, zL_mul, zL_mul, zL_sub]
  refine nm_e (nm_e ?_)
  rw [show (0 : Int64) = zL 0 from rfl, zL_eq hPB zB_0, zL_eq hQB zB_0]
  have neg : ¬ (rg_sw A V Q nb (bs i) * rg_ra A nb k δ (bs b) - rg_sw A V Q nb (bs b) * rg_ra A nb k δ (bs i) = 0) → wX_blockingRow_130 post J x1 x2 (nI b) (zL (rc_sl (rf_G A) (rf_L V) nb (bs b))) (zL (rc_sl (rf_G A) (rf_L Q) nb (bs b))) (zL (rg_ra A nb k δ (bs b))) (nI i) (zL (rg_ra A nb k δ (bs i))) (zL (rc_sl (rf_G A) (rf_L V) nb (bs i) * rg_ra A nb k δ (bs b) - rc_sl (rf_G A) (rf_L V) nb (bs b) * rg_ra A nb k δ (bs i))) (zL (rc_sl (rf_G A) (rf_L Q) nb (bs i) * rg_ra A nb k δ (bs b) - rc_sl (rf_G A) (rf_L Q) nb (bs b) * rg_ra A nb k δ (bs i))) (nI v) xmf xmb xml xfo xbo xol xst xpd xps xcc xto xho xon xod (nI m) xof xos xde xcr xsp xsq (zL (rc_sl (rf_G A) (rf_L V) nb (bs i))) (zL (rc_sl (rf_G A) (rf_L Q) nb (bs i))) xpn xpe xco xbf xbk xbv xbl xpp xpq xmu xke xcf xrv xrd xro xta xba xnb := by
    intro hne
    unfold wX_blockingRow_130 wX_blockingRow_131
    refine br_t rfl (xw_neg hPB hQ1 (fun h => ?_) (fun h => ?_))
    · rw [key] at h
      unfold wX_blockingRow_170 wX_blockingRow_172
      exact br_f (by decide) (nm_r (nI_1 i) (Kr (Or.inl (by omega))))
    · rw [key] at h
      unfold wX_blockingRow_170 wX_blockingRow_172
      exact br_t rfl (nm_r (nI_1 i) (Kk ⟨by omega, fun e => by omega⟩))
  refine br_c (fun h1 => br_c (fun h2 => ?_) (fun h2 => neg (fun z => h2 (zE.mp z).2))) (fun h1 => neg (fun z => h1 (zE.mp z).1))
  have e0 := zE.mpr ⟨h1, h2⟩
  unfold wX_blockingRow_131
  refine br_f (by decide) (And.intro (vp_in_nI (by omega) (by omega)) (And.intro (vp_in_nI (by omega) (by omega)) ?_))
  rw [nI_clamp (show b < 2 ^ 31 by omega), nI_clamp (show i < 2 ^ 31 by omega), eb, ei, rg_cle ob oi hv hm]
  unfold wX_blockingRow_170 wX_blockingRow_172
  exact br_c (fun h => br_t rfl (nm_r (nI_1 i) (Kk ⟨by omega, fun _ => h⟩))) (fun h => br_f (by decide) (nm_r (nI_1 i) (Kr (Or.inr ⟨by omega, by omega⟩))))
theorem xw_blL {post : Int32 → SX → Prop} {x2 : Int32} (hS : rg_S v m A V Q) (hT : rg_T v m A c nb bs xde xta xba xnb) (hR : rg_R m V Q xrv xrd) (hk : k < v) (hd : δ = 1 ∨ δ = -1) (ed : x2.toInt64 = zL δ)
    (K : ∀ x x4 x6 x8 xsp xsq xlp xlq, rg_BI A V Q nb bs k δ m x x4 x6 x8 → post x (nI v, xmf, xmb, xml, xfo, xbo, xol, xst, xpd, xps, xcc, xto, xho, xon, xod, nI m, xof, xos, xde, xcr, xsp, xsq, xlp, xlq, xpn, xpe, xco, xbf, xbk, xbv, xbl, xpp, xpq, xmu, xke, xcf, xrv, xrd, xro, xta, xba, xnb)) :
    ∀ d i n x x4 x6 x8 xsp xsq xlp xlq, i + d = m → d < n → rg_BI A V Q nb bs k δ i x x4 x6 x8 → wX_blockingRow_14 post (nI k) x2 n x x4 x6 x8 (nI i) (nI v) xmf xmb xml xfo xbo xol xst xpd xps xcc xto xho xon xod (nI m) xof xos xde xcr xsp xsq xlp xlq xpn xpe xco xbf xbk xbv xbl xpp xpq xmu xke xcf xrv xrd xro xta xba xnb := by
  have hv := hS.2.1
  have hm := hS.2.2.1
  have hl := rg_Nl hv hT.2.2.1
  have hG := fun k hk => rg_Gb hS (hl k hk)
  intro d
  induction d with
  | zero =>
    intro i n x x4 x6 x8 xsp xsq xlp xlq hi hn hI
    obtain ⟨n, rfl⟩ : ∃ n', n = n' + 1 := ⟨n - 1, by omega⟩
    have e : i = m := by omega
    subst e
    exact br_t (nI_le (by omega) (by omega)) (K _ _ _ _ _ _ _ _ hI)
  | succ d ih =>
    intro i n x x4 x6 x8 xsp xsq xlp xlq hi hn hI
    obtain ⟨n, rfl⟩ : ∃ n', n = n' + 1 := ⟨n - 1, by omega⟩
    have hx : vp_in (3 * nI i + nI k) 63 := xw_in (by omega) (by omega)
    have hc : (3 * nI i + nI k).toNatClampNeg = 3 * i + k := xw_cl (by omega)
    obtain ⟨ei, oi, _⟩ := hT.2.2.2.1 i (by omega)
    have ui := rg_okl hv oi
    refine br_f (nI_ge (by omega) (by omega)) (And.intro hx ?_)
    rw [hc, hT.2.2.2.2.2.2.1 i (by omega) k hk, ed, zL_mul]
    have er : rc_tv (rf_G A) nb (rf_G A (bs i)) k * δ = rg_ra A nb k δ (bs i) := rfl
    have rB : zA (rg_ra A nb k δ (bs i)) 48000 := by
      unfold rg_ra
      rw [Int.mul_comm]
      exact rg_sgb hd (rg_tvb hG (rg_Gb hS ui) k)
    rw [er]
    refine nm_e (And.intro (vp_in_nI (by omega) (by omega)) ?_)
    rw [nI_clamp (show i < 2 ^ 31 by omega), ei, rg_clt oi hv hm, show (0 : Int64) = zL 0 from rfl, zL_le (zA_B rB (by omega)) zB_0]
    refine br_c (fun h => nm_r (nI_1 i) (ih (i + 1) n x _ _ _ _ _ _ _ (by omega) (by omega) (rg_BI1 hI (fun z => by have := z.1; omega)))) (fun h => br_c (fun h2 => nm_r (nI_1 i) (ih (i + 1) n x _ _ _ _ _ _ _ (by omega) (by omega) (rg_BI1 hI (fun z => by have := z.2; omega)))) (fun h2 => ?_))
    have su : rg_bs A nb bs k δ i := ⟨by omega, by omega⟩
    refine xw_cslack hv hm (by omega) hT hR (by omega) ?_
    rcases hI with ⟨ex, hI⟩ | ⟨b, hb, ex, h1, h4, h6, h8, h2⟩
    · subst ex
      refine br_f (by decide) ?_
      unfold wX_blockingRow_75
      refine br_f (by decide) ?_
      unfold wX_blockingRow_172
      exact br_f (by decide) (nm_r (nI_1 i) (ih (i + 1) n _ _ _ _ _ _ _ _ (by omega) (by omega) (rg_BI2 hI su)))
    · subst ex h4 h6 h8
      refine br_t (nI_pos' (by omega)) (xw_bl75 hS hT (by omega) (by omega) hd (fun hl => ?_) (fun hl => ?_))
      · exact ih (i + 1) n _ _ _ _ _ _ _ _ (by omega) (by omega) (rg_BI3 hb rfl h1 rfl rfl rfl h2 hl)
      · exact ih (i + 1) n _ _ _ _ _ _ _ _ (by omega) (by omega) (rg_BI4 h1 h2 su hl)
theorem xw_bl {post : Int32 → SX → Prop} {x2 : Int32} (hS : rg_S v m A V Q) (hT : rg_T v m A c nb bs xde xta xba xnb) (hR : rg_R m V Q xrv xrd) (hk : k < v) (hd : δ = 1 ∨ δ = -1) (ed : x2.toInt64 = zL δ)
    (K : ∀ x x4 x6 x8 xsp xsq xlp xlq, rg_BI A V Q nb bs k δ m x x4 x6 x8 → post x (nI v, xmf, xmb, xml, xfo, xbo, xol, xst, xpd, xps, xcc, xto, xho, xon, xod, nI m, xof, xos, xde, xcr, xsp, xsq, xlp, xlq, xpn, xpe, xco, xbf, xbk, xbv, xbl, xpp, xpq, xmu, xke, xcf, xrv, xrd, xro, xta, xba, xnb)) : wpX_blockingRow post (nI v, xmf, xmb, xml, xfo, xbo, xol, xst, xpd, xps, xcc, xto, xho, xon, xod, nI m, xof, xos, xde, xcr, xsp, xsq, xlp, xlq, xpn, xpe, xco, xbf, xbk, xbv, xbl, xpp, xpq, xmu, xke, xcf, xrv, xrd, xro, xta, xba, xnb) (nI k) x2 :=
  ⟨m + 1, xw_blL hS hT hR hk hd ed K m 0 (m + 1) _ _ _ _ _ _ _ _ (by omega) (by omega) (Or.inl ⟨rfl, fun r hr => absurd hr (by omega)⟩)⟩
/-- the answer of blockingRow over all rows -/
theorem rg_rt0 (hS : rg_S v m A V Q) (hT : rg_T v m A c nb bs xde xta xba xnb) (hk : k < v) (hu : re_iu (rf_G A) nb c k) {w : Nat} (h1 : 3 ≤ w) (h2 : w < 3 + m) (hw : 0 < re_rt (rf_G A) nb c k w) : ∃ r, r < m ∧ bs r = w := by
  rcases hT.2.2.2.2.1 w (Or.inr ⟨h1, h2⟩) with z | z
  · exfalso
    have hv := hS.2.1
    obtain ⟨l, hl, e⟩ := rc_inE z
    unfold re_rt at hw
    rw [← e] at hw
    by_cases kl : k = l
    · subst kl
      rw [rc_tvk] at hw
      have d := rc_denp hT.1
      unfold re_dl at hw
      by_cases q : 0 < rc_tv (rf_G A) nb c k
      · rcases hu with y | y
        · omega
        · have := y.2; omega
      · rw [if_neg q] at hw; omega
    · rw [rc_tvkl (by omega) hl kl, Int.zero_mul] at hw
      omega
  · exact z
/-- a ray -/
def rg_Y (m : Nat) (A : Nat → Nat → Int) (c : Nat → Int) (nb : Nat → Nat) (k : Nat) : Prop := k < 3 ∧ re_iu (rf_G A) nb c k ∧ ∀ w, 3 ≤ w → w < 3 + m → re_rt (rf_G A) nb c k w ≤ 0
theorem xw_mxL {post : Int32 → SX → Prop} (hS : rg_S v m A V Q) (hR : rg_R m V Q xrv xrd) (hcb : rb_bd c 20) (hc0 : ∀ k, v ≤ k → k < 3 → c k = 0)
    (K1 : ∀ nb bs xde xta xba xnb xsp xsq xlp xlq, rg_T v m A c nb bs xde xta xba xnb → rg_F m A V Q nb → (∀ l, l < 3 → ¬ re_iu (rf_G A) nb c l) → post 1 (nI v, xmf, xmb, xml, xfo, xbo, xol, xst, xpd, xps, xcc, xto, xho, xon, xod, nI m, xof, xos, xde, xcr, xsp, xsq, xlp, xlq, xpn, xpe, xco, xbf, xbk, xbv, xbl, xpp, xpq, xmu, xke, xcf, xrv, xrd, xro, xta, xba, xnb))
    (K0 : ∀ nb bs xde xta xba xnb xsp xsq xlp xlq k, rg_T v m A c nb bs xde xta xba xnb → rg_F m A V Q nb → rg_Y m A c nb k → post 0 (nI v, xmf, xmb, xml, xfo, xbo, xol, xst, xpd, xps, xcc, xto, xho, xon, xod, nI m, xof, xos, xde, xcr, xsp, xsq, xlp, xlq, xpn, xpe, xco, xbf, xbk, xbv, xbl, xpp, xpq, xmu, xke, xcf, xrv, xrd, xro, xta, xba, xnb)) :
    ∀ d st n nb bs xde xta xba xnb xsp xsq xlp xlq, st + d = 8000 → d < n → rd_Ch (re_P2 (rf_G A) (rf_L (rg_b V Q)) m c) (rf_G A) m st nb → rg_T v m A c nb bs xde xta xba xnb → rg_F m A V Q nb → wX_maximize_2 post n (nI st) (nI v) xmf xmb xml xfo xbo xol xst xpd xps xcc xto xho xon xod (nI m) xof xos xde xcr xsp xsq xlp xlq xpn xpe xco xbf xbk xbv xbl xpp xpq xmu xke xcf xrv xrd xro xta xba xnb := by
  have hv := hS.2.1
  have hm := hS.2.2.1
  intro d
  induction d with
  | zero =>
    intro st n nb bs xde xta xba xnb xsp xsq xlp xlq hi hn hC hT hF
    have := rd_ChB hm (fun s us ks i j => re_nr2 s us ks i j) hC hT.1 (rg_Nl hv hT.2.2.1)
    omega
  | succ d ih =>
    intro st n nb bs xde xta xba xnb xsp xsq xlp xlq hi hn hC hT hF
    obtain ⟨n, rfl⟩ : ∃ n', n = n' + 1 := ⟨n - 1, by omega⟩
    have hst := rd_ChB hm (fun s us ks i j => re_nr2 s us ks i j) hC hT.1 (rg_Nl hv hT.2.2.1)
    have hN := hT.2.2.1
    have hl := rg_Nl hv hN
    refine br_f (nI_ge (b := 10000) (by omega) (by decide)) (xw_ic hS hN hcb hc0 hT.2.2.2.2.2.2.2 (fun h => ?_) (fun k hk hs hle => ?_))
    · exact br_f (by decide) (K1 _ _ _ _ _ _ _ _ _ _ hT hF h)
    · have hx : vp_in (3 * nI m + nI k) 63 := xw_in (by omega) (by omega)
      have hc : (3 * nI m + nI k).toNatClampNeg = 3 * m + k := xw_cl (by omega)
      have hb := zA_B (rg_tvb (G := rf_G A) (nb := nb) (fun k hk => rg_Gb hS (hl k hk)) hcb k) (by omega)
      refine br_t (nI_pos' (by omega)) (And.intro hx ?_)
      rw [hc, hT.2.2.2.2.2.2.2 k hk, show (0 : Int64) = zL 0 from rfl, zL_le hb zB_0]
      have go : ∀ x2 : Int32, x2.toInt64 = zL (re_dl (rf_G A) nb c k) → wX_maximize_43 post (wX_maximize_2 post n) (nI st) (nI k) x2 (nI v) xmf xmb xml xfo xbo xol xst xpd xps xcc xto xho xon xod (nI m) xof xos xde xcr xsp xsq xlp xlq xpn xpe xco xbf xbk xbv xbl xpp xpq xmu xke xcf xrv xrd xro xta xba xnb := by
        intro x2 ed
        unfold wX_maximize_43
        refine xw_bl hS hT hR hk (re_dlc _ _ _ _) ed (fun x x4 x6 x8 xsp xsq xlp xlq hI => ?_)
        rcases hI with ⟨ex, hI⟩ | ⟨b, hb, ex, h1, h4, h6, h8, h2⟩
        · subst ex
          refine br_f (by decide) (K0 _ _ _ _ _ _ _ _ _ _ k hT hF ⟨by omega, hs, fun w w1 w2 => ?_⟩)
          by_cases z : re_rt (rf_G A) nb c k w ≤ 0
          · exact z
          · obtain ⟨r, hr, e⟩ := rg_rt0 hS hT hk hs w1 w2 (by omega)
            refine absurd ⟨by omega, ?_⟩ (hI r hr)
            rw [e]
            exact (show 0 < re_rt (rf_G A) nb c k w by omega)
        · subst ex
          have hp : rc_tv (rf_G A) nb (rf_G A (bs b)) k ≠ 0 := by
            intro z
            have := h1.2
            unfold rg_ra at this
            rw [z, Int.zero_mul] at this
            omega
          have ub := rg_okl hv (hT.2.2.2.1 b hb).2.1
          have P2 : re_P2 (rf_G A) (rf_L (rg_b V Q)) m c nb (bs b) k := by
            refine ⟨by omega, hF, hs, hle, h1.1, ub, h1.2, fun w w1 w2 w3 => ?_⟩
            obtain ⟨r, hr, e⟩ := rg_rt0 hS hT hk hs w1 w2 w3
            have := h2 r hr ⟨by omega, by rw [e]; exact w3⟩
            unfold rg_le rg_sw at this
            rw [e] at this
            exact this
          refine br_t (nI_pos' (by omega)) (xw_pivot hS hcb hT hb hk hp (fun xde xta xba xnb hT2 => ?_))
          exact nm_r (nI_1 st) (ih (st + 1) n _ _ _ _ _ _ _ _ _ _ (by omega) (by omega) (rd_ChS hC hT.1 hl P2) hT2 (re_fe hT.1 P2))
      refine br_c (fun h => go (-1) ?_) (fun h => go 1 ?_)
      · rw [show re_dl (rf_G A) nb c k = -1 from if_neg (by omega)]; rfl
      · rw [show re_dl (rf_G A) nb c k = 1 from if_pos (by omega)]; rfl
theorem xw_mx {post : Int32 → SX → Prop} (hS : rg_S v m A V Q) (hR : rg_R m V Q xrv xrd) (hcb : rb_bd c 20) (hc0 : ∀ k, v ≤ k → k < 3 → c k = 0) (hT : rg_T v m A c nb bs xde xta xba xnb) (hF : rg_F m A V Q nb)
    (K1 : ∀ nb bs xde xta xba xnb xsp xsq xlp xlq, rg_T v m A c nb bs xde xta xba xnb → rg_F m A V Q nb → (∀ l, l < 3 → ¬ re_iu (rf_G A) nb c l) → post 1 (nI v, xmf, xmb, xml, xfo, xbo, xol, xst, xpd, xps, xcc, xto, xho, xon, xod, nI m, xof, xos, xde, xcr, xsp, xsq, xlp, xlq, xpn, xpe, xco, xbf, xbk, xbv, xbl, xpp, xpq, xmu, xke, xcf, xrv, xrd, xro, xta, xba, xnb))
    (K0 : ∀ nb bs xde xta xba xnb xsp xsq xlp xlq k, rg_T v m A c nb bs xde xta xba xnb → rg_F m A V Q nb → rg_Y m A c nb k → post 0 (nI v, xmf, xmb, xml, xfo, xbo, xol, xst, xpd, xps, xcc, xto, xho, xon, xod, nI m, xof, xos, xde, xcr, xsp, xsq, xlp, xlq, xpn, xpe, xco, xbf, xbk, xbv, xbl, xpp, xpq, xmu, xke, xcf, xrv, xrd, xro, xta, xba, xnb)) : wpX_maximize post (nI v, xmf, xmb, xml, xfo, xbo, xol, xst, xpd, xps, xcc, xto, xho, xon, xod, nI m, xof, xos, xde, xcr, xsp, xsq, xlp, xlq, xpn, xpe, xco, xbf, xbk, xbv, xbl, xpp, xpq, xmu, xke, xcf, xrv, xrd, xro, xta, xba, xnb) :=
  ⟨8001, xw_mxL hS hR hcb hc0 K1 K0 8000 0 8001 _ _ _ _ _ _ _ _ _ _ (by omega) (by omega) rd_Ch0 hT hF⟩
end
end
section
/-! loading rows -/
def rh_s (k : Nat) : Int := if k ≤ 1 then 1 else -1
def rh_q (k : Nat) : Int := if k = 1 ∨ k = 3 then -1 else 0
def rh_a (C : Nat → Int32) (f k : Nat) : Nat → Int := fun i => if i < 3 then rh_s k * (C (3 * f + i)).toInt else 0
theorem rh_a3 {C : Nat → Int32} {f k i : Nat} (h : i < 3) : rh_a C f k i = rh_s k * (C (3 * f + i)).toInt := if_pos h
def rh_C (v nf : Nat) (C : Nat → Int32) : Prop := 1 ≤ v ∧ v ≤ 3 ∧ v ≤ nf ∧ nf ≤ 9 ∧ ∀ f, f < nf → ∀ i, i < 3 → zA (C (3 * f + i)).toInt 20 ∧ (v ≤ i → (C (3 * f + i)).toInt = 0)
def rg_p {α : Type} (f : Nat → α) (m : Nat) (x : α) : Nat → α := fun j => if j = m then x else f j
theorem rg_ps {α : Type} {f : Nat → α} {m : Nat} {x : α} : rg_p f m x m = x := if_pos rfl
theorem rg_pn {α : Type} {f : Nat → α} {m j : Nat} {x : α} (h : j ≠ m) : rg_p f m x j = f j := if_neg h
def rg_Ld (v m : Nat) (A : Nat → Nat → Int) (V Q : Nat → Int) (xcf xrv xrd : Nat → Int64) : Prop := rg_S v m A V Q ∧ rg_A v m A xcf ∧ rg_R m V Q xrv xrd
theorem rh_s1 (k : Nat) : rh_s k = 1 ∨ rh_s k = -1 := by
  unfold rh_s
  by_cases h : k ≤ 1
  · rw [if_pos h]; exact Or.inl rfl
  · rw [if_neg h]; exact Or.inr rfl
theorem rh_sb (k : Nat) {z c : Int} (h : zA z c) : zA (rh_s k * z) c := rg_sgb (rh_s1 k) h
theorem rh_qb (k : Nat) : zA (rh_q k) 1 := by
  unfold rh_q zA
  by_cases h : k = 1 ∨ k = 3
  · rw [if_pos h]; omega
  · rw [if_neg h]; omega
theorem rg_S1 {v m : Nat} {A : Nat → Nat → Int} {V Q : Nat → Int} {a : Nat → Int} {z q : Int} (hS : rg_S v m A V Q) (hm : m < 19) (ha : rb_bd a 20) (h0 : ∀ i, v ≤ i → i < 3 → a i = 0) (hz : zA z 1000) (hq : zA q 1) : rg_S v (m + 1) (rg_p A m a) (rg_p V m z) (rg_p Q m q) := by
  refine ⟨hS.1, hS.2.1, by omega, fun j hj => ?_⟩
  by_cases e : j = m
  · subst e
    rw [rg_ps, rg_ps, rg_ps]
    exact ⟨ha, h0, hz, hq⟩
  · rw [rg_pn e, rg_pn e, rg_pn e]
    exact hS.2.2.2 j (by omega)
section
variable {v m nf f κ : Nat} {A : Nat → Nat → Int} {V Q : Nat → Int} {z : Int} {ow : Int32}
variable {xmf xmb xml xfo xbo xol xst xps xcc xho xof xos xcr : Int32} {xpd xto xon xod xde xsp xsq xlp xlq xpn xpe : Int64} {xco xbf xbk xbv xbl xke xro xba xnb : Nat → Int32} {xpp xpq xmu xcf xrv xrd xta : Nat → Int64}
theorem xw_sign {post : Int32 → Prop} {u : SX} (hκ : κ < 4) (K : post (zI (rh_s κ))) : wpX_signOf post u (nI κ) := by
  have c : κ = 0 ∨ κ = 1 ∨ κ = 2 ∨ κ = 3 := by omega
  unfold wpX_signOf
  rcases c with rfl | rfl | rfl | rfl
  · exact br_t rfl K
  · exact br_f (by decide) (br_t rfl K)
  · exact br_f (by decide) (br_f (by decide) K)
  · exact br_f (by decide) (br_f (by decide) K)
theorem xw_strict {post : Int32 → Prop} {u : SX} (hκ : κ < 4) (K1 : rh_q κ = -1 → post 1) (K0 : rh_q κ = 0 → post 0) : wpX_isStrict post u (nI κ) := by
  have c : κ = 0 ∨ κ = 1 ∨ κ = 2 ∨ κ = 3 := by omega
  unfold wpX_isStrict
  rcases c with rfl | rfl | rfl | rfl
  · exact br_f (by decide) (br_f (by decide) (K0 rfl))
  · exact br_t rfl (K1 rfl)
  · exact br_f (by decide) (br_f (by decide) (K0 rfl))
  · exact br_f (by decide) (br_t rfl (K1 rfl))
theorem rh_ab (hC : rh_C v nf xco) (hf : f < nf) (k : Nat) : rb_bd (rh_a xco f k) 20 ∧ ∀ i, v ≤ i → i < 3 → rh_a xco f k i = 0 := by
  refine ⟨fun i hi => by rw [rh_a3 hi]; exact rh_sb k (hC.2.2.2.2 f hf i hi).1, fun i h1 h2 => ?_⟩
  rw [rh_a3 h2, (hC.2.2.2.2 f hf i h2).2 h1, Int.mul_zero]
theorem xw_ab20 {post : SX → Prop} (hL : rg_Ld v m A V Q xcf xrv xrd) (hm : m < 19) (hC : rh_C v nf xco) (hf : f < nf) (hκ : κ < 4) (hz : zA z 1000)
    (K : ∀ xcf xrv xrd, rg_Ld v (m + 1) (rg_p A m (rh_a xco f κ)) (rg_p V m (rh_s κ * z)) (rg_p Q m (rh_q κ)) xcf xrv xrd → post (nI v, xmf, xmb, xml, xfo, xbo, xol, xst, xpd, xps, xcc, xto, xho, xon, xod, nI (m + 1), xof, xos, xde, xcr, xsp, xsq, xlp, xlq, xpn, xpe, xco, xbf, xbk, xbv, xbl, xpp, xpq, xmu, xke, xcf, xrv, xrd, upd xro m ow, xta, xba, xnb)) :
    ∀ d i n xcf, i + d = v → d < n → rg_A v m A xcf → (∀ l, l < i → xcf (3 * m + l) = zL (rh_a xco f κ l)) → wX_addBoundRow_20 post (nI f) (nI κ) (zI z) ow (zI (rh_s κ)) (nI v) xmf xmb xml xfo xbo xol xst xpd xps xcc xto xho xon xod (nI m) xof xos xde xcr xsp xsq xlp xlq xpn xpe n (nI i) xco xbf xbk xbv xbl xpp xpq xmu xke xcf xrv xrd xro xta xba xnb := by
  have hS := hL.1
  have hv := hS.2.1
  have hnf := hC.2.2.2.1
  intro d
  induction d with
  | zero =>
    intro i n xcf hi hn h1 h2
    obtain ⟨n, rfl⟩ : ∃ n', n = n' + 1 := ⟨n - 1, by omega⟩
    have e : i = v := by omega
    subst e
    have hx : vp_in (nI m) 20 := vp_in_nI (by omega) (by omega)
    refine br_t (nI_le (by omega) (by omega)) (And.intro hx ?_)
    rw [nI_clamp (show m < 2 ^ 31 by omega), zI_mul, zI_L (zA_b (rh_sb κ hz) (by omega))]
    have L : rg_Ld i (m + 1) (rg_p A m (rh_a xco f κ)) (rg_p V m (rh_s κ * z)) (rg_p Q m (rh_q κ)) xcf (vp_updL xrv m (zL (rh_s κ * z))) (vp_updL xrd m (zL (rh_q κ))) := by
      refine ⟨rg_S1 hS hm (rh_ab hC hf κ).1 (rh_ab hC hf κ).2 (rh_sb κ hz) (rh_qb κ), fun j hj l hl => ?_, fun j hj => ?_⟩
      · by_cases e : j = m
        · subst e
          rw [rg_ps]; exact h2 l hl
        · rw [rg_pn e]; exact h1 j (by omega) l hl
      · by_cases e : j = m
        · subst e
          rw [rg_ps, rg_ps, pk_uLs, pk_uLs]; exact ⟨rfl, rfl⟩
        · rw [rg_pn e, rg_pn e, pk_uLn e, pk_uLn e]; exact hL.2.2 j (by omega)
    refine nm_e (xw_strict hκ (fun hq => ?_) (fun hq => ?_))
    · refine br_f (by decide) ?_
      unfold wX_addBoundRow_101
      refine And.intro hx ?_
      rw [nI_clamp (show m < 2 ^ 31 by omega), show (-1 : Int64) = zL (rh_q κ) by rw [hq]; rfl]
      exact nm_e (And.intro hx (nm_e (nm_r (nI_1 m) (K _ _ _ L))))
    · refine br_t rfl ?_
      unfold wX_addBoundRow_101
      refine And.intro hx ?_
      rw [nI_clamp (show m < 2 ^ 31 by omega), show (0 : Int64) = zL (rh_q κ) by rw [hq]; rfl]
      exact nm_e (And.intro hx (nm_e (nm_r (nI_1 m) (K _ _ _ L))))
  | succ d ih =>
    intro i n xcf hi hn h1 h2
    obtain ⟨n, rfl⟩ : ∃ n', n = n' + 1 := ⟨n - 1, by omega⟩
    have hx : vp_in (3 * nI f + nI i) 27 := xw_in (by omega) (by omega)
    have hc : (3 * nI f + nI i).toNatClampNeg = 3 * f + i := xw_cl (by omega)
    have hx2 : vp_in (3 * nI m + nI i) 60 := xw_in (by omega) (by omega)
    have hc2 : (3 * nI m + nI i).toNatClampNeg = 3 * m + i := xw_cl (by omega)
    have hb : zA (rh_s κ * (xco (3 * f + i)).toInt) 20 := by rw [← rh_a3 (show i < 3 by omega)]; exact (rh_ab hC hf κ).1 i (by omega)
    refine br_f (nI_ge (by omega) (by omega)) (And.intro hx (And.intro hx2 ?_))
    rw [hc, hc2, zI_of (xco (3 * f + i)), zI_mul, zI_L (zA_b hb (by omega))]
    refine nm_e (nm_r (nI_1 i) (ih (i + 1) n _ (by omega) (by omega) ?_ ?_))
    · intro j hj l hl
      rw [pk_uLn (by omega)]; exact h1 j hj l hl
    · intro l hl
      by_cases e : l = i
      · rw [e, pk_uLs, rh_a3 (by omega)]
      · rw [pk_uLn (by omega)]; exact h2 l (by omega)
theorem xw_ab {post : SX → Prop} (hL : rg_Ld v m A V Q xcf xrv xrd) (hm : m < 19) (hC : rh_C v nf xco) (hf : f < nf) (hκ : κ < 4) (hz : zA z 1000)
    (K : ∀ xcf xrv xrd, rg_Ld v (m + 1) (rg_p A m (rh_a xco f κ)) (rg_p V m (rh_s κ * z)) (rg_p Q m (rh_q κ)) xcf xrv xrd → post (nI v, xmf, xmb, xml, xfo, xbo, xol, xst, xpd, xps, xcc, xto, xho, xon, xod, nI (m + 1), xof, xos, xde, xcr, xsp, xsq, xlp, xlq, xpn, xpe, xco, xbf, xbk, xbv, xbl, xpp, xpq, xmu, xke, xcf, xrv, xrd, upd xro m ow, xta, xba, xnb)) : wpX_addBoundRow post (nI v, xmf, xmb, xml, xfo, xbo, xol, xst, xpd, xps, xcc, xto, xho, xon, xod, nI m, xof, xos, xde, xcr, xsp, xsq, xlp, xlq, xpn, xpe, xco, xbf, xbk, xbv, xbl, xpp, xpq, xmu, xke, xcf, xrv, xrd, xro, xta, xba, xnb) (nI f) (nI κ) (zI z) ow := by
  unfold wpX_addBoundRow
  refine br_t (nI_lt (b := 20) (by omega) (by decide)) (xw_sign hκ ⟨v + 1, xw_ab20 hL hm hC hf hκ hz K v 0 (v + 1) _ (by omega) (by omega) hL.2.1 (fun l hl => absurd hl (by omega))⟩)
theorem xw_rr12 {post : SX → Prop} {r : Nat} (hL : rg_Ld v m A V Q xcf xrv xrd) (hm : m < 19) (hr : r < m)
    (K : ∀ xcf xrv xrd, rg_Ld v (m + 1) (rg_p A m (fun i => -A r i)) (rg_p V m (-V r)) (rg_p Q m (-Q r)) xcf xrv xrd → post (nI v, xmf, xmb, xml, xfo, xbo, xol, xst, xpd, xps, xcc, xto, xho, xon, xod, nI (m + 1), xof, xos, xde, xcr, xsp, xsq, xlp, xlq, xpn, xpe, xco, xbf, xbk, xbv, xbl, xpp, xpq, xmu, xke, xcf, xrv, xrd, upd xro m (-1), xta, xba, xnb)) :
    ∀ d i n xcf, i + d = v → d < n → rg_A v m A xcf → (∀ l, l < i → xcf (3 * m + l) = zL (-A r l)) → wX_addReversedRow_12 post (nI r) (nI v) xmf xmb xml xfo xbo xol xst xpd xps xcc xto xho xon xod (nI m) xof xos xde xcr xsp xsq xlp xlq xpn xpe n (nI i) xco xbf xbk xbv xbl xpp xpq xmu xke xcf xrv xrd xro xta xba xnb := by
  have hS := hL.1
  have hv := hS.2.1
  intro d
  induction d with
  | zero =>
    intro i n xcf hi hn h1 h2
    obtain ⟨n, rfl⟩ : ∃ n', n = n' + 1 := ⟨n - 1, by omega⟩
    have e : i = v := by omega
    subst e
    have hx : vp_in (nI m) 20 := vp_in_nI (by omega) (by omega)
    have hxr : vp_in (nI r) 20 := vp_in_nI (by omega) (by omega)
    obtain ⟨b1, b2, b3, b4⟩ := hS.2.2.2 r hr
    obtain ⟨r1, r2⟩ := hL.2.2 r hr
    refine br_t (nI_le (by omega) (by omega)) (And.intro hxr (And.intro hx ?_))
    rw [nI_clamp (show m < 2 ^ 31 by omega), nI_clamp (show r < 2 ^ 31 by omega), r1, r2, zL_neg, zL_neg]
    have L : rg_Ld i (m + 1) (rg_p A m (fun i => -A r i)) (rg_p V m (-V r)) (rg_p Q m (-Q r)) xcf (vp_updL xrv m (zL (-V r))) (vp_updL xrd m (zL (-Q r))) := by
      refine ⟨rg_S1 hS hm (fun i hi => zA_neg (b1 i hi)) (fun i h1 h2 => by rw [b2 i h1 h2]; rfl) (zA_neg b3) (zA_neg b4), fun j hj l hl => ?_, fun j hj => ?_⟩
      · by_cases e : j = m
        · subst e
          rw [rg_ps]; exact h2 l hl
        · rw [rg_pn e]; exact h1 j (by omega) l hl
      · by_cases e : j = m
        · subst e
          rw [rg_ps, rg_ps, pk_uLs, pk_uLs]; exact ⟨rfl, rfl⟩
        · rw [rg_pn e, rg_pn e, pk_uLn e, pk_uLn e]; exact hL.2.2 j (by omega)
    exact nm_e (And.intro hxr (And.intro hx (nm_e (And.intro hx (nm_e (nm_r (nI_1 m) (K _ _ _ L)))))))
  | succ d ih =>
    intro i n xcf hi hn h1 h2
    obtain ⟨n, rfl⟩ : ∃ n', n = n' + 1 := ⟨n - 1, by omega⟩
    have hx : vp_in (3 * nI r + nI i) 60 := xw_in (by omega) (by omega)
    have hc : (3 * nI r + nI i).toNatClampNeg = 3 * r + i := xw_cl (by omega)
    have hx2 : vp_in (3 * nI m + nI i) 60 := xw_in (by omega) (by omega)
    have hc2 : (3 * nI m + nI i).toNatClampNeg = 3 * m + i := xw_cl (by omega)
    refine br_f (nI_ge (by omega) (by omega)) (And.intro hx (And.intro hx2 ?_))
    rw [hc, hc2, h1 r hr i (by omega), zL_neg]
    refine nm_e (nm_r (nI_1 i) (ih (i + 1) n _ (by omega) (by omega) ?_ ?_))
    · intro j hj l hl
      rw [pk_uLn (by omega)]; exact h1 j hj l hl
    · intro l hl
      by_cases e : l = i
      · rw [e, pk_uLs]
      · rw [pk_uLn (by omega)]; exact h2 l (by omega)
theorem xw_rr {post : SX → Prop} {r : Nat} (hL : rg_Ld v m A V Q xcf xrv xrd) (hm : m < 19) (hr : r < m)
    (K : ∀ xcf xrv xrd, rg_Ld v (m + 1) (rg_p A m (fun i => -A r i)) (rg_p V m (-V r)) (rg_p Q m (-Q r)) xcf xrv xrd → post (nI v, xmf, xmb, xml, xfo, xbo, xol, xst, xpd, xps, xcc, xto, xho, xon, xod, nI (m + 1), xof, xos, xde, xcr, xsp, xsq, xlp, xlq, xpn, xpe, xco, xbf, xbk, xbv, xbl, xpp, xpq, xmu, xke, xcf, xrv, xrd, upd xro m (-1), xta, xba, xnb)) : wpX_addReversedRow post (nI v, xmf, xmb, xml, xfo, xbo, xol, xst, xpd, xps, xcc, xto, xho, xon, xod, nI m, xof, xos, xde, xcr, xsp, xsq, xlp, xlq, xpn, xpe, xco, xbf, xbk, xbv, xbl, xpp, xpq, xmu, xke, xcf, xrv, xrd, xro, xta, xba, xnb) (nI r) := by
  unfold wpX_addReversedRow
  exact br_t (nI_lt (b := 20) (by omega) (by decide)) ⟨v + 1, xw_rr12 hL hm hr K v 0 (v + 1) _ (by omega) (by omega) hL.2.1 (fun l hl => absurd hl (by omega))⟩
end
/-! the bounds that are kept -/
def rh_n (p : Nat → Bool) : Nat → Nat
  | 0 => 0
  | n + 1 => rh_n p n + (if p n = true then 1 else 0)
theorem rh_nle (p : Nat → Bool) (n : Nat) : rh_n p n ≤ n := by
  induction n with
  | zero => exact Nat.le_refl 0
  | succ n ih =>
    show rh_n p n + (if p n = true then 1 else 0) ≤ n + 1
    by_cases h : p n = true
    · rw [if_pos h]; omega
    · rw [if_neg h]; omega
theorem rh_nS {p : Nat → Bool} {n : Nat} (h : p n = true) : rh_n p (n + 1) = rh_n p n + 1 := by
  show rh_n p n + (if p n = true then 1 else 0) = _
  rw [if_pos h]
theorem rh_nN {p : Nat → Bool} {n : Nat} (h : ¬ p n = true) : rh_n p (n + 1) = rh_n p n := by
  show rh_n p n + (if p n = true then 1 else 0) = _
  rw [if_neg h]; omega
theorem rh_nm (p : Nat → Bool) {i j : Nat} (h : i ≤ j) : rh_n p i ≤ rh_n p j := by
  induction j with
  | zero => rw [show i = 0 by omega]; exact Nat.le_refl _
  | succ j ih =>
    by_cases e : i = j + 1
    · rw [e]; exact Nat.le_refl _
    · have := ih (by omega)
      by_cases c : p j = true
      · rw [rh_nS c]; omega
      · rw [rh_nN c]; omega
theorem rh_nlt {p : Nat → Bool} {i j : Nat} (h : i < j) (hp : p i = true) : rh_n p i < rh_n p j := by
  have := rh_nm p (i := i + 1) (j := j) h
  rw [rh_nS hp] at this
  omega
theorem rh_nE (p : Nat → Bool) (n : Nat) : ∀ r, r < rh_n p n → ∃ j, j < n ∧ p j = true ∧ rh_n p j = r := by
  induction n with
  | zero => intro r hr; exact absurd hr (by show ¬ r < 0; omega)
  | succ n ih =>
    intro r hr
    by_cases c : p n = true
    · rw [rh_nS c] at hr
      by_cases e : r = rh_n p n
      · exact ⟨n, by omega, c, e.symm⟩
      · obtain ⟨j, h1, h2, h3⟩ := ih r (by omega)
        exact ⟨j, by omega, h2, h3⟩
    · rw [rh_nN c] at hr
      obtain ⟨j, h1, h2, h3⟩ := ih r hr
      exact ⟨j, by omega, h2, h3⟩
def rh_N (a : Nat → Int32) (j : Nat) : Nat := (a j).toNatClampNeg
def rh_B (nf n : Nat) (F K W : Nat → Int32) : Prop := n ≤ 10 ∧ ∀ j, j < n → F j = nI (rh_N F j) ∧ rh_N F j < nf ∧ K j = nI (rh_N K j) ∧ rh_N K j < 4 ∧ zA (W j).toInt 1000
def rh_bA (C F K : Nat → Int32) (j : Nat) : Nat → Int := rh_a C (rh_N F j) (rh_N K j)
def rh_bV (K W : Nat → Int32) (j : Nat) : Int := rh_s (rh_N K j) * (W j).toInt
def rh_bQ (K : Nat → Int32) (j : Nat) : Int := rh_q (rh_N K j)
/-- the rows are the bounds j < n with p j, in order -/
def rh_L (p : Nat → Bool) (n : Nat) (C F K W : Nat → Int32) (A : Nat → Nat → Int) (V Q : Nat → Int) : Prop := ∀ j, j < n → p j = true → A (rh_n p j) = rh_bA C F K j ∧ V (rh_n p j) = rh_bV K W j ∧ Q (rh_n p j) = rh_bQ K j
section
variable {v n nf : Nat} {p : Nat → Bool}
variable {xmf xmb xml xfo xol xst xps xcc xho xrc xof xos xcr : Int32} {xpd xto xon xod xde xsp xsq xlp xlq xpn xpe : Int64} {xco xbf xbk xbv xbl xke xro xba xnb : Nat → Int32} {xpp xpq xmu xcf xrv xrd xta : Nat → Int64}
theorem xw_lkL {post : SX → Prop} {x1 : Int32} (hC : rh_C v nf xco) (hB : rh_B nf n xbf xbk xbv) (hp : ∀ j, j < n → (p j = true ↔ (xke j ≠ 0 ∧ nI j ≠ x1)))
    (K : ∀ A V Q xcf xrv xrd xro, rg_Ld v (rh_n p n) A V Q xcf xrv xrd → rh_L p n xco xbf xbk xbv A V Q → (∀ j, j < n → p j = true → xro (rh_n p j) = nI j) → post (nI v, xmf, xmb, xml, xfo, nI n, xol, xst, xpd, xps, xcc, xto, xho, xon, xod, nI (rh_n p n), xof, xos, xde, xcr, xsp, xsq, xlp, xlq, xpn, xpe, xco, xbf, xbk, xbv, xbl, xpp, xpq, xmu, xke, xcf, xrv, xrd, xro, xta, xba, xnb)) :
    ∀ d i fu A V Q xcf xrv xrd xro, i + d = n → d < fu → rg_Ld v (rh_n p i) A V Q xcf xrv xrd → rh_L p i xco xbf xbk xbv A V Q → (∀ j, j < i → p j = true → xro (rh_n p j) = nI j) → wX_loadKept_7 post x1 fu (nI i) (nI v) xmf xmb xml xfo (nI n) xol xst xpd xps xcc xto xho xon xod (nI (rh_n p i)) xof xos xde xcr xsp xsq xlp xlq xpn xpe xco xbf xbk xbv xbl xpp xpq xmu xke xcf xrv xrd xro xta xba xnb := by
  have hn := hB.1
  intro d
  induction d with
  | zero =>
    intro i fu A V Q xcf xrv xrd xro hi hf hL hR hO
    obtain ⟨fu, rfl⟩ : ∃ n', fu = n' + 1 := ⟨fu - 1, by omega⟩
    have e : i = n := by omega
    subst e
    exact br_t (nI_le (by omega) (by omega)) (K _ _ _ _ _ _ _ hL hR hO)
  | succ d ih =>
    intro i fu A V Q xcf xrv xrd xro hi hf hL hR hO
    obtain ⟨fu, rfl⟩ : ∃ n', fu = n' + 1 := ⟨fu - 1, by omega⟩
    have hx : vp_in (nI i) 10 := vp_in_nI (by omega) (by omega)
    obtain ⟨f1, f2, k1, k2, w1⟩ := hB.2 i (by omega)
    have hq := hp i (by omega)
    have no : ¬ p i = true → wX_loadKept_7 post x1 fu (nI (i + 1)) (nI v) xmf xmb xml xfo (nI n) xol xst xpd xps xcc xto xho xon xod (nI (rh_n p i)) xof xos xde xcr xsp xsq xlp xlq xpn xpe xco xbf xbk xbv xbl xpp xpq xmu xke xcf xrv xrd xro xta xba xnb := by
      intro c
      have hh := ih (i + 1) fu A V Q xcf xrv xrd xro (by omega) (by omega)
      rw [rh_nN c] at hh
      refine hh hL ?_ ?_
      · intro j hj pj
        by_cases e : j = i
        · rw [e] at pj; exact absurd pj c
        · exact hR j (by omega) pj
      · intro j hj pj
        by_cases e : j = i
        · rw [e] at pj; exact absurd pj c
        · exact hO j (by omega) pj
    refine br_f (nI_ge (by omega) (by omega)) (And.intro hx ?_)
    rw [nI_clamp (show i < 2 ^ 31 by omega)]
    refine br_c (fun h => nm_r (nI_1 i) (no (fun z => (hq.mp z).1 h))) (fun h => br_c (fun h2 => nm_r (nI_1 i) (no (fun z => (hq.mp z).2 h2))) (fun h2 => And.intro hx (And.intro hx (And.intro hx ?_))))
    have c : p i = true := hq.mpr ⟨h, h2⟩
    have hle := rh_nle p i
    rw [f1, k1, zI_of (xbv i)]
    refine xw_ab hL (by omega) hC f2 k2 w1 (fun xcf xrv xrd hL2 => nm_r (nI_1 i) ?_)
    have hh := ih (i + 1) fu (rg_p A (rh_n p i) (rh_a xco (rh_N xbf i) (rh_N xbk i))) (rg_p V (rh_n p i) (rh_s (rh_N xbk i) * (xbv i).toInt)) (rg_p Q (rh_n p i) (rh_q (rh_N xbk i))) xcf xrv xrd (upd xro (rh_n p i) (nI i)) (by omega) (by omega)
    rw [rh_nS c] at hh
    refine hh hL2 ?_ ?_
    · intro j hj pj
      by_cases e : j = i
      · subst e
        rw [rg_ps, rg_ps, rg_ps]
        exact ⟨rfl, rfl, rfl⟩
      · have l := rh_nlt (p := p) (i := j) (j := i) (by omega) pj
        rw [rg_pn (by omega), rg_pn (by omega), rg_pn (by omega)]
        exact hR j (by omega) pj
    · intro j hj pj
      by_cases e : j = i
      · subst e
        rw [pk_us]
      · have l := rh_nlt (p := p) (i := j) (j := i) (by omega) pj
        rw [pk_un (by omega)]
        exact hO j (by omega) pj
theorem xw_lk {post : SX → Prop} {x1 : Int32} (hC : rh_C v nf xco) (hB : rh_B nf n xbf xbk xbv) (hp : ∀ j, j < n → (p j = true ↔ (xke j ≠ 0 ∧ nI j ≠ x1)))
    (K : ∀ A V Q xcf xrv xrd xro, rg_Ld v (rh_n p n) A V Q xcf xrv xrd → rh_L p n xco xbf xbk xbv A V Q → (∀ j, j < n → p j = true → xro (rh_n p j) = nI j) → post (nI v, xmf, xmb, xml, xfo, nI n, xol, xst, xpd, xps, xcc, xto, xho, xon, xod, nI (rh_n p n), xof, xos, xde, xcr, xsp, xsq, xlp, xlq, xpn, xpe, xco, xbf, xbk, xbv, xbl, xpp, xpq, xmu, xke, xcf, xrv, xrd, xro, xta, xba, xnb)) : wpX_loadKept post (nI v, xmf, xmb, xml, xfo, nI n, xol, xst, xpd, xps, xcc, xto, xho, xon, xod, xrc, xof, xos, xde, xcr, xsp, xsq, xlp, xlq, xpn, xpe, xco, xbf, xbk, xbv, xbl, xpp, xpq, xmu, xke, xcf, xrv, xrd, xro, xta, xba, xnb) x1 := by
  refine ⟨n + 1, xw_lkL hC hB hp K n 0 (n + 1) (fun _ _ => 0) (fun _ => 0) (fun _ => 0) _ _ _ _ (by omega) (by omega) ⟨⟨hC.1, hC.2.1, by show 0 ≤ 19; omega, fun j hj => absurd hj (by show ¬ j < 0; omega)⟩, fun j hj => absurd hj (by show ¬ j < 0; omega), fun j hj => absurd hj (by show ¬ j < 0; omega)⟩ (fun j hj => absurd hj (by omega)) (fun j hj => absurd hj (by omega))⟩
theorem xw_la2 {post : SX → Prop} {x1 : Int32} (hn : n ≤ 10) (K : ∀ xke, (∀ j, j < n → xke j = 1) → wpX_loadKept post (nI v, xmf, xmb, xml, xfo, nI n, xol, xst, xpd, xps, xcc, xto, xho, xon, xod, xrc, xof, xos, xde, xcr, xsp, xsq, xlp, xlq, xpn, xpe, xco, xbf, xbk, xbv, xbl, xpp, xpq, xmu, xke, xcf, xrv, xrd, xro, xta, xba, xnb) x1) :
    ∀ d i fu xke, i + d = n → d < fu → (∀ j, j < i → xke j = 1) → wX_loadAllBut_2 post x1 (nI v) xmf xmb xml xfo (nI n) xol xst xpd xps xcc xto xho xon xod xrc xof xos xde xcr xsp xsq xlp xlq xpn xpe fu (nI i) xco xbf xbk xbv xbl xpp xpq xmu xke xcf xrv xrd xro xta xba xnb := by
  intro d
  induction d with
  | zero =>
    intro i fu xke hi hf h
    obtain ⟨fu, rfl⟩ : ∃ n', fu = n' + 1 := ⟨fu - 1, by omega⟩
    have e : i = n := by omega
    subst e
    exact br_t (nI_le (by omega) (by omega)) (K _ h)
  | succ d ih =>
    intro i fu xke hi hf h
    obtain ⟨fu, rfl⟩ : ∃ n', fu = n' + 1 := ⟨fu - 1, by omega⟩
    refine br_f (nI_ge (by omega) (by omega)) (And.intro (vp_in_nI (by omega) (by omega)) ?_)
    rw [nI_clamp (show i < 2 ^ 31 by omega)]
    refine nm_e (nm_r (nI_1 i) (ih (i + 1) fu _ (by omega) (by omega) ?_))
    intro j hj
    by_cases e : j = i
    · rw [e, pk_us]; rfl
    · rw [pk_un e]; exact h j (by omega)
theorem xw_la {post : SX → Prop} {x1 : Int32} (hC : rh_C v nf xco) (hB : rh_B nf n xbf xbk xbv) (hp : ∀ j, j < n → (p j = true ↔ nI j ≠ x1))
    (K : ∀ A V Q xke xcf xrv xrd xro, (∀ j, j < n → xke j = 1) → rg_Ld v (rh_n p n) A V Q xcf xrv xrd → rh_L p n xco xbf xbk xbv A V Q → (∀ j, j < n → p j = true → xro (rh_n p j) = nI j) → post (nI v, xmf, xmb, xml, xfo, nI n, xol, xst, xpd, xps, xcc, xto, xho, xon, xod, nI (rh_n p n), xof, xos, xde, xcr, xsp, xsq, xlp, xlq, xpn, xpe, xco, xbf, xbk, xbv, xbl, xpp, xpq, xmu, xke, xcf, xrv, xrd, xro, xta, xba, xnb)) : wpX_loadAllBut post (nI v, xmf, xmb, xml, xfo, nI n, xol, xst, xpd, xps, xcc, xto, xho, xon, xod, xrc, xof, xos, xde, xcr, xsp, xsq, xlp, xlq, xpn, xpe, xco, xbf, xbk, xbv, xbl, xpp, xpq, xmu, xke, xcf, xrv, xrd, xro, xta, xba, xnb) x1 := by
  refine ⟨n + 1, xw_la2 hB.1 (fun xke hk => ?_) n 0 (n + 1) _ (by omega) (by omega) (fun j hj => absurd hj (by omega))⟩
  refine xw_lk (p := p) hC hB (fun j hj => ?_) (fun A V Q xcf xrv xrd xro => K A V Q xke xcf xrv xrd xro hk)
  rw [hp j hj, hk j hj]
  exact ⟨fun z => ⟨by decide, z⟩, fun z => z.2⟩
end
end
section
/-! the pure side of fixExtreme and locatePoint -/
def rh_pl (m : Nat) (A : Nat → Nat → Int) (b : Nat → Int) (m0 : Nat) (A0 : Nat → Nat → Int) (b0 : Nat → Int) : Prop :=
  ∀ j, j < m → ∃ u s, u < 3 + m0 ∧ (s = 1 ∨ s = -1) ∧ (∀ i, i < 3 → A j i = s * rf_G A0 u i) ∧ b j = s * rf_L b0 u
theorem rh_pl0 {m : Nat} {A : Nat → Nat → Int} {b : Nat → Int} : rh_pl m A b m A b := fun j hj => ⟨3 + j, 1, by omega, Or.inl rfl, fun i _ => by rw [rf_Gr, Int.one_mul], by rw [rf_Lr, Int.one_mul]⟩
theorem rh_plu {m : Nat} {A : Nat → Nat → Int} {b : Nat → Int} {m0 : Nat} {A0 : Nat → Nat → Int} {b0 : Nat → Int} (h : rh_pl m A b m0 A0 b0) {u : Nat} (hu : u < 3 + m) : ∃ u' s, u' < 3 + m0 ∧ (s = 1 ∨ s = -1) ∧ (∀ i, i < 3 → rf_G A u i = s * rf_G A0 u' i) ∧ rf_L b u = s * rf_L b0 u' := by
  by_cases c : u < 3
  · refine ⟨u, 1, by omega, Or.inl rfl, fun i _ => by rw [rf_Gv A c, rf_Gv A0 c, Int.one_mul], by rw [rf_Lv b c, rf_Lv b0 c, Int.one_mul]⟩
  · obtain ⟨j, hj, rfl⟩ := rf_row (by omega) hu
    rw [rf_Gr, rf_Lr]
    exact h j hj
theorem rh_dots {a a' x : Nat → Int} {s : Int} (h : ∀ i, i < 3 → a i = s * a' i) : rb_dot a x = s * rb_dot a' x := by
  unfold rb_dot
  rw [h 0 (by omega), h 1 (by omega), h 2 (by omega)]
  grind
theorem rh_Ds {B B' : Nat → Nat → Int} {s : Nat → Int} (h : ∀ k, k < 3 → ∀ i, i < 3 → B k i = s k * B' k i) : rb_D B = s 0 * s 1 * s 2 * rb_D B' := by
  unfold rb_D rb_det
  rw [h 0 (by omega) 0 (by omega), h 0 (by omega) 1 (by omega), h 0 (by omega) 2 (by omega), h 1 (by omega) 0 (by omega), h 1 (by omega) 1 (by omega), h 1 (by omega) 2 (by omega), h 2 (by omega) 0 (by omega), h 2 (by omega) 1 (by omega), h 2 (by omega) 2 (by omega)]
  grind
/-- a corner of the narrowed system is one of the first -/
theorem rh_corb {m m0 : Nat} {A A0 : Nat → Nat → Int} {b b0 : Nat → Int} {nb : Nat → Nat} {x : Nat → Int} {d : Int} (h : rh_pl m A b m0 A0 b0) (hc : rf_cor (rf_G A) (rf_L b) (3 + m) nb x d) : ∃ nb', rf_cor (rf_G A0) (rf_L b0) (3 + m0) nb' x d := by
  have ch : ∀ k, ∃ q : Nat × Int, k < 3 → q.1 < 3 + m0 ∧ (q.2 = 1 ∨ q.2 = -1) ∧ (∀ i, i < 3 → rf_G A (nb k) i = q.2 * rf_G A0 q.1 i) ∧ rf_L b (nb k) = q.2 * rf_L b0 q.1 := by
    intro k
    by_cases hk : k < 3
    · obtain ⟨u, s, h1, h2, h3, h4⟩ := rh_plu h (hc.2.1 k hk)
      exact ⟨(u, s), fun _ => ⟨h1, h2, h3, h4⟩⟩
    · exact ⟨(0, 0), fun z => absurd z hk⟩
  obtain ⟨q, hq⟩ := Classical.axiomOfChoice ch
  refine ⟨fun k => (q k).1, ?_, fun k hk => (hq k hk).1, hc.2.2.1, fun k hk => ?_⟩
  · intro z
    apply hc.1
    have e := rh_Ds (B := rc_B (rf_G A) nb) (B' := rc_B (rf_G A0) (fun k => (q k).1)) (s := fun k => (q k).2) (fun k hk i hi => (hq k hk).2.2.1 i hi)
    rw [e, z, Int.mul_zero]
  · have e := hc.2.2.2 k hk
    obtain ⟨_, s1, h3, h4⟩ := hq k hk
    rw [rh_dots h3, h4] at e
    dsimp only
    rcases s1 with s1 | s1 <;> rw [s1] at e
    · rw [Int.one_mul, Int.one_mul] at e; exact e
    · have : d * (-1 * rf_L b0 (q k).1) = -(d * rf_L b0 (q k).1) := by grind
      omega
theorem rf_inP {m : Nat} {A : Nat → Nat → Int} {b : Nat → Int} {a : Nat → Int} {z : Int} {x : Nat → Int} {d : Int} : rf_in (m + 1) (rg_p A m a) (rg_p b m z) x d ↔ (rf_in m A b x d ∧ rb_dot a x ≤ d * z) := by
  constructor
  · rintro ⟨h1, h2⟩
    refine ⟨⟨h1, fun j hj => ?_⟩, ?_⟩
    · have := h2 j (by omega)
      rwa [rg_pn (by omega), rg_pn (by omega)] at this
    · have := h2 m (by omega)
      rwa [rg_ps, rg_ps] at this
  · rintro ⟨⟨h1, h2⟩, h3⟩
    refine ⟨h1, fun j hj => ?_⟩
    by_cases e : j = m
    · rw [e, rg_ps, rg_ps]; exact h3
    · rw [rg_pn e, rg_pn e]; exact h2 j (by omega)
theorem rg_bP (V Q : Nat → Int) (m : Nat) (z q : Int) : rg_b (rg_p V m z) (rg_p Q m q) = rg_p (rg_b V Q) m (z * zM + q) := by
  funext j
  unfold rg_b
  by_cases e : j = m
  · rw [e, rg_ps, rg_ps, rg_ps]
  · rw [rg_pn e, rg_pn e, rg_pn e]
theorem rh_plP {m m0 : Nat} {A A0 : Nat → Nat → Int} {b b0 : Nat → Int} {a : Nat → Int} {z : Int} (h : rh_pl m A b m0 A0 b0) (hn : ∃ u s, u < 3 + m0 ∧ (s = 1 ∨ s = -1) ∧ (∀ i, i < 3 → a i = s * rf_G A0 u i) ∧ z = s * rf_L b0 u) : rh_pl (m + 1) (rg_p A m a) (rg_p b m z) m0 A0 b0 := by
  intro j hj
  by_cases e : j = m
  · rw [e, rg_ps, rg_ps]; exact hn
  · rw [rg_pn e, rg_pn e]; exact h j (by omega)
/-- the extreme face -/
theorem rh_face {m : Nat} {A : Nat → Nat → Int} {b : Nat → Int} {nb : Nat → Nat} {i : Nat} {σ : Int} {c : Nat → Int} (hi : i < 3) (hσ : σ = 1 ∨ σ = -1) (hc : ∀ x, rb_dot c x = σ * x i) (g : rc_gd (rf_G A) nb) (hb : ∀ k, k < 3 → nb k < 3 + m) (hn : ∀ l, l < 3 → ¬ re_iu (rf_G A) nb c l) (hneg : rc_vl (rf_G A) (rf_L b) nb c < 0)
    {S' : (Nat → Int) → Int → Prop} (hS' : ∀ x d, S' x d ↔ (rf_in m A b x d ∧ ∀ l, l < 3 → 3 ≤ nb l → rc_tv (rf_G A) nb c l ≠ 0 → rb_dot (rf_G A (nb l)) x = d * rf_L b (nb l))) : rf_nst (rf_in m A b) S' i := by
  refine ⟨σ * rc_vl (rf_G A) (rf_L b) nb c, rc_den (rf_G A) nb, rc_denp g, fun x d hx => ?_, fun x d hx => ?_⟩
  · obtain ⟨o1, o2⟩ := rf_opt hb hn hx
    have hd := hx.1
    have dp := rc_denp g
    rw [hc] at o1 o2
    have neg : d * rc_vl (rf_G A) (rf_L b) nb c < 0 := Int.mul_neg_of_pos_of_neg hd hneg
    have sx : σ * x i < 0 := by
      by_cases z : σ * x i < 0
      · exact z
      · have := Int.mul_nonneg (show 0 ≤ rc_den (rf_G A) nb by omega) (show 0 ≤ σ * x i by omega)
        omega
    have a1 : rf_ab (x i) = -(σ * x i) := by
      rcases hσ with rfl | rfl
      · rw [Int.one_mul] at sx ⊢; exact rf_abn (by omega)
      · rw [rf_abp (by omega)]; omega
    have a2 : rf_ab (σ * rc_vl (rf_G A) (rf_L b) nb c) = -rc_vl (rf_G A) (rf_L b) nb c := by
      rcases hσ with rfl | rfl
      · rw [Int.one_mul]; exact rf_abn (by omega)
      · rw [rf_abp (by omega)]; omega
    rw [a1, a2]
    have e1 : -rc_vl (rf_G A) (rf_L b) nb c * d = -(d * rc_vl (rf_G A) (rf_L b) nb c) := by grind
    have e2 : -(σ * x i) * rc_den (rf_G A) nb = -(rc_den (rf_G A) nb * (σ * x i)) := by grind
    rw [e1, e2]
    refine ⟨by omega, fun e => ?_⟩
    rw [hS']
    exact ⟨hx, fun l hl _ ht => o2 (by omega) l hl ht⟩
  · rw [hS'] at hx
    obtain ⟨hx, he⟩ := hx
    refine ⟨hx, ?_⟩
    have e := rc_ex (G := rf_G A) (nb := nb) c x
    have v := rc_vl3 (G := rf_G A) (L := rf_L b) (nb := nb) c
    have key : ∀ l, l < 3 → rc_tv (rf_G A) nb c l * rb_dot (rf_G A (nb l)) x = rc_tv (rf_G A) nb c l * (d * rf_L b (nb l)) := by
      intro l hl
      by_cases z : rc_tv (rf_G A) nb c l = 0
      · rw [z, Int.zero_mul, Int.zero_mul]
      · by_cases q : 3 ≤ nb l
        · rw [he l hl q z]
        · exfalso
          apply hn l hl
          by_cases w : rc_tv (rf_G A) nb c l < 0
          · exact Or.inl w
          · exact Or.inr ⟨by omega, by omega⟩
    rw [key 0 (by omega), key 1 (by omega), key 2 (by omega), hc] at e
    have e2 : rc_den (rf_G A) nb * (σ * x i) = d * rc_vl (rf_G A) (rf_L b) nb c := by
      rw [e, v]; grind
    rcases hσ with rfl | rfl
    · rw [Int.one_mul] at e2 ⊢
      rw [Int.mul_comm, e2, Int.mul_comm]
    · have : x i * rc_den (rf_G A) nb = -(rc_den (rf_G A) nb * (-1 * x i)) := by grind
      rw [this, e2]; grind
theorem rh_mid {m : Nat} {A : Nat → Nat → Int} {b : Nat → Int} {i : Nat} {x y : Nat → Int} {d e : Int} (hx : rf_in m A b x d) (hy : rf_in m A b y e) (h1 : x i ≤ 0) (h2 : 0 ≤ y i) : ∃ z f, rf_in m A b z f ∧ z i = 0 := by
  by_cases c : y i = 0
  · exact ⟨y, e, hy, c⟩
  · have hd := hx.1
    have he := hy.1
    refine ⟨fun l => y i * x l + (-x i) * y l, y i * d + (-x i) * e, ⟨?_, fun j hj => ?_⟩, by dsimp only; grind⟩
    · have a := Int.mul_pos (show 0 < y i by omega) hd
      have b := Int.mul_nonneg (show 0 ≤ -x i by omega) (show 0 ≤ e by omega)
      omega
    · have a := Int.mul_le_mul_of_nonneg_left (hx.2 j hj) h2
      have b := Int.mul_le_mul_of_nonneg_left (hy.2 j hj) (show 0 ≤ -x i by omega)
      have e1 : rb_dot (A j) (fun l => y i * x l + (-x i) * y l) = y i * rb_dot (A j) x + (-x i) * rb_dot (A j) y := by
        unfold rb_dot; grind
      rw [e1]
      grind
theorem rf_nstC {S S' : (Nat → Int) → Int → Prop} {i : Nat} (hS : ∀ x d, S x d → 0 < d) (h : ∀ x d, S' x d ↔ (S x d ∧ x i = 0)) : rf_nst S S' i := by
  have e : S' = fun x d => S x d ∧ x i = 0 := by
    funext x d
    exact propext (h x d)
  rw [e]
  exact rf_nst0 hS
end
section
/-! fixExtreme -/
def rh_U (v : Nat) (C : Nat → Int32) : Prop := ∀ i, i < v → ∀ l, l < 3 → (C (3 * i + l)).toInt = rb_e i l
section
variable {v m m0 : Nat} {A A0 : Nat → Nat → Int} {V Q : Nat → Int} {b0 : Nat → Int} {c : Nat → Int} {nb bs : Nat → Nat}
variable {xmf xmb xml xfo xbo xol xst xps xcc xho xof xos xcr : Int32} {xpd xto xon xod xde xsp xsq xlp xlq xpn xpe : Int64} {xco xbf xbk xbv xbl xke xro xba xnb : Nat → Int32} {xpp xpq xmu xcf xrv xrd xta : Nat → Int64}
theorem xw_fe72 {post : Int32 → SX → Prop} (hS : rg_S v m A V Q) (hm : m ≤ 16) (hcb : rb_bd c 20) (hT : rg_T v m A c nb bs xde xta xba xnb)
    (K : ∀ m' A' V' Q' xcf xrv xrd xro, m' ≤ m + v → rg_Ld v m' A' V' Q' xcf xrv xrd → rh_pl m' A' (rg_b V' Q') m0 A0 b0 → (∀ x d, rf_in m' A' (rg_b V' Q') x d ↔ (rf_in m A (rg_b V Q) x d ∧ ∀ l, l < v → 3 ≤ nb l → rc_tv (rf_G A) nb c l ≠ 0 → rb_dot (rf_G A (nb l)) x = d * rf_L (rg_b V Q) (nb l))) → post 1 (nI v, xmf, xmb, xml, xfo, xbo, xol, xst, xpd, xps, xcc, xto, xho, xon, xod, nI m', xof, xos, xde, xcr, xsp, xsq, xlp, xlq, xpn, xpe, xco, xbf, xbk, xbv, xbl, xpp, xpq, xmu, xke, xcf, xrv, xrd, xro, xta, xba, xnb)) :
    ∀ d k n m' A' V' Q' xcf xrv xrd xro, k + d = v → d < n → m ≤ m' → m' ≤ m + k → rg_Ld v m' A' V' Q' xcf xrv xrd → rh_pl m' A' (rg_b V' Q') m0 A0 b0 → (∀ j, j < m → A' j = A j ∧ V' j = V j ∧ Q' j = Q j) → (∀ x d, rf_in m' A' (rg_b V' Q') x d ↔ (rf_in m A (rg_b V Q) x d ∧ ∀ l, l < k → 3 ≤ nb l → rc_tv (rf_G A) nb c l ≠ 0 → rb_dot (rf_G A (nb l)) x = d * rf_L (rg_b V Q) (nb l))) → wX_fixExtreme_72 post (nI (3 * m)) n (nI k) (nI v) xmf xmb xml xfo xbo xol xst xpd xps xcc xto xho xon xod (nI m') xof xos xde xcr xsp xsq xlp xlq xpn xpe xco xbf xbk xbv xbl xpp xpq xmu xke xcf xrv xrd xro xta xba xnb := by
  have hv := hS.2.1
  have hl := rg_Nl hv hT.2.2.1
  intro d
  induction d with
  | zero =>
    intro k n m' A' V' Q' xcf xrv xrd xro hi hn h1 h2 h3 h4 h5 h6
    obtain ⟨n, rfl⟩ : ∃ n', n = n' + 1 := ⟨n - 1, by omega⟩
    have e : k = v := by omega
    subst e
    exact br_t (nI_le (by omega) (by omega)) (K _ _ _ _ _ _ _ _ h2 h3 h4 h6)
  | succ d ih =>
    intro k n m' A' V' Q' xcf xrv xrd xro hi hn h1 h2 h3 h4 h5 h6
    obtain ⟨n, rfl⟩ : ∃ n', n = n' + 1 := ⟨n - 1, by omega⟩
    obtain ⟨ek, ok⟩ := hT.2.2.1.1 k (by omega)
    have hb := zA_B (rg_tvb (G := rf_G A) (nb := nb) (fun k hk => rg_Gb hS (hl k hk)) hcb k) (by omega)
    have keep : (3 ≤ nb k → rc_tv (rf_G A) nb c k ≠ 0 → False) → wX_fixExtreme_72 post (nI (3 * m)) n (nI (k + 1)) (nI v) xmf xmb xml xfo xbo xol xst xpd xps xcc xto xho xon xod (nI m') xof xos xde xcr xsp xsq xlp xlq xpn xpe xco xbf xbk xbv xbl xpp xpq xmu xke xcf xrv xrd xro xta xba xnb := by
      intro no
      refine ih (k + 1) n m' A' V' Q' xcf xrv xrd xro (by omega) (by omega) h1 (by omega) h3 h4 h5 (fun x d => ?_)
      rw [h6]
      constructor
      · rintro ⟨a, q⟩
        refine ⟨a, fun l hl2 z1 z2 => ?_⟩
        by_cases e : l = k
        · rw [e] at z1 z2; exact absurd z2 (fun z => no z1 z)
        · exact q l (by omega) z1 z2
      · rintro ⟨a, q⟩
        exact ⟨a, fun l hl2 => q l (by omega)⟩
    refine br_f (nI_ge (by omega) (by omega)) (And.intro (vp_in_nI (by omega) (by omega)) ?_)
    rw [nI_clamp (show k < 2 ^ 31 by omega), ek, rg_clt ok hv (by omega)]
    refine br_c (fun h => nm_r (nI_1 k) (keep (fun z _ => by omega))) (fun h => ?_)
    have hu := rg_okl hv ok
    rw [nI_add]
    refine And.intro (vp_in_nI (by omega) (by omega)) ?_
    rw [nI_clamp (show 3 * m + k < 2 ^ 31 by omega), hT.2.2.2.2.2.2.2 k (by omega), show (0 : Int64) = zL 0 from rfl, zL_eq hb zB_0]
    refine br_c (fun h7 => nm_r (nI_1 k) (keep (fun _ z => z h7))) (fun h7 => And.intro (vp_in_nI (by omega) (by omega)) ?_)
    rw [rg_rw (m := m) (by omega) hu (by omega) hv]
    refine xw_rr h3 (by omega) (show nb k - 3 < m' by omega) (fun xcf xrv xrd hL => nm_r (nI_1 k) ?_)
    have eA := h5 (nb k - 3) (by omega)
    have eb : rg_b V' Q' (nb k - 3) = rg_b V Q (nb k - 3) := by unfold rg_b; rw [eA.2.1, eA.2.2]
    have eL : rf_L (rg_b V Q) (nb k) = rg_b V Q (nb k - 3) := if_neg (by omega)
    have eG : rf_G A (nb k) = A (nb k - 3) := if_neg (by omega)
    have ez : -V' (nb k - 3) * zM + -Q' (nb k - 3) = -rg_b V Q (nb k - 3) := by
      rw [← eb]; unfold rg_b; grind
    refine ih (k + 1) n (m' + 1) _ _ _ xcf xrv xrd _ (by omega) (by omega) (by omega) (by omega) hL ?_ ?_ ?_
    · rw [rg_bP]
      refine rh_plP h4 ?_
      obtain ⟨u, s, q1, q2, q3, q4⟩ := h4 (nb k - 3) (by omega)
      refine ⟨u, -s, q1, by omega, fun i hi => ?_, ?_⟩
      · rw [q3 i hi]; grind
      · rw [ez, ← eb, q4]; grind
    · intro j hj
      rw [rg_pn (by omega), rg_pn (by omega), rg_pn (by omega)]
      exact h5 j hj
    · intro x d
      rw [rg_bP, rf_inP, h6, ez]
      have ed : rb_dot (fun i => -A' (nb k - 3) i) x = -rb_dot (A (nb k - 3)) x := by
        rw [eA.1]; unfold rb_dot; grind
      rw [ed]
      constructor
      · rintro ⟨⟨a, q⟩, w⟩
        refine ⟨a, fun l hl2 z1 z2 => ?_⟩
        by_cases e : l = k
        · subst e
          rw [eG, eL]
          have := a.2 (nb l - 3) (by omega)
          have e2 : d * -rg_b V Q (nb l - 3) = -(d * rg_b V Q (nb l - 3)) := by grind
          omega
        · exact q l (by omega) z1 z2
      · rintro ⟨a, q⟩
        refine ⟨⟨a, fun l hl2 => q l (by omega)⟩, ?_⟩
        have := q k (by omega) (by omega) h7
        rw [eG, eL] at this
        rw [this]
        have e2 : d * -rg_b V Q (nb k - 3) = -(d * rg_b V Q (nb k - 3)) := by grind
        omega
theorem rh_Oe {i : Nat} {σ : Int} (hv1 : v ≤ 3) (hi : i < v) (hσ : σ = 1 ∨ σ = -1) (hU : rh_U v xco) : rg_O v (fun l => σ * rb_e i l) i (zI σ) xco := by
  have hb : rb_bd (fun l => σ * rb_e i l) 20 := fun l hl => rg_sgb hσ (rg_eb i l hl)
  refine ⟨by omega, hb, fun k h1 h2 => ?_, fun k hk => ?_⟩
  · show σ * rb_e i k = 0
    unfold rb_e
    rw [if_neg (by omega), Int.mul_zero]
  · rw [zI_of (xco (3 * i + k)), hU i hi k (by omega), zI_mul]
    exact zI_L (zA_b (hb k (by omega)) (by omega))
theorem rh_ce {i : Nat} {σ : Int} (hi : i < 3) (x : Nat → Int) : rb_dot (fun l => σ * rb_e i l) x = σ * x i := by
  rw [rh_dots (a := fun l => σ * rb_e i l) (a' := rb_e i) (s := σ) (fun l _ => rfl), rb_dote hi]
theorem xw_fe {post : Int32 → SX → Prop} {i : Nat} {σ : Int} (hi : i < v) (hσ : σ = 1 ∨ σ = -1) (hU : rh_U v xco) (hL : rg_Ld v m A V Q xcf xrv xrd) (hm : m ≤ 16) (hpl : rh_pl m A (rg_b V Q) m0 A0 b0) (hf : ∃ x d, rf_in m A (rg_b V Q) x d)
    (K1 : ∀ m' A' V' Q' xde xcr xsp xsq xlp xlq xcf xrv xrd xro xta xba xnb, m' ≤ m + v → rg_Ld v m' A' V' Q' xcf xrv xrd → rh_pl m' A' (rg_b V' Q') m0 A0 b0 → rf_nst (rf_in m A (rg_b V Q)) (rf_in m' A' (rg_b V' Q')) i → (∃ x d, rf_in m' A' (rg_b V' Q') x d) → post 1 (nI v, xmf, xmb, xml, xfo, xbo, xol, xst, xpd, xps, xcc, xto, xho, xon, xod, nI m', nI i, zI σ, xde, xcr, xsp, xsq, xlp, xlq, xpn, xpe, xco, xbf, xbk, xbv, xbl, xpp, xpq, xmu, xke, xcf, xrv, xrd, xro, xta, xba, xnb))
    (K0 : ∀ xde xcr xsp xsq xlp xlq xta xba xnb, (∃ x d, rf_in m A (rg_b V Q) x d ∧ 0 ≤ σ * x i) → post 0 (nI v, xmf, xmb, xml, xfo, xbo, xol, xst, xpd, xps, xcc, xto, xho, xon, xod, nI m, nI i, zI σ, xde, xcr, xsp, xsq, xlp, xlq, xpn, xpe, xco, xbf, xbk, xbv, xbl, xpp, xpq, xmu, xke, xcf, xrv, xrd, xro, xta, xba, xnb)) : wpX_fixExtreme post (nI v, xmf, xmb, xml, xfo, xbo, xol, xst, xpd, xps, xcc, xto, xho, xon, xod, nI m, xof, xos, xde, xcr, xsp, xsq, xlp, xlq, xpn, xpe, xco, xbf, xbk, xbv, xbl, xpp, xpq, xmu, xke, xcf, xrv, xrd, xro, xta, xba, xnb) (nI i) (zI σ) := by
  obtain ⟨hS, hA, hR⟩ := hL
  have hv := hS.2.1
  have hO : rg_O v (fun l => σ * rb_e i l) i (zI σ) xco := rh_Oe hv hi hσ hU
  have hce := rh_ce (i := i) (σ := σ) (by omega)
  unfold wpX_fixExtreme
  refine xw_ff hS hA hR hO (fun nb bs xde xta xba xnb xsp xsq xlp xlq hT hF => ?_) (fun nb bs xde xta xba xnb xsp xsq xlp xlq r hT hX => ?_)
  · refine br_f (by decide) ?_
    refine xw_mx hS hR hO.2.1 hO.2.2.1 hT hF (fun nb bs xde xta xba xnb xsp xsq xlp xlq hT hF hn => ?_) (fun nb bs xde xta xba xnb xsp xsq xlp xlq k hT hF hY => ?_)
    · have hl := rg_Nl hv hT.2.2.1
      have hG := fun k hk => rg_Gb hS (hl k hk)
      refine br_f (by decide) ?_
      unfold wX_fixExtreme_29
      refine br_f (by decide) (xw_sumRow hv (by omega) (by omega) hT.2.2.1 hR hT.2.2.2.2.2.2.2 ?_)
      have b1 := rg_vlb (L := rf_L V) (c := 1000) hG hO.2.1 (fun k hk => (rg_LV hS (hl k hk)).1)
      have b2 := rg_vlb (L := rf_L Q) (c := 1) hG hO.2.1 (fun k hk => (rg_LV hS (hl k hk)).2)
      refine xw_neg (zA_B b1 (by omega)) (zA_w b2 (by omega)) (fun h => br_f (by decide) ?_) (fun h => br_t rfl (K0 _ _ _ _ _ _ _ _ _ ⟨_, _, rf_feas hT.1 hF, ?_⟩))
      · rw [← rg_vl] at h
        refine nm_r (e' := nI (3 * m)) (by rw [show (3 : Int32) = nI 3 from rfl, pk_mul]) ⟨v + 1, xw_fe72 (A0 := A0) (b0 := b0) (m0 := m0) hS hm hO.2.1 hT (fun m' A' V' Q' xcf xrv xrd xro q1 q2 q3 q4 => K1 m' A' V' Q' _ _ _ _ _ _ _ _ _ _ _ _ _ q1 q2 q3 (rh_face (by omega) hσ hce hT.1 hl hn h (fun x d => ?_)) ⟨rc_pt (rf_G A) (rf_L (rg_b V Q)) nb, rc_den (rf_G A) nb, (q4 _ _).mpr ⟨rf_feas hT.1 hF, fun l hl2 _ _ => ?_⟩⟩) v 0 (v + 1) m A V Q _ _ _ _ (by omega) (by omega) (by omega) (by omega) ⟨hS, hA, hR⟩ hpl (fun j _ => ⟨rfl, rfl, rfl⟩) (fun x d => ?_)⟩
        · rw [q4]
          constructor
          · rintro ⟨a, q⟩
            refine ⟨a, fun l hl2 z1 => ?_⟩
            by_cases e : l < v
            · exact q l e z1
            · have := hT.2.2.1.2 l (by omega) hl2
              omega
          · rintro ⟨a, q⟩
            exact ⟨a, fun l hl2 => q l (by omega)⟩
        · rw [← rc_vld, rc_vls (by omega)]
        · constructor
          · exact fun a => ⟨a, fun l hl2 => absurd hl2 (by omega)⟩
          · exact fun a => a.1
      · rw [← rg_vl, rc_vld, hce] at h
        omega
    · refine br_t rfl ?_
      unfold wX_fixExtreme_28 wX_fixExtreme_29
      refine br_t rfl (K0 _ _ _ _ _ _ _ _ _ ?_)
      have hp := rf_feas hT.1 hF
      obtain ⟨k3, hu, hw⟩ := hY
      have dp := re_dlp hu
      refine ⟨fun l => rc_pt (rf_G A) (rf_L (rg_b V Q)) nb l + rf_ab (rc_vl (rf_G A) (rf_L (rg_b V Q)) nb (fun l => σ * rb_e i l)) * rf_ray (rf_G A) nb k (re_dl (rf_G A) nb (fun l => σ * rb_e i l) k) l, rc_den (rf_G A) nb, ⟨hp.1, fun j hj => ?_⟩, ?_⟩
      · have e1 : rb_dot (A j) (fun l => rc_pt (rf_G A) (rf_L (rg_b V Q)) nb l + rf_ab (rc_vl (rf_G A) (rf_L (rg_b V Q)) nb (fun l => σ * rb_e i l)) * rf_ray (rf_G A) nb k (re_dl (rf_G A) nb (fun l => σ * rb_e i l) k) l) = rb_dot (A j) (rc_pt (rf_G A) (rf_L (rg_b V Q)) nb) + rf_ab (rc_vl (rf_G A) (rf_L (rg_b V Q)) nb (fun l => σ * rb_e i l)) * rb_dot (A j) (rf_ray (rf_G A) nb k (re_dl (rf_G A) nb (fun l => σ * rb_e i l) k)) := by
          generalize rf_ab (rc_vl (rf_G A) (rf_L (rg_b V Q)) nb (fun l => σ * rb_e i l)) = T
          unfold rb_dot; grind
        rw [e1, rf_rayd k3]
        have a1 := hp.2 j hj
        have a2 := hw (3 + j) (by omega) (by omega)
        unfold re_rt at a2
        rw [rf_Gr] at a2
        have a3 := Int.mul_nonpos_of_nonneg_of_nonpos (rf_ab0 (rc_vl (rf_G A) (rf_L (rg_b V Q)) nb (fun l => σ * rb_e i l))) a2
        omega
      · refine Eq.subst (motive := fun z => 0 ≤ z) (hce (fun l => rc_pt (rf_G A) (rf_L (rg_b V Q)) nb l + rf_ab (rc_vl (rf_G A) (rf_L (rg_b V Q)) nb (fun l => σ * rb_e i l)) * rf_ray (rf_G A) nb k (re_dl (rf_G A) nb (fun l => σ * rb_e i l) k) l)) ?_
        have e1 : rb_dot (fun l => σ * rb_e i l) (fun l => rc_pt (rf_G A) (rf_L (rg_b V Q)) nb l + rf_ab (rc_vl (rf_G A) (rf_L (rg_b V Q)) nb (fun l => σ * rb_e i l)) * rf_ray (rf_G A) nb k (re_dl (rf_G A) nb (fun l => σ * rb_e i l) k) l) = rb_dot (fun l => σ * rb_e i l) (rc_pt (rf_G A) (rf_L (rg_b V Q)) nb) + rf_ab (rc_vl (rf_G A) (rf_L (rg_b V Q)) nb (fun l => σ * rb_e i l)) * rb_dot (fun l => σ * rb_e i l) (rf_ray (rf_G A) nb k (re_dl (rf_G A) nb (fun l => σ * rb_e i l) k)) := by
          generalize rf_ab (rc_vl (rf_G A) (rf_L (rg_b V Q)) nb (fun l => σ * rb_e i l)) = T
          generalize (fun l => σ * rb_e i l) = cc
          unfold rb_dot; grind
        rw [e1, rf_rayd k3, ← rc_vld]
        generalize rc_vl (rf_G A) (rf_L (rg_b V Q)) nb (fun l => σ * rb_e i l) = W at *
        generalize rc_tv (rf_G A) nb (fun l => σ * rb_e i l) k * re_dl (rf_G A) nb (fun l => σ * rb_e i l) k = R at *
        have a0 := rf_ab0 W
        have a1 := Int.mul_le_mul_of_nonneg_left (show 1 ≤ R by omega) a0
        have a2 : -W ≤ rf_ab W := by
          by_cases z : W < 0
          · rw [rf_abn (by omega)]; omega
          · omega
        omega
  · exfalso
    obtain ⟨x, d, hx⟩ := hf
    exact rf_conf hT.1 (rg_Nl hv hT.2.2.1) hX.2.1 (rg_okl hv (hT.2.2.2.1 r hX.1).2.1) hX.2.2.1 hX.2.2.2 hx
end
end
section
/-! locatePoint -/
theorem rh_Oc {v nf of : Nat} {σ : Int} {xco : Nat → Int32} (hC : rh_C v nf xco) (hof : of < nf) (hσ : zA σ 1) : rg_O v (fun l => σ * (xco (3 * of + l)).toInt) of (zI σ) xco := by
  have hb : rb_bd (fun l => σ * (xco (3 * of + l)).toInt) 20 := fun l hl => zA_w (zA_mul hσ (hC.2.2.2.2 of hof l hl).1) (by omega)
  have h9 := hC.2.2.2.1
  have h3 := hC.2.1
  refine ⟨by omega, hb, fun k h1 h2 => ?_, fun k hk => ?_⟩
  · show σ * (xco (3 * of + k)).toInt = 0
    rw [(hC.2.2.2.2 of hof k h2).2 h1, Int.mul_zero]
  · rw [zI_of (xco (3 * of + k)), zI_mul]
    exact zI_L (zA_b (hb k (by omega)) (by omega))
def rh_x (PV PQ : Nat → Int) : Nat → Int := fun i => PV i * zM + PQ i
/-- the point that is stored -/
def rh_P (m0 : Nat) (A0 : Nat → Nat → Int) (b0 : Nat → Int) (xpd : Int64) (xpp xpq : Nat → Int64) : Prop :=
  ∃ (PV PQ : Nat → Int) (D : Int), xpd = zL D ∧ (∀ i, i < 3 → xpp i = zL (PV i) ∧ xpq i = zL (PQ i) ∧ zA (PV i) 144000000 ∧ zA (PQ i) 144000) ∧ 0 < D ∧ D ≤ 48000 ∧
  (∃ nb, rf_cor (rf_G A0) (rf_L b0) (3 + m0) nb (rh_x PV PQ) D) ∧ rf_in m0 A0 b0 (rh_x PV PQ) D ∧ ∀ y e, rf_in m0 A0 b0 y e → ¬ rf_bt (rh_x PV PQ) D y e → ∀ i, i < 3 → rh_x PV PQ i * e = y i * D
theorem rh_ptx (G : Nat → Nat → Int) (V Q : Nat → Int) (nb : Nat → Nat) : rc_pt G (rf_L (rg_b V Q)) nb = rh_x (fun i => rc_vl G (rf_L V) nb (rb_e i)) (fun i => rc_vl G (rf_L Q) nb (rb_e i)) := by
  funext i
  exact rg_vl G V Q nb (rb_e i)
section
variable {v m : Nat} {A : Nat → Nat → Int} {V Q : Nat → Int} {c : Nat → Int} {nb bs : Nat → Nat}
variable {xmf xmb xml xfo xbo xol xst xps xcc xho xof xos xcr : Int32} {xpd xto xon xod xde xsp xsq xlp xlq xpn xpe : Int64} {xco xbf xbk xbv xbl xke xro xba xnb : Nat → Int32} {xpp xpq xmu xcf xrv xrd xta : Nat → Int64}
theorem xw_lp96 {post : SX → Prop} (hS : rg_S v m A V Q) (hR : rg_R m V Q xrv xrd) (hT : rg_T v m A c nb bs xde xta xba xnb)
    (K : ∀ xsp xsq xpp xpq, (∀ i, i < 3 → xpp i = zL (rc_vl (rf_G A) (rf_L V) nb (rb_e i)) ∧ xpq i = zL (rc_vl (rf_G A) (rf_L Q) nb (rb_e i))) → post (nI v, xmf, xmb, xml, xfo, xbo, xol, xst, xpd, xps, xcc, xto, xho, xon, xod, nI m, xof, xos, xde, xcr, xsp, xsq, xlp, xlq, xpn, xpe, xco, xbf, xbk, xbv, xbl, xpp, xpq, xmu, xke, xcf, xrv, xrd, xro, xta, xba, xnb)) :
    ∀ d r n xsp xsq xpp xpq, r + d = m → d < n → (∀ i, i < 3 → (∃ r', r' < r ∧ bs r' = i) → xpp i = zL (rc_vl (rf_G A) (rf_L V) nb (rb_e i)) ∧ xpq i = zL (rc_vl (rf_G A) (rf_L Q) nb (rb_e i))) → (∀ i, i < 3 → ¬ (∃ r', r' < r ∧ bs r' = i) → xpp i = 0 ∧ xpq i = 0) → wX_locatePoint_96 post n (nI r) (nI v) xmf xmb xml xfo xbo xol xst xpd xps xcc xto xho xon xod (nI m) xof xos xde xcr xsp xsq xlp xlq xpn xpe xco xbf xbk xbv xbl xpp xpq xmu xke xcf xrv xrd xro xta xba xnb := by
  have hv := hS.2.1
  have hm := hS.2.2.1
  intro d
  induction d with
  | zero =>
    intro r n xsp xsq xpp xpq hi hn h1 h2
    obtain ⟨n, rfl⟩ : ∃ n', n = n' + 1 := ⟨n - 1, by omega⟩
    have e : r = m := by omega
    subst e
    refine br_t (nI_le (by omega) (by omega)) (K _ _ _ _ (fun i hi3 => ?_))
    by_cases z : ∃ r', r' < r ∧ bs r' = i
    · exact h1 i hi3 z
    · obtain ⟨e1, e2⟩ := h2 i hi3 z
      have hin : rc_in nb i := by
        by_cases w : i < v
        · rcases hT.2.2.2.2.1 i (Or.inl w) with q | q
          · exact q
          · exact absurd q z
        · have := rc_inI (nb := nb) hi3
          rwa [hT.2.2.1.2 i (by omega) hi3] at this
      obtain ⟨l, hl, el⟩ := rc_inE hin
      have ev : ∀ W : Nat → Int, rc_vl (rf_G A) (rf_L W) nb (rb_e i) = 0 := by
        intro W
        rw [← rf_Gv A hi3, ← el, rc_vls hl, el, rf_Lv W hi3, Int.mul_zero]
      rw [ev, ev, e1, e2]
      exact ⟨rfl, rfl⟩
  | succ d ih =>
    intro r n xsp xsq xpp xpq hi hn h1 h2
    obtain ⟨n, rfl⟩ : ∃ n', n = n' + 1 := ⟨n - 1, by omega⟩
    obtain ⟨er, okr, nin⟩ := hT.2.2.2.1 r (by omega)
    refine br_f (nI_ge (by omega) (by omega)) (And.intro (vp_in_nI (by omega) (by omega)) ?_)
    rw [nI_clamp (show r < 2 ^ 31 by omega), er]
    refine nm_e ?_
    rw [rg_cge okr hv hm]
    refine br_c (fun h => nm_r (nI_1 r) (ih (r + 1) n _ _ _ _ (by omega) (by omega) (fun i hi3 z => ?_) (fun i hi3 z => ?_))) (fun h => ?_)
    · obtain ⟨r', z1, z2⟩ := z
      refine h1 i hi3 ⟨r', ?_, z2⟩
      by_cases e : r' = r
      · rw [e] at z2; omega
      · omega
    · exact h2 i hi3 (fun ⟨r', z1, z2⟩ => z ⟨r', by omega, z2⟩)
    · have hb3 : bs r < 3 := by omega
      refine xw_sumRow hv hm (by omega) hT.2.2.1 hR (hT.2.2.2.2.2.2.1 r (by omega)) ?_
      have hx : vp_in (nI (rg_c v (bs r))) 3 := by rw [rg_cv hb3]; exact vp_in_nI hb3 (by omega)
      have hc : (nI (rg_c v (bs r))).toNatClampNeg = bs r := by rw [rg_cv hb3]; exact nI_clamp (by omega)
      refine And.intro hx (nm_e (And.intro hx (nm_e ?_)))
      rw [hc]
      refine nm_r (nI_1 r) (ih (r + 1) n _ _ _ _ (by omega) (by omega) (fun i hi3 z => ?_) (fun i hi3 z => ?_))
      · by_cases e : i = bs r
        · subst e
          rw [pk_uLs, pk_uLs, rf_Gv A hb3]
          exact ⟨rfl, rfl⟩
        · rw [pk_uLn e, pk_uLn e]
          obtain ⟨r', z1, z2⟩ := z
          refine h1 i hi3 ⟨r', ?_, z2⟩
          by_cases e2 : r' = r
          · rw [e2] at z2; exact absurd z2.symm e
          · omega
      · have e : i ≠ bs r := fun w => z ⟨r, by omega, w.symm⟩
        rw [pk_uLn e, pk_uLn e]
        exact h2 i hi3 (fun ⟨r', z1, z2⟩ => z ⟨r', by omega, z2⟩)
theorem xw_lp61 {post : SX → Prop} (hS : rg_S v m A V Q) (hR : rg_R m V Q xrv xrd) (hT : rg_T v m A c nb bs xde xta xba xnb)
    (K : ∀ xsp xsq xpp xpq, (∀ i, i < 3 → xpp i = zL (rc_vl (rf_G A) (rf_L V) nb (rb_e i)) ∧ xpq i = zL (rc_vl (rf_G A) (rf_L Q) nb (rb_e i))) → post (nI v, xmf, xmb, xml, xfo, xbo, xol, xst, xde, xps, xcc, xto, xho, xon, xod, nI m, xof, xos, xde, xcr, xsp, xsq, xlp, xlq, xpn, xpe, xco, xbf, xbk, xbv, xbl, xpp, xpq, xmu, xke, xcf, xrv, xrd, xro, xta, xba, xnb)) :
    ∀ d i n xpp xpq, i + d = 3 → d < n → (∀ l, l < i → xpp l = 0 ∧ xpq l = 0) → wX_locatePoint_61 post (nI v) xmf xmb xml xfo xbo xol xst xpd xps xcc xto xho xon xod (nI m) xof xos xde xcr xsp xsq xlp xlq xpn xpe n (nI i) xco xbf xbk xbv xbl xpp xpq xmu xke xcf xrv xrd xro xta xba xnb := by
  have hm := hS.2.2.1
  intro d
  induction d with
  | zero =>
    intro i n xpp xpq hi hn h
    obtain ⟨n, rfl⟩ : ∃ n', n = n' + 1 := ⟨n - 1, by omega⟩
    have e : i = 3 := by omega
    subst e
    exact br_t (by decide) ⟨m + 1, xw_lp96 hS hR hT K m 0 (m + 1) _ _ _ _ (by omega) (by omega) (fun i _ z => by obtain ⟨r', z1, _⟩ := z; omega) (fun i hi3 _ => h i hi3)⟩
  | succ d ih =>
    intro i n xpp xpq hi hn h
    obtain ⟨n, rfl⟩ : ∃ n', n = n' + 1 := ⟨n - 1, by omega⟩
    have hx : vp_in (nI i) 3 := vp_in_nI (by omega) (by omega)
    refine br_f (nI_ge (b := 3) (by omega) (by decide)) (And.intro hx ?_)
    rw [nI_clamp (show i < 2 ^ 31 by omega)]
    refine nm_e (And.intro hx (nm_e (nm_r (nI_1 i) (ih (i + 1) n _ _ (by omega) (by omega) (fun l hl => ?_)))))
    by_cases e : l = i
    · rw [e, pk_uLs, pk_uLs]; exact ⟨rfl, rfl⟩
    · rw [pk_uLn e, pk_uLn e]; exact h l (by omega)
end
section
variable {v nf m0 : Nat} {A0 : Nat → Nat → Int} {b0 : Nat → Int}
variable {xmf xmb xml xfo xbo xol xst xps xcc xho xcr : Int32} {xpd xto xon xod xde xsp xsq xlp xlq xpn xpe : Int64} {xco xbf xbk xbv xbl xke xro xba xnb : Nat → Int32} {xpp xpq xmu xcf xrv xrd xta : Nat → Int64}
theorem xw_lp2 {post : SX → Prop} (hC : rh_C v nf xco) (hU : rh_U v xco)
    (K : ∀ m of σ xde xcr xsp xsq xlp xlq xpd xpp xpq xcf xrv xrd xro xta xba xnb, of < nf → zA σ 1 → rh_P m0 A0 b0 xpd xpp xpq → post (nI v, xmf, xmb, xml, xfo, xbo, xol, xst, xpd, xps, xcc, xto, xho, xon, xod, nI m, nI of, zI σ, xde, xcr, xsp, xsq, xlp, xlq, xpn, xpe, xco, xbf, xbk, xbv, xbl, xpp, xpq, xmu, xke, xcf, xrv, xrd, xro, xta, xba, xnb)) :
    ∀ d i n m A V Q of σ (Ss : Nat → (Nat → Int) → Int → Prop) xde xcr xsp xsq xlp xlq xcf xrv xrd xro xta xba xnb, i + d = v → d < n → of < nf → zA σ 1 → m ≤ 10 + 3 * i → rg_Ld v m A V Q xcf xrv xrd → rh_pl m A (rg_b V Q) m0 A0 b0 → (∃ x d, rf_in m A (rg_b V Q) x d) → Ss 0 = rf_in m0 A0 b0 → Ss i = rf_in m A (rg_b V Q) → (∀ l, l < i → rf_nst (Ss l) (Ss (l + 1)) l) → wX_locatePoint_2 post n (nI i) (nI v) xmf xmb xml xfo xbo xol xst xpd xps xcc xto xho xon xod (nI m) (nI of) (zI σ) xde xcr xsp xsq xlp xlq xpn xpe xco xbf xbk xbv xbl xpp xpq xmu xke xcf xrv xrd xro xta xba xnb := by
  have hv := hC.2.1
  intro d
  induction d with
  | zero =>
    intro i n m A V Q of σ Ss xde xcr xsp xsq xlp xlq xcf xrv xrd xro xta xba xnb hi hn hof hσ hm hL hpl hf e0 ei hc
    obtain ⟨n, rfl⟩ : ∃ n', n = n' + 1 := ⟨n - 1, by omega⟩
    have e : i = v := by omega
    subst e
    refine br_t (nI_le (by omega) (by omega)) (xw_ff hL.1 hL.2.1 hL.2.2 (rh_Oc hC hof hσ) (fun nb bs xde xta xba xnb xsp xsq xlp xlq hT hF => ?_) (fun nb bs xde xta xba xnb xsp xsq xlp xlq r hT hX => ?_))
    · refine ⟨4, xw_lp61 hL.1 hL.2.2 hT (fun xsp xsq xpp xpq hp => K _ _ _ _ _ _ _ _ _ _ _ _ _ _ _ _ _ _ _ hof hσ ?_) 3 0 4 _ _ (by omega) (by omega) (fun l hl => absurd hl (by omega))⟩
      have hl := rg_Nl hv hT.2.2.1
      have hG := fun k hk => rg_Gb hL.1 (hl k hk)
      have hin := rf_feas (b := rg_b V Q) hT.1 hF
      have hcor := rf_corX (G := rf_G A) (L := rf_L (rg_b V Q)) hT.1 hl
      have hdb := (rg_deb hG).2
      rw [rh_ptx] at hin hcor
      obtain ⟨nb', hcor'⟩ := rh_corb hpl hcor
      refine ⟨fun i => rc_vl (rf_G A) (rf_L V) nb (rb_e i), fun i => rc_vl (rf_G A) (rf_L Q) nb (rb_e i), rc_den (rf_G A) nb, hT.2.1, fun i hi3 => ⟨(hp i hi3).1, (hp i hi3).2, rg_vlb (c := 1000) hG (rg_eb i) (fun k hk => (rg_LV hL.1 (hl k hk)).1), rg_vlb (c := 1) hG (rg_eb i) (fun k hk => (rg_LV hL.1 (hl k hk)).2)⟩, rc_denp hT.1, hdb, ⟨nb', hcor'⟩, ?_, ?_⟩
      · have : ∀ l, l ≤ i → ∀ x d, Ss l x d → Ss 0 x d := by
          intro l
          induction l with
          | zero => exact fun _ _ _ h => h
          | succ l ihl =>
            intro hl x d h
            obtain ⟨V', E', _, _, q⟩ := hc l (by omega)
            exact ihl (by omega) x d (q x d h).1
        have := this i (Nat.le_refl _) _ _ (by rw [ei]; exact hin)
        rwa [e0] at this
      · have pz : ∀ l, i ≤ l → l < 3 → rh_x (fun i => rc_vl (rf_G A) (rf_L V) nb (rb_e i)) (fun i => rc_vl (rf_G A) (rf_L Q) nb (rb_e i)) l = 0 := by
          intro l l1 l2
          rw [← rh_ptx]
          show rc_vl (rf_G A) (rf_L (rg_b V Q)) nb (rb_e l) = 0
          have el := hT.2.2.1.2 l l1 l2
          have := rc_vls (G := rf_G A) (L := rf_L (rg_b V Q)) (nb := nb) l2
          rw [el, rf_Gv A l2, rf_Lv _ l2, Int.mul_zero] at this
          exact this
        have ps : ∀ l x d, Ss l x d → l ≤ i → 0 < d := by
          intro l
          induction l with
          | zero => intro x d h _; rw [e0] at h; exact h.1
          | succ l ihl =>
            intro x d h hl
            obtain ⟨V', E', _, _, q⟩ := hc l (by omega)
            exact ihl x d (q x d h).1 (by omega)
        have h1 := hC.1
        intro y e hy hbt
        have hdp := rc_denp hT.1
        rw [← e0] at hy
        rw [← ei] at hin
        have he := ps 0 y e hy (by omega)
        have c3 : i = 1 ∨ i = 2 ∨ i = 3 := by omega
        rcases c3 with rfl | rfl | rfl
        · exact rf_canon (S0 := Ss 0) (S1 := Ss 1) (S2 := fun x d => Ss 1 x d ∧ x 1 = 0) (S3 := fun x d => (Ss 1 x d ∧ x 1 = 0) ∧ x 2 = 0) (hc 0 (by omega)) (rf_nst0 (fun x d h => ps 1 x d h (by omega))) (rf_nst0 (fun x d h => ps 1 x d h.1 (by omega))) hdp he ⟨⟨hin, pz 1 (by omega) (by omega)⟩, pz 2 (by omega) (by omega)⟩ hy hbt
        · exact rf_canon (S0 := Ss 0) (S1 := Ss 1) (S2 := Ss 2) (S3 := fun x d => Ss 2 x d ∧ x 2 = 0) (hc 0 (by omega)) (hc 1 (by omega)) (rf_nst0 (fun x d h => ps 2 x d h (by omega))) hdp he ⟨hin, pz 2 (by omega) (by omega)⟩ hy hbt
        · exact rf_canon (S0 := Ss 0) (S1 := Ss 1) (S2 := Ss 2) (S3 := Ss 3) (hc 0 (by omega)) (hc 1 (by omega)) (hc 2 (by omega)) hdp he hin hy hbt
    · exfalso
      obtain ⟨x, d, hx⟩ := hf
      exact rf_conf hT.1 (rg_Nl hv hT.2.2.1) hX.2.1 (rg_okl hv (hT.2.2.2.1 r hX.1).2.1) hX.2.2.1 hX.2.2.2 hx
  | succ d ih =>
    intro i n m A V Q of σ Ss xde xcr xsp xsq xlp xlq xcf xrv xrd xro xta xba xnb hi hn hof hσ hm hL hpl hf e0 ei hc
    obtain ⟨n, rfl⟩ : ∃ n', n = n' + 1 := ⟨n - 1, by omega⟩
    have hiv : i < v := by omega
    have hvn := hC.2.2.1
    have next : ∀ m' A' V' Q' (σ' : Int) xde xcr xsp xsq xlp xlq xcf xrv xrd xro xta xba xnb, zA σ' 1 → m' ≤ m + 3 → rg_Ld v m' A' V' Q' xcf xrv xrd → rh_pl m' A' (rg_b V' Q') m0 A0 b0 → rf_nst (rf_in m A (rg_b V Q)) (rf_in m' A' (rg_b V' Q')) i → (∃ x d, rf_in m' A' (rg_b V' Q') x d) → wX_locatePoint_2 post n (nI (i + 1)) (nI v) xmf xmb xml xfo xbo xol xst xpd xps xcc xto xho xon xod (nI m') (nI i) (zI σ') xde xcr xsp xsq xlp xlq xpn xpe xco xbf xbk xbv xbl xpp xpq xmu xke xcf xrv xrd xro xta xba xnb := by
      intro m' A' V' Q' σ' xde xcr xsp xsq xlp xlq xcf xrv xrd xro xta xba xnb hσ' q1 q2 q3 q4 q5
      refine ih (i + 1) n m' A' V' Q' i σ' (rg_p Ss (i + 1) (rf_in m' A' (rg_b V' Q'))) xde xcr xsp xsq xlp xlq xcf xrv xrd xro xta xba xnb (by omega) (by omega) (by omega) hσ' (by omega) q2 q3 q5 ?_ ?_ ?_
      · rw [rg_pn (by omega), e0]
      · rw [rg_ps]
      · intro l hl
        by_cases e : l = i
        · rw [e, rg_ps, rg_pn (by omega), ei]; exact q4
        · rw [rg_pn (by omega), rg_pn (by omega)]; exact hc l (by omega)
    refine br_f (nI_ge (by omega) (by omega)) (xw_fe (σ := -1) (A0 := A0) (b0 := b0) (m0 := m0) hiv (Or.inr rfl) hU hL (by omega) hpl hf (fun m' A' V' Q' xde xcr xsp xsq xlp xlq xcf xrv xrd xro xta xba xnb q1 q2 q3 q4 q5 => ?_) (fun xde xcr xsp xsq xlp xlq xta xba xnb hneg => ?_))
    · refine br_f (by decide) ?_
      unfold wX_locatePoint_28
      exact br_f (by decide) (nm_r (nI_1 i) (next _ _ _ _ (-1) _ _ _ _ _ _ _ _ _ _ _ _ _ (by unfold zA; omega) (by omega) q2 q3 q4 q5))
    · refine br_t rfl (xw_fe (σ := 1) (A0 := A0) (b0 := b0) (m0 := m0) hiv (Or.inl rfl) hU hL (by omega) hpl hf (fun m' A' V' Q' xde xcr xsp xsq xlp xlq xcf xrv xrd xro xta xba xnb q1 q2 q3 q4 q5 => ?_) (fun xde xcr xsp xsq xlp xlq xta xba xnb hpos => ?_))
      · unfold wX_locatePoint_28
        exact br_f (by decide) (nm_r (nI_1 i) (next _ _ _ _ 1 _ _ _ _ _ _ _ _ _ _ _ _ _ (by unfold zA; omega) (by omega) q2 q3 q4 q5))
      · unfold wX_locatePoint_28
        obtain ⟨x, d', hx, hx0⟩ := hneg
        obtain ⟨y, e', hy, hy0⟩ := hpos
        obtain ⟨z, f, hz, hz0⟩ := rh_mid (i := i) hx hy (by omega) (by omega)
        have ex : ∀ k l, l < 3 → rh_a xco i k l = rh_s k * rb_e i l := by
          intro k l hl
          rw [rh_a3 hl, hU i hiv l hl]
        refine br_t rfl (xw_ab (κ := 0) (z := 0) hL (by omega) hC (by omega) (by omega) (zA_0 (by omega)) (fun xcf xrv xrd hL1 => ?_))
        refine xw_ab (κ := 2) (z := 0) hL1 (by omega) hC (by omega) (by omega) (zA_0 (by omega)) (fun xcf xrv xrd hL2 => ?_)
        have iff : ∀ x d, rf_in (m + 1 + 1) (rg_p (rg_p A m (rh_a xco i 0)) (m + 1) (rh_a xco i 2)) (rg_b (rg_p (rg_p V m (rh_s 0 * 0)) (m + 1) (rh_s 2 * 0)) (rg_p (rg_p Q m (rh_q 0)) (m + 1) (rh_q 2))) x d ↔ (rf_in m A (rg_b V Q) x d ∧ x i = 0) := by
          intro x d
          rw [rg_bP, rf_inP, rg_bP, rf_inP, rh_dots (a' := rb_e i) (ex 0), rh_dots (a' := rb_e i) (ex 2), rb_dote (by omega)]
          rw [show rh_s 0 = 1 from rfl, show rh_s 2 = -1 from rfl, show rh_q 0 = 0 from rfl, show rh_q 2 = 0 from rfl]
          rw [show (1 * 0 * zM + 0 : Int) = 0 from rfl, show (-1 * 0 * zM + 0 : Int) = 0 from rfl, Int.mul_zero]
          constructor
          · rintro ⟨⟨a, q⟩, w⟩; exact ⟨a, by omega⟩
          · rintro ⟨a, q⟩; exact ⟨⟨a, by omega⟩, by omega⟩
        refine nm_r (nI_1 i) (next _ _ _ _ 1 _ _ _ _ _ _ _ _ _ _ _ _ _ (by unfold zA; omega) (by omega) hL2 ?_ (rf_nstC (fun x d h => h.1) iff) ⟨z, f, (iff z f).mpr ⟨hz, hz0⟩⟩)
        · rw [rg_bP, rg_bP]
          refine rh_plP (rh_plP hpl ⟨i, 1, by omega, Or.inl rfl, fun l hl => ?_, ?_⟩) ⟨i, -1, by omega, Or.inr rfl, fun l hl => ?_, ?_⟩
          · rw [ex 0 l hl, rf_Gv A0 (by omega)]; rfl
          · rw [rf_Lv b0 (by omega)]; rfl
          · rw [ex 2 l hl, rf_Gv A0 (by omega)]; rfl
          · rw [rf_Lv b0 (by omega)]; rfl
theorem xw_lp {post : SX → Prop} {m of : Nat} {A : Nat → Nat → Int} {V Q : Nat → Int} {σ : Int} (hC : rh_C v nf xco) (hU : rh_U v xco) (hL : rg_Ld v m A V Q xcf xrv xrd) (hm : m ≤ 10) (hf : ∃ x d, rf_in m A (rg_b V Q) x d) (hof : of < nf) (hσ : zA σ 1)
    (K : ∀ m' of σ xde xcr xsp xsq xlp xlq xpd xpp xpq xcf xrv xrd xro xta xba xnb, of < nf → zA σ 1 → rh_P m A (rg_b V Q) xpd xpp xpq → post (nI v, xmf, xmb, xml, xfo, xbo, xol, xst, xpd, xps, xcc, xto, xho, xon, xod, nI m', nI of, zI σ, xde, xcr, xsp, xsq, xlp, xlq, xpn, xpe, xco, xbf, xbk, xbv, xbl, xpp, xpq, xmu, xke, xcf, xrv, xrd, xro, xta, xba, xnb)) : wpX_locatePoint post (nI v, xmf, xmb, xml, xfo, xbo, xol, xst, xpd, xps, xcc, xto, xho, xon, xod, nI m, nI of, zI σ, xde, xcr, xsp, xsq, xlp, xlq, xpn, xpe, xco, xbf, xbk, xbv, xbl, xpp, xpq, xmu, xke, xcf, xrv, xrd, xro, xta, xba, xnb) :=
  ⟨v + 1, xw_lp2 (A0 := A) (b0 := rg_b V Q) (m0 := m) hC hU K v 0 (v + 1) m A V Q of σ (fun _ => rf_in m A (rg_b V Q)) _ _ _ _ _ _ _ _ _ _ _ _ _ (by omega) (by omega) hof hσ (by omega) hL rh_pl0 hf rfl rfl (fun l hl => absurd hl (by omega))⟩
end
end
section
/-! pointHolds, findShift -/
def rh_ex (C F K W : Nat → Int32) (PV PQ : Nat → Int) (D t : Int) (j : Nat) : Int := rh_bV K W j * D * t - rb_dot (rh_bA C F K j) PV * t - rb_dot (rh_bA C F K j) PQ
def rh_hold (n : Nat) (C F K W : Nat → Int32) (PV PQ : Nat → Int) (D t : Int) : Prop := ∀ j, j < n → 0 ≤ rh_ex C F K W PV PQ D t j ∧ (rh_ex C F K W PV PQ D t j = 0 → rh_bQ K j = 0)
def rh_ls (H : Nat → Prop) (k : Nat) : Prop := k ≤ 17 ∧ (∀ i, i < k → ¬ H i) ∧ (k < 17 → H k)
theorem rh_ls1 {H : Nat → Prop} {k k' : Nat} (h : rh_ls H k) (h' : rh_ls H k') : k = k' := by
  by_cases c : k < k'
  · exact absurd (h.2.2 (by have := h'.1; omega)) (h'.2.1 k c)
  · by_cases c2 : k' < k
    · exact absurd (h'.2.2 (by have := h.1; omega)) (h.2.1 k' c2)
    · omega
def rh_t (k : Nat) : Int := ((2 ^ k : Nat) : Int)
theorem rh_tb {k : Nat} (h : k ≤ 17) : 1 ≤ rh_t k ∧ rh_t k ≤ 131072 := by
  have h1 : 2 ^ k ≤ 2 ^ 17 := Nat.pow_le_pow_right (by omega) h
  have h2 : 0 < 2 ^ k := Nat.two_pow_pos k
  unfold rh_t
  omega
theorem rh_shl {k : Nat} (h : k ≤ 17) : (1 : Int64) <<< ((nI k).toInt64 &&& 63) = zL (rh_t k) := by
  have := wb_shl 1 (k := k) (by omega)
  rw [show (1 : Int64) = lN 1 from rfl, this, Nat.one_mul]
  exact zL_n _
/-- the stored numbers of the point -/
def rh_pa (PV PQ : Nat → Int) (D : Int) (xpd : Int64) (xpp xpq : Nat → Int64) : Prop := xpd = zL D ∧ (∀ i, i < 3 → xpp i = zL (PV i) ∧ xpq i = zL (PQ i) ∧ zA (PV i) 144000000 ∧ zA (PQ i) 144000) ∧ 0 < D ∧ D ≤ 48000
section
variable {v n nf : Nat} {PV PQ : Nat → Int} {D : Int}
variable {xmf xmb xml xfo xol xst xps xcc xho xrc xof xos xcr : Int32} {xpd xto xon xod xde xsp xsq xlp xlq xpn xpe : Int64} {xco xbf xbk xbv xbl xke xro xba xnb : Nat → Int32} {xpp xpq xmu xcf xrv xrd xta : Nat → Int64}
theorem xw_ph37 {post : Int32 → Prop} {J : Int32 → Prop} {t : Int} {j : Nat} (hC : rh_C v nf xco) (hB : rh_B nf n xbf xbk xbv) (hP : rh_pa PV PQ D xpd xpp xpq) (ht : 1 ≤ t ∧ t ≤ 131072) (hj : j < n)
    (K1 : 0 ≤ rh_ex xco xbf xbk xbv PV PQ D t j ∧ (rh_ex xco xbf xbk xbv PV PQ D t j = 0 → rh_bQ xbk j = 0) → J (nI (j + 1)))
    (K0 : ¬ (0 ≤ rh_ex xco xbf xbk xbv PV PQ D t j ∧ (rh_ex xco xbf xbk xbv PV PQ D t j = 0 → rh_bQ xbk j = 0)) → post 0) :
    ∀ d i fu, i + d = v → d < fu → wX_pointHolds_37 post J (zL t) (nI j) (nI v) xmf xmb xml xfo (nI n) xol xst xpd xps xcc xto xho xon xod xrc xof xos xde xcr xsp xsq xlp xlq xpn xpe xco xbf xbk xbv xbl xpp xpq xmu xke xcf xrv xrd xro xta xba xnb fu (zL (-(xbv j).toInt * D * t + rf_sm (fun l => (xco (3 * rh_N xbf j + l)).toInt * (PV l * t + PQ l)) i)) (nI i) := by
  have hv := hC.2.1
  have hn := hB.1
  have h9 := hC.2.2.2.1
  obtain ⟨f1, f2, k1, k2, w1⟩ := hB.2 j hj
  have hD : zA D 48000 := by have := hP.2.2; unfold zA; omega
  have hT : zA t 131072 := by unfold zA; omega
  intro d
  induction d with
  | zero =>
    intro i fu hi hf
    obtain ⟨fu, rfl⟩ : ∃ n', fu = n' + 1 := ⟨fu - 1, by omega⟩
    have e : i = v := by omega
    subst e
    have hx : vp_in (nI j) 10 := vp_in_nI (by omega) (by omega)
    have cb : ∀ l, l < 3 → zA ((xco (3 * rh_N xbf j + l)).toInt * (PV l * t + PQ l)) 400000000000000 := fun l hl => zA_w (zA_mul (hC.2.2.2.2 _ f2 l hl).1 (zA_add (zA_mul (hP.2.1 l hl).2.2.1 hT) (hP.2.1 l hl).2.2.2)) (by omega)
    rw [rf_sm3 hv (fun l l1 l2 => by rw [(hC.2.2.2.2 _ f2 l l2).2 l1, Int.zero_mul])]
    have E : (-(xbv j).toInt * D * t + ((xco (3 * rh_N xbf j + 0)).toInt * (PV 0 * t + PQ 0) + (xco (3 * rh_N xbf j + 1)).toInt * (PV 1 * t + PQ 1) + (xco (3 * rh_N xbf j + 2)).toInt * (PV 2 * t + PQ 2))) * rh_s (rh_N xbk j) = -rh_ex xco xbf xbk xbv PV PQ D t j := by
      unfold rh_ex rh_bV rh_bA rb_dot
      rw [rh_a3 (i := 0) (by omega), rh_a3 (i := 1) (by omega), rh_a3 (i := 2) (by omega)]
      grind
    have EB : zA (-rh_ex xco xbf xbk xbv PV PQ D t j) 2000000000000000 := by
      rw [← E, Int.mul_comm]
      exact rh_sb _ (zA_w (zA_add (zA_mul (zA_mul (zA_neg w1) hD) hT) (zA_add (zA_add (cb 0 (by omega)) (cb 1 (by omega))) (cb 2 (by omega)))) (by omega))
    refine br_t (nI_le (by omega) (by omega)) (And.intro hx ?_)
    rw [nI_clamp (show j < 2 ^ 31 by omega), k1]
    refine xw_sign k2 ?_
    rw [zI_L (by have := rh_s1 (rh_N xbk j); unfold zb; omega), zL_mul, E, show (0 : Int64) = zL 0 from rfl]
    refine nm_e ?_
    rw [zL_lt zB_0 (zA_B EB (by omega)), zL_eq (zA_B EB (by omega)) zB_0]
    refine br_c (fun h => K0 (fun z => by have := z.1; omega)) (fun h => br_c (fun h2 => And.intro hx ?_) (fun h2 => nm_r (nI_1 j) (K1 ⟨by omega, fun z => by omega⟩)))
    refine xw_strict k2 (fun hq => br_f (by decide) (K0 (fun z => ?_))) (fun hq => br_t rfl (nm_r (nI_1 j) (K1 ⟨by omega, fun _ => hq⟩)))
    have := z.2 (by omega)
    unfold rh_bQ at this
    omega
  | succ d ih =>
    intro i fu hi hf
    obtain ⟨fu, rfl⟩ : ∃ n', fu = n' + 1 := ⟨fu - 1, by omega⟩
    have hx : vp_in (nI j) 10 := vp_in_nI (by omega) (by omega)
    have hx3 : vp_in (nI i) 3 := vp_in_nI (by omega) (by omega)
    have hxf : vp_in (3 * nI (rh_N xbf j) + nI i) 27 := xw_in (by omega) (by omega)
    have hcf : (3 * nI (rh_N xbf j) + nI i).toNatClampNeg = 3 * rh_N xbf j + i := xw_cl (by omega)
    obtain ⟨p1, p2, p3, p4⟩ := hP.2.1 i (by omega)
    refine br_f (nI_ge (by omega) (by omega)) (And.intro hx ?_)
    rw [nI_clamp (show j < 2 ^ 31 by omega), f1]
    refine And.intro hxf (And.intro hx3 (And.intro hx3 ?_))
    rw [hcf, nI_clamp (show i < 2 ^ 31 by omega), p1, p2, zI_of (xco (3 * rh_N xbf j + i)), zI_L (zA_b (hC.2.2.2.2 _ f2 i (by omega)).1 (by omega)), zL_mul, zL_add, zL_mul, zL_add]
    refine nm_e (nm_r (nI_1 i) ?_)
    have := ih (i + 1) fu (by omega) (by omega)
    simp only [rf_sm] at this
    rw [← Int.add_assoc] at this
    exact this
theorem xw_ph7 {post : Int32 → Prop} {t : Int} (hC : rh_C v nf xco) (hB : rh_B nf n xbf xbk xbv) (hP : rh_pa PV PQ D xpd xpp xpq) (ht : 1 ≤ t ∧ t ≤ 131072) (K1 : rh_hold n xco xbf xbk xbv PV PQ D t → post 1) (K0 : ¬ rh_hold n xco xbf xbk xbv PV PQ D t → post 0) :
    ∀ d j fu, j + d = n → d < fu → (∀ l, l < j → 0 ≤ rh_ex xco xbf xbk xbv PV PQ D t l ∧ (rh_ex xco xbf xbk xbv PV PQ D t l = 0 → rh_bQ xbk l = 0)) → wX_pointHolds_7 post (zL t) (nI v) xmf xmb xml xfo (nI n) xol xst xpd xps xcc xto xho xon xod xrc xof xos xde xcr xsp xsq xlp xlq xpn xpe xco xbf xbk xbv xbl xpp xpq xmu xke xcf xrv xrd xro xta xba xnb fu (nI j) := by
  have hn := hB.1
  have eD := hP.1
  subst eD
  intro d
  induction d with
  | zero =>
    intro j fu hj hf h
    obtain ⟨fu, rfl⟩ : ∃ n', fu = n' + 1 := ⟨fu - 1, by omega⟩
    have e : j = n := by omega
    subst e
    exact br_t (nI_le (by omega) (by omega)) (K1 h)
  | succ d ih =>
    intro j fu hj hf h
    obtain ⟨fu, rfl⟩ : ∃ n', fu = n' + 1 := ⟨fu - 1, by omega⟩
    obtain ⟨f1, f2, k1, k2, w1⟩ := hB.2 j (by omega)
    refine br_f (nI_ge (by omega) (by omega)) (And.intro (vp_in_nI (by omega) (by omega)) ?_)
    rw [nI_clamp (show j < 2 ^ 31 by omega), show (-xbv j).toInt64 = zL (-(xbv j).toInt) by rw [← zI_L (zA_b (zA_neg w1) (by omega)), ← zI_neg, ← zI_of], zL_mul, zL_mul]
    refine nm_r (e' := zL (-(xbv j).toInt * D * t + rf_sm (fun l => (xco (3 * rh_N xbf j + l)).toInt * (PV l * t + PQ l)) 0)) (by rw [show rf_sm (fun l => (xco (3 * rh_N xbf j + l)).toInt * (PV l * t + PQ l)) 0 = 0 from rfl, Int.add_zero]) ⟨v + 1, xw_ph37 hC hB hP ht (by omega) (fun h1 => ?_) (fun h0 => K0 (fun z => h0 (z j (by omega)))) v 0 (v + 1) (by omega) (by omega)⟩
    refine ih (j + 1) fu (by omega) (by omega) (fun l hl => ?_)
    by_cases e : l = j
    · rw [e]; exact h1
    · exact h l (by omega)
theorem xw_ph {post : Int32 → Prop} {k : Nat} (hC : rh_C v nf xco) (hB : rh_B nf n xbf xbk xbv) (hP : rh_pa PV PQ D xpd xpp xpq) (hk : k ≤ 17) (K1 : rh_hold n xco xbf xbk xbv PV PQ D (rh_t k) → post 1) (K0 : ¬ rh_hold n xco xbf xbk xbv PV PQ D (rh_t k) → post 0) : wpX_pointHolds post (nI v, xmf, xmb, xml, xfo, nI n, xol, xst, xpd, xps, xcc, xto, xho, xon, xod, xrc, xof, xos, xde, xcr, xsp, xsq, xlp, xlq, xpn, xpe, xco, xbf, xbk, xbv, xbl, xpp, xpq, xmu, xke, xcf, xrv, xrd, xro, xta, xba, xnb) (nI k) := by
  refine nm_r (rh_shl hk) ⟨n + 1, xw_ph7 hC hB hP (rh_tb hk) K1 K0 n 0 (n + 1) (by omega) (by omega) (fun l hl => absurd hl (by omega))⟩
def rh_fx : Nat → Int32
  | 0 => -1
  | j + 1 => nI j
theorem rh_fx1 (j : Nat) : nI j + (-1) = rh_fx j := by
  cases j with
  | zero => rfl
  | succ j => exact pk_m1 j
theorem xw_fsL {post : SX → Prop} (hC : rh_C v nf xco) (hB : rh_B nf n xbf xbk xbv) (hP : rh_pa PV PQ D xpd xpp xpq)
    (K : ∀ k, rh_ls (fun k => rh_hold n xco xbf xbk xbv PV PQ D (rh_t k)) k → post (nI v, xmf, xmb, xml, xfo, nI n, xol, xst, xpd, nI k, xcc, xto, xho, xon, xod, xrc, xof, xos, xde, xcr, xsp, xsq, xlp, xlq, xpn, xpe, xco, xbf, xbk, xbv, xbl, xpp, xpq, xmu, xke, xcf, xrv, xrd, xro, xta, xba, xnb)) :
    ∀ j fu ps, j ≤ 18 → j < fu → ps ≤ 17 → (ps < 17 → rh_hold n xco xbf xbk xbv PV PQ D (rh_t ps)) → (∀ i, j ≤ i → i < ps → ¬ rh_hold n xco xbf xbk xbv PV PQ D (rh_t i)) → wX_findShift_9 post (nI v) xmf xmb xml xfo (nI n) xol xst xpd xcc xto xho xon xod xrc xof xos xde xcr xsp xsq xlp xlq xpn xpe xco xbf xbk xbv xbl xpp xpq xmu xke xcf xrv xrd xro xta xba xnb fu (rh_fx j) (nI ps) := by
  intro j
  induction j with
  | zero =>
    intro fu ps h1 hf h2 h3 h4
    obtain ⟨fu, rfl⟩ : ∃ n', fu = n' + 1 := ⟨fu - 1, by omega⟩
    exact br_t (by decide) (K _ ⟨h2, fun i hi => h4 i (by omega) hi, h3⟩)
  | succ j ih =>
    intro fu ps h1 hf h2 h3 h4
    obtain ⟨fu, rfl⟩ : ∃ n', fu = n' + 1 := ⟨fu - 1, by omega⟩
    refine br_f (nI_pos (by omega)) (xw_ph hC hB hP (by omega) (fun h => br_f (by decide) (nm_r (rh_fx1 j) (ih fu j (by omega) (by omega) (by omega) (fun _ => h) (fun i a b => by omega)))) (fun h => br_t rfl (nm_r (rh_fx1 j) (ih fu ps (by omega) (by omega) h2 h3 (fun i a b => ?_)))))
    by_cases e : i = j
    · rw [e]; exact h
    · exact h4 i (by omega) b
theorem xw_fs {post : SX → Prop} (hC : rh_C v nf xco) (hB : rh_B nf n xbf xbk xbv) (hP : rh_pa PV PQ D xpd xpp xpq)
    (K : ∀ k, rh_ls (fun k => rh_hold n xco xbf xbk xbv PV PQ D (rh_t k)) k → post (nI v, xmf, xmb, xml, xfo, nI n, xol, xst, xpd, nI k, xcc, xto, xho, xon, xod, xrc, xof, xos, xde, xcr, xsp, xsq, xlp, xlq, xpn, xpe, xco, xbf, xbk, xbv, xbl, xpp, xpq, xmu, xke, xcf, xrv, xrd, xro, xta, xba, xnb)) : wpX_findShift post (nI v, xmf, xmb, xml, xfo, nI n, xol, xst, xpd, xps, xcc, xto, xho, xon, xod, xrc, xof, xos, xde, xcr, xsp, xsq, xlp, xlq, xpn, xpe, xco, xbf, xbk, xbv, xbl, xpp, xpq, xmu, xke, xcf, xrv, xrd, xro, xta, xba, xnb) :=
  ⟨19, xw_fsL hC hB hP K 18 19 17 (by omega) (by omega) (by omega) (fun h => absurd h (by omega)) (fun i a b => by omega)⟩
end
end
section
/-! greatest common divisors, fractions in lowest terms -/
theorem rk_step {a b : Nat} (hb : 0 < b) (hba : b ≤ a) {s : Nat} (h : a * b < 2 ^ (s + 1)) : b * (a % b) < 2 ^ s := by
  have e := Nat.div_add_mod a b
  have q1 : 1 ≤ a / b := (Nat.one_le_div_iff hb).mpr hba
  have r1 := Nat.mod_lt a hb
  have h2 : b * 1 ≤ b * (a / b) := Nat.mul_le_mul_left b q1
  have h3 : 2 * (a % b) ≤ a := by omega
  have h4 : b * (2 * (a % b)) ≤ b * a := Nat.mul_le_mul_left b h3
  have h5 : b * (2 * (a % b)) = 2 * (b * (a % b)) := by grind
  have h6 : a * b = b * a := Nat.mul_comm a b
  have h7 : 2 ^ (s + 1) = 2 * 2 ^ s := by rw [Nat.pow_succ]; omega
  omega
theorem rk_gcd (a b : Nat) : Nat.gcd b (a % b) = Nat.gcd a b := by
  rw [Nat.gcd_comm a b, Nat.gcd_rec b a, Nat.gcd_comm]
theorem rk_l0 : lN 0 = 0 := rfl
section
variable {xv xmf xmb xml xfo xbo xol xst xps xcc xho xrc xof xos xcr : Int32} {xpd xto xon xod xde xsp xsq xlp xlq xpn xpe : Int64} {xco xbf xbk xbv xbl xke xro xba xnb : Nat → Int32} {xpp xpq xmu xcf xrv xrd xta : Nat → Int64}
theorem xw_gcdL {post : Int64 → Prop} : ∀ s a b i n, b ≤ a → a * b < 2 ^ s → i + s ≤ 99 → s < n → a < 2 ^ 63 → post (lN (Nat.gcd a b)) → wX_gcd_31 post xv xmf xmb xml xfo xbo xol xst xpd xps xcc xto xho xon xod xrc xof xos xde xcr xsp xsq xlp xlq xpn xpe xco xbf xbk xbv xbl xpp xpq xmu xke xcf xrv xrd xro xta xba xnb n (lN a) (lN b) (nI i) := by
  intro s
  induction s with
  | zero =>
    intro a b i n h1 h2 h3 h4 h5 K
    obtain ⟨n, rfl⟩ : ∃ n', n = n' + 1 := ⟨n - 1, by omega⟩
    have hb : b = 0 := by
      by_cases z : b = 0
      · exact z
      · have := Nat.mul_pos (show 0 < a by omega) (show 0 < b by omega)
        omega
    subst hb
    rw [Nat.gcd_zero_right] at K
    exact br_f (nI_ge (b := 100) (by omega) (by decide)) (br_t rk_l0 K)
  | succ s ih =>
    intro a b i n h1 h2 h3 h4 h5 K
    obtain ⟨n, rfl⟩ : ∃ n', n = n' + 1 := ⟨n - 1, by omega⟩
    refine br_f (nI_ge (b := 100) (by omega) (by decide)) ?_
    by_cases z : b = 0
    · subst z
      rw [Nat.gcd_zero_right] at K
      exact br_t rk_l0 K
    · have nz : ¬ lN b = 0 := by rw [← rk_l0, pk_lEQ (by omega) (by omega)]; exact z
      refine br_f nz (And.intro nz ?_)
      rw [pk_lRem h5 (by omega) (by omega)]
      refine nm_e (nm_r (nI_1 i) (ih b (a % b) (i + 1) n (Nat.le_of_lt (Nat.mod_lt a (by omega))) (rk_step (by omega) h1 h2) (by omega) (by omega) (by omega) ?_))
      rw [rk_gcd]; exact K
theorem xw_gcdN {post : Int64 → Prop} {a b : Nat} (ha : a < 2 ^ 63) (hb : b < 2 ^ 63) (h : a * b < 2 ^ 97) (K : post (lN (Nat.gcd a b))) : ∃ n, wX_gcd_31 post xv xmf xmb xml xfo xbo xol xst xpd xps xcc xto xho xon xod xrc xof xos xde xcr xsp xsq xlp xlq xpn xpe xco xbf xbk xbv xbl xpp xpq xmu xke xcf xrv xrd xro xta xba xnb n (lN a) (lN b) 0 := by
  by_cases c : b ≤ a
  · exact ⟨98, xw_gcdL 97 a b 0 98 c h (by omega) (by omega) ha K⟩
  · refine ⟨99, ?_⟩
    have nz : ¬ lN b = 0 := by rw [← rk_l0, pk_lEQ (by omega) (by omega)]; omega
    refine br_f (by decide) (br_f nz (And.intro nz ?_))
    rw [pk_lRem ha (by omega) hb, Nat.mod_eq_of_lt (by omega)]
    refine nm_e (nm_r (nI_1 0) (xw_gcdL 97 b a 1 98 (by omega) (by rw [Nat.mul_comm]; exact h) (by omega) (by omega) hb ?_))
    rw [Nat.gcd_comm]; exact K
theorem xw_gcd {post : Int64 → Prop} {a b : Int} (ha : zB a) (hb : zB b) (h : a.natAbs * b.natAbs < 2 ^ 97) (K : post (zL (Int.gcd a b))) : wpX_gcd post (xv, xmf, xmb, xml, xfo, xbo, xol, xst, xpd, xps, xcc, xto, xho, xon, xod, xrc, xof, xos, xde, xcr, xsp, xsq, xlp, xlq, xpn, xpe, xco, xbf, xbk, xbv, xbl, xpp, xpq, xmu, xke, xcf, xrv, xrd, xro, xta, xba, xnb) (zL a) (zL b) := by
  have a1 := ha.1
  have a2 := ha.2
  have b1 := hb.1
  have b2 := hb.2
  have hA : a.natAbs < 2 ^ 63 := by omega
  have hB : b.natAbs < 2 ^ 63 := by omega
  have K' : post (lN (Nat.gcd a.natAbs b.natAbs)) := by rw [zL_n]; exact K
  have ea : ∀ z : Int, 0 ≤ z → zL z = lN z.natAbs := by
    intro z hz
    rw [zL_n]
    exact congrArg zL (by omega)
  have ea' : ∀ z : Int, ¬ 0 ≤ z → -zL z = lN z.natAbs := by
    intro z hz
    rw [zL_n, zL_neg]
    exact congrArg zL (by omega)
  have q : wX_gcd_12 post (zL b) (lN a.natAbs) xv xmf xmb xml xfo xbo xol xst xpd xps xcc xto xho xon xod xrc xof xos xde xcr xsp xsq xlp xlq xpn xpe xco xbf xbk xbv xbl xpp xpq xmu xke xcf xrv xrd xro xta xba xnb := by
    unfold wX_gcd_12
    rw [show (0 : Int64) = zL 0 from rfl, zL_le zB_0 hb]
    refine br_c (fun z => ?_) (fun z => ?_)
    · rw [ea b z]; exact xw_gcdN hA hB h K'
    · rw [ea' b z]; exact nm_e (xw_gcdN hA hB h K')
  unfold wpX_gcd
  dsimp only
  rw [show (0 : Int64) = zL 0 from rfl, zL_le zB_0 ha]
  refine br_c (fun z => ?_) (fun z => ?_)
  · rw [ea a z]; exact q
  · rw [ea' a z]; exact q
end
section
variable {xv xmf xmb xml xfo xbo xol xst yrs : Int32} {yon yod : Int64} {xco xbf xbk xbv xbl yke ypi : Nat → Int32} {yrw ypt ywe ymu : Nat → Int64}
theorem yw_gcdL {post : Int64 → Prop} : ∀ s a b i n, b ≤ a → a * b < 2 ^ s → i + s ≤ 99 → s < n → a < 2 ^ 63 → post (lN (Nat.gcd a b)) → wY_gcd_31 post xv xmf xmb xml xfo xbo xol xst yon yod yrs xco xbf xbk xbv xbl yke yrw ypt ypi ywe ymu n (lN a) (lN b) (nI i) := by
  intro s
  induction s with
  | zero =>
    intro a b i n h1 h2 h3 h4 h5 K
    obtain ⟨n, rfl⟩ : ∃ n', n = n' + 1 := ⟨n - 1, by omega⟩
    have hb : b = 0 := by
      by_cases z : b = 0
      · exact z
      · have := Nat.mul_pos (show 0 < a by omega) (show 0 < b by omega)
        omega
    subst hb
    rw [Nat.gcd_zero_right] at K
    exact br_f (nI_ge (b := 100) (by omega) (by decide)) (br_t rk_l0 K)
  | succ s ih =>
    intro a b i n h1 h2 h3 h4 h5 K
    obtain ⟨n, rfl⟩ : ∃ n', n = n' + 1 := ⟨n - 1, by omega⟩
    refine br_f (nI_ge (b := 100) (by omega) (by decide)) ?_
    by_cases z : b = 0
    · subst z
      rw [Nat.gcd_zero_right] at K
      exact br_t rk_l0 K
    · have nz : ¬ lN b = 0 := by rw [← rk_l0, pk_lEQ (by omega) (by omega)]; exact z
      refine br_f nz (And.intro nz ?_)
      rw [pk_lRem h5 (by omega) (by omega)]
      refine nm_e (nm_r (nI_1 i) (ih b (a % b) (i + 1) n (Nat.le_of_lt (Nat.mod_lt a (by omega))) (rk_step (by omega) h1 h2) (by omega) (by omega) (by omega) ?_))
      rw [rk_gcd]; exact K
theorem yw_gcdN {post : Int64 → Prop} {a b : Nat} (ha : a < 2 ^ 63) (hb : b < 2 ^ 63) (h : a * b < 2 ^ 97) (K : post (lN (Nat.gcd a b))) : ∃ n, wY_gcd_31 post xv xmf xmb xml xfo xbo xol xst yon yod yrs xco xbf xbk xbv xbl yke yrw ypt ypi ywe ymu n (lN a) (lN b) 0 := by
  by_cases c : b ≤ a
  · exact ⟨98, yw_gcdL 97 a b 0 98 c h (by omega) (by omega) ha K⟩
  · refine ⟨99, ?_⟩
    have nz : ¬ lN b = 0 := by rw [← rk_l0, pk_lEQ (by omega) (by omega)]; omega
    refine br_f (by decide) (br_f nz (And.intro nz ?_))
    rw [pk_lRem ha (by omega) hb, Nat.mod_eq_of_lt (by omega)]
    refine nm_e (nm_r (nI_1 0) (yw_gcdL 97 b a 1 98 (by omega) (by rw [Nat.mul_comm]; exact h) (by omega) (by omega) hb ?_))
    rw [Nat.gcd_comm]; exact K
theorem yw_gcd {post : Int64 → Prop} {a b : Int} (ha : zB a) (hb : zB b) (h : a.natAbs * b.natAbs < 2 ^ 97) (K : post (zL (Int.gcd a b))) : wpY_gcd post (xv, xmf, xmb, xml, xfo, xbo, xol, xst, yon, yod, yrs, xco, xbf, xbk, xbv, xbl, yke, yrw, ypt, ypi, ywe, ymu) (zL a) (zL b) := by
  have a1 := ha.1
  have a2 := ha.2
  have b1 := hb.1
  have b2 := hb.2
  have hA : a.natAbs < 2 ^ 63 := by omega
  have hB : b.natAbs < 2 ^ 63 := by omega
  have K' : post (lN (Nat.gcd a.natAbs b.natAbs)) := by rw [zL_n]; exact K
  have ea : ∀ z : Int, 0 ≤ z → zL z = lN z.natAbs := by
    intro z hz
    rw [zL_n]
    exact congrArg zL (by omega)
  have ea' : ∀ z : Int, ¬ 0 ≤ z → -zL z = lN z.natAbs := by
    intro z hz
    rw [zL_n, zL_neg]
    exact congrArg zL (by omega)
  have q : wY_gcd_12 post (zL b) (lN a.natAbs) xv xmf xmb xml xfo xbo xol xst yon yod yrs xco xbf xbk xbv xbl yke yrw ypt ypi ywe ymu := by
    unfold wY_gcd_12
    rw [show (0 : Int64) = zL 0 from rfl, zL_le zB_0 hb]
    refine br_c (fun z => ?_) (fun z => ?_)
    · rw [ea b z]; exact yw_gcdN hA hB h K'
    · rw [ea' b z]; exact nm_e (yw_gcdN hA hB h K')
  unfold wpY_gcd
  dsimp only
  rw [show (0 : Int64) = zL 0 from rfl, zL_le zB_0 ha]
  refine br_c (fun z => ?_) (fun z => ?_)
  · rw [ea a z]; exact q
  · rw [ea' a z]; exact q
end
/-- lowest terms -/
def rk_n (n d : Int) : Int := n / (Int.gcd n d : Int)
def rk_d (n d : Int) : Int := d / (Int.gcd n d : Int)
theorem rk_mul {n d k : Int} (hk : 0 < k) : rk_n (k * n) (k * d) = rk_n n d ∧ rk_d (k * n) (k * d) = rk_d n d := by
  have e : ((Int.gcd (k * n) (k * d) : Nat) : Int) = k * (Int.gcd n d : Int) := by
    rw [Int.gcd_mul_left, Int.natCast_mul, Int.natAbs_of_nonneg (by omega)]
  unfold rk_n rk_d
  rw [e]
  exact ⟨Int.mul_ediv_mul_of_pos _ _ hk, Int.mul_ediv_mul_of_pos _ _ hk⟩
theorem rk_eq {n d n' d' : Int} (hd : 0 < d) (hd' : 0 < d') (h : n * d' = n' * d) : rk_n n d = rk_n n' d' ∧ rk_d n d = rk_d n' d' := by
  have a := rk_mul (n := n) (d := d) hd'
  have b := rk_mul (n := n') (d := d') hd
  have e1 : d' * n = d * n' := by rw [Int.mul_comm d' n, h, Int.mul_comm]
  have e2 : d' * d = d * d' := Int.mul_comm _ _
  rw [e1, e2] at a
  exact ⟨a.1.symm.trans b.1, a.2.symm.trans b.2⟩
theorem rk_gp {n d : Int} (hd : 0 < d) : 0 < (Int.gcd n d : Int) := by
  have := Int.gcd_pos_of_ne_zero_right n (b := d) (by omega)
  omega
theorem rk_nd (n d : Int) : n = rk_n n d * (Int.gcd n d : Int) ∧ d = rk_d n d * (Int.gcd n d : Int) := by
  unfold rk_n rk_d
  exact ⟨(Int.ediv_mul_cancel (Int.gcd_dvd_left ..)).symm, (Int.ediv_mul_cancel (Int.gcd_dvd_right ..)).symm⟩
theorem rk_gB {n d : Int} (hd : 0 < d) (hB : zB d) : zB (Int.gcd n d : Int) := by
  have := Int.le_of_dvd hd (Int.gcd_dvd_right n d)
  have h2 := hB.2
  have := rk_gp (n := n) hd
  unfold zB; omega
section
variable {xv xmf xmb xml xfo xbo xol xst xps xcc xho xrc xof xos xcr : Int32} {xpd xto xon xod xde xsp xsq xlp xlq xpn xpe : Int64} {xco xbf xbk xbv xbl xke xro xba xnb : Nat → Int32} {xpp xpq xmu xcf xrv xrd xta : Nat → Int64}
theorem xw_reduce {post : SX → Prop} {n d : Int} (hn : zB n) (hB : zB d) (hd : 0 < d) (h : n.natAbs * d.natAbs < 2 ^ 97) (K : post (xv, xmf, xmb, xml, xfo, xbo, xol, xst, xpd, xps, xcc, xto, xho, xon, xod, xrc, xof, xos, xde, xcr, xsp, xsq, xlp, xlq, zL (rk_n n d), zL (rk_d n d), xco, xbf, xbk, xbv, xbl, xpp, xpq, xmu, xke, xcf, xrv, xrd, xro, xta, xba, xnb)) : wpX_reduce post (xv, xmf, xmb, xml, xfo, xbo, xol, xst, xpd, xps, xcc, xto, xho, xon, xod, xrc, xof, xos, xde, xcr, xsp, xsq, xlp, xlq, xpn, xpe, xco, xbf, xbk, xbv, xbl, xpp, xpq, xmu, xke, xcf, xrv, xrd, xro, xta, xba, xnb) (zL n) (zL d) := by
  unfold wpX_reduce
  refine xw_gcd hn hB h ?_
  have gp := rk_gp (n := n) hd
  have gB := rk_gB (n := n) hd hB
  have nd := rk_nd n d
  rw [show (1 : Int64) = zL 1 from rfl, zL_le gB zB_1]
  refine br_c (fun z => ?_) (fun z => ?_)
  · have g1 : (Int.gcd n d : Int) = 1 := by omega
    rw [g1, Int.mul_one, Int.mul_one] at nd
    rw [← nd.1, ← nd.2] at K
    exact K
  · have nz : ¬ zL (Int.gcd n d : Int) = 0 := by rw [show (0 : Int64) = zL 0 from rfl, zL_eq gB zB_0]; omega
    refine And.intro nz ?_
    rw [zL_div hn gB (by omega) nd.1, zL_div hB gB (by omega) nd.2]
    exact nm_e (And.intro nz (nm_e K))
end
end
section
/-! the core: bounds are dropped from the last on, as long as no solution appears -/
def rm_bb (K W : Nat → Int32) (j : Nat) : Int := rh_bV K W j * zM + rh_bQ K j
def rm_fe (n : Nat) (C F K W : Nat → Int32) (p : Nat → Bool) (x : Nat → Int) (d : Int) : Prop := 0 < d ∧ ∀ j, j < n → p j = true → rb_dot (rh_bA C F K j) x ≤ d * rm_bb K W j
def rm_ft (n : Nat) (C F K W : Nat → Int32) (p : Nat → Bool) : Prop := ∃ x d, rm_fe n C F K W p x d
def rm_rm (p : Nat → Bool) (i : Nat) : Nat → Bool := fun j => p j && !decide (j = i)
theorem rm_rmT {p : Nat → Bool} {i j : Nat} : rm_rm p i j = true ↔ (p j = true ∧ j ≠ i) := by
  unfold rm_rm
  by_cases h : j = i <;> simp [h]
noncomputable def rm_co (n : Nat) (C F K W : Nat → Int32) : Nat → (Nat → Bool)
  | 0 => fun _ => true
  | d + 1 => @ite (Nat → Bool) (rm_ft n C F K W (rm_rm (rm_co n C F K W d) (n - 1 - d))) (Classical.propDecidable _) (rm_co n C F K W d) (rm_rm (rm_co n C F K W d) (n - 1 - d))
section
variable {n : Nat} {C F K W : Nat → Int32}
theorem rm_coT {d : Nat} (h : rm_ft n C F K W (rm_rm (rm_co n C F K W d) (n - 1 - d))) : rm_co n C F K W (d + 1) = rm_co n C F K W d := if_pos h
theorem rm_coF {d : Nat} (h : ¬ rm_ft n C F K W (rm_rm (rm_co n C F K W d) (n - 1 - d))) : rm_co n C F K W (d + 1) = rm_rm (rm_co n C F K W d) (n - 1 - d) := if_neg h
theorem rm_ftm {p q : Nat → Bool} (h : ∀ j, j < n → q j = true → p j = true) (hp : rm_ft n C F K W p) : rm_ft n C F K W q := by
  obtain ⟨x, d, h1, h2⟩ := hp
  exact ⟨x, d, h1, fun j hj hq => h2 j hj (h j hj hq)⟩
theorem rm_feL {p : Nat → Bool} {A : Nat → Nat → Int} {V Q : Nat → Int} (hL : rh_L p n C F K W A V Q) (x : Nat → Int) (d : Int) : rf_in (rh_n p n) A (rg_b V Q) x d ↔ rm_fe n C F K W p x d := by
  constructor
  · rintro ⟨h1, h2⟩
    refine ⟨h1, fun j hj hp => ?_⟩
    obtain ⟨a1, a2, a3⟩ := hL j hj hp
    have := h2 (rh_n p j) (rh_nlt hj hp)
    unfold rg_b at this
    rw [a1, a2, a3] at this
    exact this
  · rintro ⟨h1, h2⟩
    refine ⟨h1, fun r hr => ?_⟩
    obtain ⟨j, hj, hp, rfl⟩ := rh_nE p n r hr
    obtain ⟨a1, a2, a3⟩ := hL j hj hp
    unfold rg_b
    rw [a1, a2, a3]
    exact h2 j hj hp
/-- no solution stays so -/
theorem rm_coN (h : ¬ rm_ft n C F K W (fun _ => true)) : ∀ d, ¬ rm_ft n C F K W (rm_co n C F K W d) := by
  intro d
  induction d with
  | zero => exact h
  | succ d ih =>
    by_cases c : rm_ft n C F K W (rm_rm (rm_co n C F K W d) (n - 1 - d))
    · rw [rm_coT c]; exact ih
    · rw [rm_coF c]; exact c
theorem rm_cole {d : Nat} {j : Nat} (h : rm_co n C F K W (d + 1) j = true) : rm_co n C F K W d j = true := by
  by_cases c : rm_ft n C F K W (rm_rm (rm_co n C F K W d) (n - 1 - d))
  · rw [rm_coT c] at h; exact h
  · rw [rm_coF c] at h; exact (rm_rmT.mp h).1
theorem rm_cole' {d e : Nat} (he : d ≤ e) {j : Nat} (h : rm_co n C F K W e j = true) : rm_co n C F K W d j = true := by
  induction e with
  | zero => rw [show d = 0 by omega]; exact h
  | succ e ih =>
    by_cases c : d = e + 1
    · rw [c]; exact h
    · exact ih (by omega) (rm_cole h)
/-- the core is minimal -/
theorem rm_min {i : Nat} (hi : i < n) (h : rm_co n C F K W n i = true) : rm_ft n C F K W (rm_rm (rm_co n C F K W n) i) := by
  have e : n - 1 - (n - 1 - i) = i := by omega
  have c : rm_ft n C F K W (rm_rm (rm_co n C F K W (n - 1 - i)) (n - 1 - (n - 1 - i))) := by
    by_cases c : rm_ft n C F K W (rm_rm (rm_co n C F K W (n - 1 - i)) (n - 1 - (n - 1 - i)))
    · exact c
    · exfalso
      have h1 := rm_cole' (C := C) (F := F) (K := K) (W := W) (d := n - 1 - i + 1) (e := n) (by omega) h
      rw [rm_coF c, e] at h1
      exact (rm_rmT.mp h1).2 rfl
  rw [e] at c
  refine rm_ftm (fun j hj hq => ?_) c
  obtain ⟨a, b⟩ := rm_rmT.mp hq
  exact rm_rmT.mpr ⟨rm_cole' (by omega) a, b⟩
end
/-- rows that carry no weight can be left out of a certificate -/
theorem rm_cert {n : Nat} {C F K W : Nat → Int32} {p : Nat → Bool} (i : Nat) (z : Nat → Int) (h0 : ∀ j, j < n → 0 ≤ z j) (hp : ∀ j, j < n → p j ≠ true → z j = 0) (hi : z i = 0) (hA : ∀ l, l < 3 → rf_sm (fun j => z j * rh_bA C F K j l) n = 0) (hb : rf_sm (fun j => z j * rm_bb K W j) n < 0) : ¬ rm_ft n C F K W (rm_rm p i) := by
  rintro ⟨x, d, hd, hx⟩
  have key : ∀ k, k ≤ n → rf_sm (fun j => z j * rh_bA C F K j 0) k * x 0 + rf_sm (fun j => z j * rh_bA C F K j 1) k * x 1 + rf_sm (fun j => z j * rh_bA C F K j 2) k * x 2 ≤ d * rf_sm (fun j => z j * rm_bb K W j) k := by
    intro k
    induction k with
    | zero => intro _; simp [rf_sm]
    | succ k ih =>
      intro hk
      have a := ih (by omega)
      have b : z k * rb_dot (rh_bA C F K k) x ≤ z k * (d * rm_bb K W k) := by
        by_cases c : z k = 0
        · rw [c, Int.zero_mul, Int.zero_mul]; exact Int.le_refl 0
        · refine Int.mul_le_mul_of_nonneg_left (hx k (by omega) (rm_rmT.mpr ⟨?_, fun e => c (by rw [e]; exact hi)⟩)) (h0 k (by omega))
          by_cases q : p k = true
          · exact q
          · exact absurd (hp k (by omega) q) c
      unfold rb_dot at b
      simp only [rf_sm]
      generalize rf_sm (fun j => z j * rh_bA C F K j 0) k = s0 at *
      generalize rf_sm (fun j => z j * rh_bA C F K j 1) k = s1 at *
      generalize rf_sm (fun j => z j * rh_bA C F K j 2) k = s2 at *
      generalize rf_sm (fun j => z j * rm_bb K W j) k = s3 at *
      grind
  have := key n (Nat.le_refl n)
  rw [hA 0 (by omega), hA 1 (by omega), hA 2 (by omega)] at this
  have q := Int.mul_neg_of_pos_of_neg hd hb
  omega
end
section
/-! the weights of a conflict -/
theorem rf_smC {f g : Nat → Int} : ∀ n, (∀ j, j < n → f j = g j) → rf_sm f n = rf_sm g n := by
  intro n
  induction n with
  | zero => intro _; rfl
  | succ n ih =>
    intro h
    show rf_sm f n + f n = rf_sm g n + g n
    rw [ih (fun j hj => h j (by omega)), h n (by omega)]
theorem rf_smA (f g : Nat → Int) (n : Nat) : rf_sm (fun j => f j + g j) n = rf_sm f n + rf_sm g n := by
  induction n with
  | zero => rfl
  | succ n ih =>
    show rf_sm (fun j => f j + g j) n + (f n + g n) = rf_sm f n + f n + (rf_sm g n + g n)
    rw [ih]; omega
/-- over the rows instead of the bounds -/
theorem rn_rows (p : Nat → Bool) (f : Nat → Int) (n : Nat) : rf_sm (fun j => if p j = true then f (rh_n p j) else 0) n = rf_sm f (rh_n p n) := by
  induction n with
  | zero => rfl
  | succ n ih =>
    show rf_sm (fun j => if p j = true then f (rh_n p j) else 0) n + (if p n = true then f (rh_n p n) else 0) = _
    rw [ih]
    by_cases c : p n = true
    · rw [if_pos c, rh_nS c]; rfl
    · rw [if_neg c, rh_nN c]; omega
theorem rn_ind (w : Nat) (s : Int) (a : Nat → Int) (c : Nat) : rf_sm (fun r => (if 3 + r = w then s else 0) * a r) c = if 3 ≤ w ∧ w < 3 + c then s * a (w - 3) else 0 := by
  induction c with
  | zero => rw [if_neg (by omega)]; rfl
  | succ c ih =>
    show rf_sm (fun r => (if 3 + r = w then s else 0) * a r) c + (if 3 + c = w then s else 0) * a c = _
    rw [ih]
    by_cases e : 3 + c = w
    · rw [if_neg (by omega), if_pos e, if_pos (by omega), show w - 3 = c by omega]; omega
    · rw [if_neg e, Int.zero_mul, Int.add_zero]
      by_cases q : 3 ≤ w ∧ w < 3 + c
      · rw [if_pos q, if_pos (by omega)]
      · rw [if_neg q, if_neg (by omega)]
def rn_wt (G : Nat → Nat → Int) (nb : Nat → Nat) (u w : Nat) : Int :=
  (if w = u then rc_den G nb else 0) + (if w = nb 0 then -rc_tv G nb (G u) 0 else 0) + (if w = nb 1 then -rc_tv G nb (G u) 1 else 0) + (if w = nb 2 then -rc_tv G nb (G u) 2 else 0)
section
variable {c : Nat} {A : Nat → Nat → Int} {b : Nat → Int} {nb : Nat → Nat} {u : Nat}
theorem rn_wtS (a : Nat → Int) : rf_sm (fun r => rn_wt (rf_G A) nb u (3 + r) * a r) c = (if 3 ≤ u ∧ u < 3 + c then rc_den (rf_G A) nb * a (u - 3) else 0) + (if 3 ≤ nb 0 ∧ nb 0 < 3 + c then -rc_tv (rf_G A) nb (rf_G A u) 0 * a (nb 0 - 3) else 0) + (if 3 ≤ nb 1 ∧ nb 1 < 3 + c then -rc_tv (rf_G A) nb (rf_G A u) 1 * a (nb 1 - 3) else 0) + (if 3 ≤ nb 2 ∧ nb 2 < 3 + c then -rc_tv (rf_G A) nb (rf_G A u) 2 * a (nb 2 - 3) else 0) := by
  rw [← rn_ind u, ← rn_ind (nb 0), ← rn_ind (nb 1), ← rn_ind (nb 2), ← rf_smA, ← rf_smA, ← rf_smA]
  refine rf_smC c (fun r _ => ?_)
  unfold rn_wt
  grind
/-- what a conflict says: the columns that don't suit -/
theorem rn_no {g : Nat → Int} (hn : ∀ l, l < 3 → ¬ re_su (rf_G A) nb g l) {l : Nat} (hl : l < 3) : rc_tv (rf_G A) nb g l ≤ 0 ∧ (nb l < 3 → rc_tv (rf_G A) nb g l = 0) := by
  have n := hn l hl
  have t0 : rc_tv (rf_G A) nb g l ≤ 0 := by
    by_cases z : rc_tv (rf_G A) nb g l ≤ 0
    · exact z
    · exact absurd (Or.inl (by omega)) n
  refine ⟨t0, fun q => ?_⟩
  by_cases z : rc_tv (rf_G A) nb g l < 0
  · exact absurd (Or.inr ⟨z, q⟩) n
  · omega
theorem rn_term {g : Nat → Int} (hn : ∀ l, l < 3 → ¬ re_su (rf_G A) nb g l) (hb : ∀ k, k < 3 → nb k < 3 + c) {l : Nat} (hl : l < 3) (a : Nat → Int) (H : Nat → Int) (hH : ∀ w, 3 ≤ w → H w = a (w - 3)) : (if 3 ≤ nb l ∧ nb l < 3 + c then -rc_tv (rf_G A) nb g l * a (nb l - 3) else 0) = -(rc_tv (rf_G A) nb g l * H (nb l)) := by
  by_cases q : 3 ≤ nb l
  · rw [if_pos ⟨q, hb l hl⟩, hH _ q]; grind
  · rw [if_neg (fun z => q z.1), (rn_no hn hl).2 (by omega), Int.zero_mul]; rfl
theorem rn_sumA (h3 : 3 ≤ u) (hu : u < 3 + c) (hb : ∀ k, k < 3 → nb k < 3 + c) (hn : ∀ l, l < 3 → ¬ re_su (rf_G A) nb (rf_G A u) l) {i : Nat} (hi : i < 3) : rf_sm (fun r => rn_wt (rf_G A) nb u (3 + r) * A r i) c = 0 := by
  have hH : ∀ w, 3 ≤ w → rf_G A w i = (fun r => A r i) (w - 3) := by
    intro w hw
    unfold rf_G
    rw [if_neg (by omega)]
  rw [rn_wtS (fun r => A r i), rn_term hn hb (l := 0) (by omega) (fun r => A r i) (fun w => rf_G A w i) hH, rn_term hn hb (l := 1) (by omega) (fun r => A r i) (fun w => rf_G A w i) hH, rn_term hn hb (l := 2) (by omega) (fun r => A r i) (fun w => rf_G A w i) hH, if_pos ⟨h3, hu⟩, show A (u - 3) i = rf_G A u i from (hH u h3).symm]
  have e : rc_den (rf_G A) nb * rf_G A u i = rc_tv (rf_G A) nb (rf_G A u) 0 * rf_G A (nb 0) i + rc_tv (rf_G A) nb (rf_G A u) 1 * rf_G A (nb 1) i + rc_tv (rf_G A) nb (rf_G A u) 2 * rf_G A (nb 2) i := rb_tcr (rc_B (rf_G A) nb) (rf_G A u) hi
  rw [e]; omega
theorem rn_sumb (h3 : 3 ≤ u) (hu : u < 3 + c) (hb : ∀ k, k < 3 → nb k < 3 + c) (hn : ∀ l, l < 3 → ¬ re_su (rf_G A) nb (rf_G A u) l) : rf_sm (fun r => rn_wt (rf_G A) nb u (3 + r) * b r) c = rc_sl (rf_G A) (rf_L b) nb u := by
  have hH : ∀ w, 3 ≤ w → rf_L b w = b (w - 3) := by
    intro w hw
    unfold rf_L
    rw [if_neg (by omega)]
  rw [rn_wtS b, rn_term hn hb (l := 0) (by omega) b (rf_L b) hH, rn_term hn hb (l := 1) (by omega) b (rf_L b) hH, rn_term hn hb (l := 2) (by omega) b (rf_L b) hH, if_pos ⟨h3, hu⟩, ← hH u h3]
  unfold rc_sl
  rw [rc_vl3]; omega
theorem rn_wtn (g : rc_gd (rf_G A) nb) (hn : ∀ l, l < 3 → ¬ re_su (rf_G A) nb (rf_G A u) l) (w : Nat) : 0 ≤ rn_wt (rf_G A) nb u w := by
  have a0 := (rn_no hn (l := 0) (by omega)).1
  have a1 := (rn_no hn (l := 1) (by omega)).1
  have a2 := (rn_no hn (l := 2) (by omega)).1
  have d := rc_denp g
  unfold rn_wt
  have i : ∀ (a b : Nat) (s : Int), 0 ≤ s → 0 ≤ (if a = b then s else 0) := by
    intro a b s h
    split <;> omega
  have i0 := i w u _ (Int.le_of_lt d)
  have i1 := i w (nb 0) (-rc_tv (rf_G A) nb (rf_G A u) 0) (by omega)
  have i2 := i w (nb 1) (-rc_tv (rf_G A) nb (rf_G A u) 1) (by omega)
  have i3 := i w (nb 2) (-rc_tv (rf_G A) nb (rf_G A u) 2) (by omega)
  omega
/-- the weight is that of the one place where w stands -/
theorem rn_wt1 (g : rc_gd (rf_G A) nb) (hu : ¬ rc_in nb u) : rn_wt (rf_G A) nb u u = rc_den (rf_G A) nb ∧ ∀ l, l < 3 → rn_wt (rf_G A) nb u (nb l) = -rc_tv (rf_G A) nb (rf_G A u) l := by
  have h0 : u ≠ nb 0 := fun z => hu (Or.inl z.symm)
  have h1 : u ≠ nb 1 := fun z => hu (Or.inr (Or.inl z.symm))
  have h2 : u ≠ nb 2 := fun z => hu (Or.inr (Or.inr z.symm))
  have d01 : nb 0 ≠ nb 1 := fun z => absurd (rc_dist g (by omega) (by omega) z) (by omega)
  have d02 : nb 0 ≠ nb 2 := fun z => absurd (rc_dist g (by omega) (by omega) z) (by omega)
  have d12 : nb 1 ≠ nb 2 := fun z => absurd (rc_dist g (by omega) (by omega) z) (by omega)
  unfold rn_wt
  refine ⟨?_, fun l hl => ?_⟩
  · rw [if_pos rfl, if_neg h0, if_neg h1, if_neg h2]; omega
  · rcases rb_lt3 hl with rfl | rfl | rfl
    · rw [if_neg h0.symm, if_pos rfl, if_neg d01, if_neg d02]; omega
    · rw [if_neg h1.symm, if_neg d01.symm, if_pos rfl, if_neg d12]; omega
    · rw [if_neg h2.symm, if_neg d02.symm, if_neg d12.symm, if_pos rfl]; omega
theorem rn_wt0 {w : Nat} (h : w ≠ u) (h' : ¬ rc_in nb w) : rn_wt (rf_G A) nb u w = 0 := by
  unfold rn_wt
  rw [if_neg h, if_neg (fun z => h' (Or.inl z.symm)), if_neg (fun z => h' (Or.inr (Or.inl z.symm))), if_neg (fun z => h' (Or.inr (Or.inr z.symm)))]
  rfl
end
/-! four planes out of the core and the coordinates -/
def rn_sel (c mask : Nat) : Nat → Bool := fun r => decide (r < c) || decide (mask / 2 ^ (r - c) % 2 = 1)
def rn_V (R : Nat → Nat → Int) (c : Nat) (r : Nat) : Nat → Int := if r < c then R r else rb_e (r - c)
def rn_mask (R : Nat → Nat → Int) (c : Nat) : Prop := ∃ mask, mask < 8 ∧ rh_n (rn_sel c mask) (c + 3) = 4 ∧ ∃ q0 q1 q2, q0 < q1 ∧ q1 < q2 ∧ q2 < c + 3 ∧ rn_sel c mask q0 = true ∧ rn_sel c mask q1 = true ∧ rn_sel c mask q2 = true ∧ rb_det (rn_V R c q0) (rn_V R c q1) (rn_V R c q2) ≠ 0
theorem rb_sw01 (u v w : Nat → Int) : rb_det v u w = -rb_det u v w := by unfold rb_det; grind
theorem rb_sw12 (u v w : Nat → Int) : rb_det u w v = -rb_det u v w := by unfold rb_det; grind
theorem rb_eqz01 (u w : Nat → Int) : rb_det u u w = 0 := by unfold rb_det; grind
theorem rb_eqz12 (u w : Nat → Int) : rb_det w u u = 0 := by unfold rb_det; grind
theorem rb_eqz02 (u w : Nat → Int) : rb_det u w u = 0 := by unfold rb_det; grind
/-- three planes in order -/
theorem rn_sort (f : Nat → Nat → Int) (P : Nat → Prop) {a b c : Nat} (ha : P a) (hb : P b) (hc : P c) (h : rb_det (f a) (f b) (f c) ≠ 0) : ∃ x y z, x < y ∧ y < z ∧ P x ∧ P y ∧ P z ∧ rb_det (f x) (f y) (f z) ≠ 0 ∧ (∀ w, (w = x ∨ w = y ∨ w = z) ↔ (w = a ∨ w = b ∨ w = c)) := by
  have ab : a ≠ b := by intro e; rw [e, rb_eqz01] at h; exact h rfl
  have bc : b ≠ c := by intro e; rw [e, rb_eqz12] at h; exact h rfl
  have ac : a ≠ c := by intro e; rw [e, rb_eqz02] at h; exact h rfl
  by_cases p : a < b <;> by_cases q : b < c <;> by_cases r : a < c
  · exact ⟨a, b, c, p, q, ha, hb, hc, h, fun w => Iff.rfl⟩
  · omega
  · exact ⟨a, c, b, r, by omega, ha, hc, hb, by rw [rb_sw12]; omega, fun w => by omega⟩
  · exact ⟨c, a, b, by omega, p, hc, ha, hb, by rw [rb_sw01, rb_sw12]; omega, fun w => by omega⟩
  · exact ⟨b, a, c, by omega, r, hb, ha, hc, by rw [rb_sw01]; omega, fun w => by omega⟩
  · exact ⟨b, c, a, q, by omega, hb, hc, ha, by rw [rb_sw12, rb_sw01]; omega, fun w => by omega⟩
  · omega
  · exact ⟨c, b, a, by omega, by omega, hc, hb, ha, by rw [rb_sw01, rb_sw12, rb_sw01]; omega, fun w => by omega⟩
theorem rn_st1 {u v w : Nat → Int} (h : rb_det u v w ≠ 0) : ∃ i, i < 3 ∧ rb_det u v (rb_e i) ≠ 0 := by
  by_cases a : rb_det u v (rb_e 0) = 0
  · by_cases b : rb_det u v (rb_e 1) = 0
    · refine ⟨2, by omega, fun c => h ?_⟩
      have e : rb_det u v w = w 0 * rb_det u v (rb_e 0) + w 1 * rb_det u v (rb_e 1) + w 2 * rb_det u v (rb_e 2) := by
        simp [rb_det, rb_e] <;> grind
      rw [e, a, b, c]; omega
    · exact ⟨1, by omega, b⟩
  · exact ⟨0, by omega, a⟩
theorem rn_st2 {u v w : Nat → Int} (h : rb_det u v w ≠ 0) : ∃ i j, i < j ∧ j < 3 ∧ rb_det u (rb_e i) (rb_e j) ≠ 0 := by
  have e0 : rb_det u (rb_e 1) (rb_e 2) = u 0 := by simp [rb_det, rb_e]
  have e1 : rb_det u (rb_e 0) (rb_e 2) = -u 1 := by simp [rb_det, rb_e]
  have e2 : rb_det u (rb_e 0) (rb_e 1) = u 2 := by simp [rb_det, rb_e]
  by_cases a : u 0 = 0
  · by_cases b : u 1 = 0
    · refine ⟨0, 1, by omega, by omega, fun c => h ?_⟩
      rw [e2] at c
      unfold rb_det
      rw [a, b, c]; omega
    · exact ⟨0, 2, by omega, by omega, by rw [e1]; omega⟩
  · exact ⟨1, 2, by omega, by omega, by rw [e0]; exact a⟩
end
section
/-! the core and some coordinates have rank three -/
theorem rn_Vr {A : Nat → Nat → Int} {c w : Nat} (h : 3 ≤ w) (h2 : w < 3 + c) : rn_V A c (w - 3) = rf_G A w := by
  unfold rn_V rf_G
  rw [if_pos (by omega), if_neg (by omega)]
theorem rn_Ve {A : Nat → Nat → Int} {c i : Nat} : rn_V A c (c + i) = rb_e i := by
  unfold rn_V
  rw [if_neg (by omega), show c + i - c = i by omega]
theorem rn_selr {c mask r : Nat} (h : r < c) : rn_sel c mask r = true := by
  unfold rn_sel
  simp [h]
theorem rn_mk {A : Nat → Nat → Int} {c mask : Nat} (hm : mask < 8) (h4 : rh_n (rn_sel c mask) (c + 3) = 4) {a b d : Nat} (ha : a < c + 3 ∧ rn_sel c mask a = true) (hb : b < c + 3 ∧ rn_sel c mask b = true) (hd : d < c + 3 ∧ rn_sel c mask d = true) (h : rb_det (rn_V A c a) (rn_V A c b) (rn_V A c d) ≠ 0) : rn_mask A c := by
  obtain ⟨x, y, z, h1, h2, px, py, pz, hD, _⟩ := rn_sort (rn_V A c) (fun q => q < c + 3 ∧ rn_sel c mask q = true) ha hb hd h
  exact ⟨mask, hm, h4, x, y, z, h1, h2, pz.1, px.2, py.2, pz.2, hD⟩
section
variable {c : Nat} {A : Nat → Nat → Int} {nb : Nat → Nat} {u : Nat}
theorem rn_m3 {a b d : Nat} (h3 : 3 ≤ u) (hu : u < 3 + c) (ha : 3 ≤ a ∧ a < 3 + c) (hb : 3 ≤ b ∧ b < 3 + c) (hd : 3 ≤ d ∧ d < 3 + c) (n1 : u ≠ a) (n2 : u ≠ b) (n3 : u ≠ d) (H : ∀ w, 3 ≤ w → w < 3 + c → w = u ∨ w = a ∨ w = b ∨ w = d) (D : rb_det (rf_G A a) (rf_G A b) (rf_G A d) ≠ 0) : rn_mask A c := by
  have ab : a ≠ b := by intro e; rw [e, rb_eqz01] at D; exact D rfl
  have bd : b ≠ d := by intro e; rw [e, rb_eqz12] at D; exact D rfl
  have ad : a ≠ d := by intro e; rw [e, rb_eqz02] at D; exact D rfl
  have hc : c = 4 := by
    by_cases q : 5 ≤ c
    · have w3 := H 3 (by omega) (by omega)
      have w4 := H 4 (by omega) (by omega)
      have w5 := H 5 (by omega) (by omega)
      have w6 := H 6 (by omega) (by omega)
      have w7 := H 7 (by omega) (by omega)
      omega
    · omega
  subst hc
  refine rn_mk (mask := 0) (a := a - 3) (b := b - 3) (d := d - 3) (by omega) (by decide) ⟨by omega, rn_selr (by omega)⟩ ⟨by omega, rn_selr (by omega)⟩ ⟨by omega, rn_selr (by omega)⟩ ?_
  rw [rn_Vr ha.1 ha.2, rn_Vr hb.1 hb.2, rn_Vr hd.1 hd.2]
  exact D
theorem rn_m2 {a b : Nat} {g : Nat → Int} (h3 : 3 ≤ u) (hu : u < 3 + c) (ha : 3 ≤ a ∧ a < 3 + c) (hb : 3 ≤ b ∧ b < 3 + c) (n1 : u ≠ a) (n2 : u ≠ b) (H : ∀ w, 3 ≤ w → w < 3 + c → w = u ∨ w = a ∨ w = b) (D : rb_det (rf_G A a) (rf_G A b) g ≠ 0) : rn_mask A c := by
  have ab : a ≠ b := by intro e; rw [e, rb_eqz01] at D; exact D rfl
  have hc : c = 3 := by
    by_cases q : 4 ≤ c
    · have w3 := H 3 (by omega) (by omega)
      have w4 := H 4 (by omega) (by omega)
      have w5 := H 5 (by omega) (by omega)
      have w6 := H 6 (by omega) (by omega)
      omega
    · omega
  subst hc
  obtain ⟨i, hi, D2⟩ := rn_st1 D
  rw [← rn_Vr ha.1 ha.2, ← rn_Vr hb.1 hb.2, ← rn_Ve (A := A) (c := 3)] at D2
  rcases rb_lt3 hi with rfl | rfl | rfl
  · exact rn_mk (mask := 1) (by omega) (by decide) ⟨by omega, rn_selr (by omega)⟩ ⟨by omega, rn_selr (by omega)⟩ ⟨by omega, by decide⟩ D2
  · exact rn_mk (mask := 2) (by omega) (by decide) ⟨by omega, rn_selr (by omega)⟩ ⟨by omega, rn_selr (by omega)⟩ ⟨by omega, by decide⟩ D2
  · exact rn_mk (mask := 4) (by omega) (by decide) ⟨by omega, rn_selr (by omega)⟩ ⟨by omega, rn_selr (by omega)⟩ ⟨by omega, by decide⟩ D2
theorem rn_m1 {a : Nat} {g h : Nat → Int} (h3 : 3 ≤ u) (hu : u < 3 + c) (ha : 3 ≤ a ∧ a < 3 + c) (n1 : u ≠ a) (H : ∀ w, 3 ≤ w → w < 3 + c → w = u ∨ w = a) (D : rb_det (rf_G A a) g h ≠ 0) : rn_mask A c := by
  have hc : c = 2 := by
    by_cases q : 3 ≤ c
    · have w3 := H 3 (by omega) (by omega)
      have w4 := H 4 (by omega) (by omega)
      have w5 := H 5 (by omega) (by omega)
      omega
    · omega
  subst hc
  obtain ⟨i, j, hij, hj, D2⟩ := rn_st2 D
  rw [← rn_Vr ha.1 ha.2, ← rn_Ve (A := A) (c := 2) (i := i), ← rn_Ve (A := A) (c := 2) (i := j)] at D2
  have cs : (i = 0 ∧ j = 1) ∨ (i = 0 ∧ j = 2) ∨ (i = 1 ∧ j = 2) := by omega
  rcases cs with ⟨rfl, rfl⟩ | ⟨rfl, rfl⟩ | ⟨rfl, rfl⟩
  · exact rn_mk (mask := 3) (by omega) (by decide) ⟨by omega, rn_selr (by omega)⟩ ⟨by omega, by decide⟩ ⟨by omega, by decide⟩ D2
  · exact rn_mk (mask := 5) (by omega) (by decide) ⟨by omega, rn_selr (by omega)⟩ ⟨by omega, by decide⟩ ⟨by omega, by decide⟩ D2
  · exact rn_mk (mask := 6) (by omega) (by decide) ⟨by omega, rn_selr (by omega)⟩ ⟨by omega, by decide⟩ ⟨by omega, by decide⟩ D2
theorem rn_m0 (h3 : 3 ≤ u) (hu : u < 3 + c) (H : ∀ w, 3 ≤ w → w < 3 + c → w = u) : rn_mask A c := by
  have hc : c = 1 := by
    by_cases q : 2 ≤ c
    · have w3 := H 3 (by omega) (by omega)
      have w4 := H 4 (by omega) (by omega)
      omega
    · omega
  subst hc
  refine rn_mk (mask := 7) (a := 1 + 0) (b := 1 + 1) (d := 1 + 2) (by omega) (by decide) ⟨by omega, by decide⟩ ⟨by omega, by decide⟩ ⟨by omega, by decide⟩ ?_
  rw [rn_Ve, rn_Ve, rn_Ve]
  decide
theorem rn_mex (g : rc_gd (rf_G A) nb) (h3 : 3 ≤ u) (hu : u < 3 + c) (hb : ∀ k, k < 3 → nb k < 3 + c) (hin : ¬ rc_in nb u) (hn : ∀ l, l < 3 → ¬ re_su (rf_G A) nb (rf_G A u) l) (hs : ∀ w, 3 ≤ w → w < 3 + c → rn_wt (rf_G A) nb u w ≠ 0) : rn_mask A c := by
  have w1 := rn_wt1 g hin
  have key : ∀ w, 3 ≤ w → w < 3 + c → w = u ∨ ∃ l, l < 3 ∧ w = nb l ∧ rc_tv (rf_G A) nb (rf_G A u) l ≠ 0 := by
    intro w a b
    by_cases e : w = u
    · exact Or.inl e
    · refine Or.inr ?_
      by_cases q : rc_in nb w
      · obtain ⟨l, hl, el⟩ := rc_inE q
        refine ⟨l, hl, el.symm, fun z => hs w a b ?_⟩
        rw [← el, w1.2 l hl, z]; rfl
      · exact absurd (rn_wt0 e q) (hs w a b)
  have row : ∀ l, l < 3 → rc_tv (rf_G A) nb (rf_G A u) l ≠ 0 → 3 ≤ nb l ∧ nb l < 3 + c := by
    intro l hl z
    refine ⟨?_, hb l hl⟩
    by_cases q : nb l < 3
    · exact absurd ((rn_no hn hl).2 q) z
    · omega
  have nu : ∀ l, l < 3 → u ≠ nb l := fun l hl z => hin (z ▸ rc_inI hl)
  have D : rb_det (rf_G A (nb 0)) (rf_G A (nb 1)) (rf_G A (nb 2)) ≠ 0 := g
  have cs : ∀ w, 3 ≤ w → w < 3 + c → w = u ∨ (w = nb 0 ∧ rc_tv (rf_G A) nb (rf_G A u) 0 ≠ 0) ∨ (w = nb 1 ∧ rc_tv (rf_G A) nb (rf_G A u) 1 ≠ 0) ∨ (w = nb 2 ∧ rc_tv (rf_G A) nb (rf_G A u) 2 ≠ 0) := by
    intro w a b
    rcases key w a b with e | ⟨l, hl, e, z⟩
    · exact Or.inl e
    · rcases rb_lt3 hl with rfl | rfl | rfl
      · exact Or.inr (Or.inl ⟨e, z⟩)
      · exact Or.inr (Or.inr (Or.inl ⟨e, z⟩))
      · exact Or.inr (Or.inr (Or.inr ⟨e, z⟩))
  by_cases t0 : rc_tv (rf_G A) nb (rf_G A u) 0 = 0 <;> by_cases t1 : rc_tv (rf_G A) nb (rf_G A u) 1 = 0 <;> by_cases t2 : rc_tv (rf_G A) nb (rf_G A u) 2 = 0
  · exact rn_m0 h3 hu (fun w a b => by have := cs w a b; omega)
  · refine rn_m1 (g := rf_G A (nb 0)) (h := rf_G A (nb 1)) h3 hu (row 2 (by omega) t2) (nu 2 (by omega)) (fun w a b => by have := cs w a b; omega) ?_
    rw [rb_sw01, rb_sw12]; omega
  · refine rn_m1 (g := rf_G A (nb 0)) (h := rf_G A (nb 2)) h3 hu (row 1 (by omega) t1) (nu 1 (by omega)) (fun w a b => by have := cs w a b; omega) ?_
    rw [rb_sw01]; omega
  · refine rn_m2 (g := rf_G A (nb 0)) h3 hu (row 1 (by omega) t1) (row 2 (by omega) t2) (nu 1 (by omega)) (nu 2 (by omega)) (fun w a b => by have := cs w a b; omega) ?_
    rw [rb_sw12, rb_sw01]; omega
  · exact rn_m1 h3 hu (row 0 (by omega) t0) (nu 0 (by omega)) (fun w a b => by have := cs w a b; omega) D
  · refine rn_m2 (g := rf_G A (nb 1)) h3 hu (row 0 (by omega) t0) (row 2 (by omega) t2) (nu 0 (by omega)) (nu 2 (by omega)) (fun w a b => by have := cs w a b; omega) ?_
    rw [rb_sw12]; omega
  · exact rn_m2 h3 hu (row 0 (by omega) t0) (row 1 (by omega) t1) (nu 0 (by omega)) (nu 1 (by omega)) (fun w a b => by have := cs w a b; omega) D
  · exact rn_m3 h3 hu (row 0 (by omega) t0) (row 1 (by omega) t1) (row 2 (by omega) t2) (nu 0 (by omega)) (nu 1 (by omega)) (nu 2 (by omega)) (fun w a b => by have := cs w a b; omega) D
end
end
section
/-! the multipliers: pure -/
def rn_g (z : Nat → Int) : Nat → Nat
  | 0 => 0
  | j + 1 => Int.gcd (rn_g z j) (z j)
theorem rn_gd (z : Nat → Int) : ∀ n j, j < n → (rn_g z n : Int) ∣ z j := by
  intro n
  induction n with
  | zero => intro j hj; omega
  | succ n ih =>
    intro j hj
    by_cases e : j = n
    · subst e
      exact Int.gcd_dvd_right ..
    · exact Int.dvd_trans (Int.gcd_dvd_left ..) (ih j (by omega))
theorem rn_gm {z0 z : Nat → Int} {k : Nat} : ∀ n, (∀ j, j < n → z0 j = (k : Int) * z j) → rn_g z0 n = k * rn_g z n := by
  intro n
  induction n with
  | zero => intro _; rfl
  | succ n ih =>
    intro h
    show Int.gcd (rn_g z0 n) (z0 n) = k * Int.gcd (rn_g z n) (z n)
    rw [ih (fun j hj => h j (by omega)), h n (by omega), Int.natCast_mul, Int.gcd_mul_left]
    rfl
theorem rn_gle {z : Nat → Int} {c : Nat} : ∀ n, (∀ j, j < n → zA (z j) c) → rn_g z n ≤ c := by
  intro n
  induction n with
  | zero => intro _; exact Nat.zero_le _
  | succ n ih =>
    intro h
    have a := ih (fun j hj => h j (by omega))
    have b := h n (by omega)
    show Int.gcd (rn_g z n) (z n) ≤ c
    by_cases e : z n = 0
    · rw [e, Int.gcd_zero_right]; omega
    · have h1 := b.1
      have h2 := b.2
      have : Int.gcd (rn_g z n) (z n) ≤ (z n).natAbs := Nat.le_of_dvd (by omega) (Nat.gcd_dvd_right _ _)
      omega
theorem rn_gpos {z : Nat → Int} : ∀ n, (∃ j, j < n ∧ z j ≠ 0) → 0 < rn_g z n := by
  intro n
  rintro ⟨j, hj, hz⟩
  by_cases c : rn_g z n = 0
  · have := rn_gd z n j hj
    rw [c] at this
    exact absurd (Int.zero_dvd.mp this) hz
  · omega
def rn_M (n : Nat) (C F K W : Nat → Int32) (p : Nat → Bool) (z : Nat → Int) : Prop :=
  (∀ j, j < n → zA (z j) 48000) ∧ (∀ j, j < n → p j = true → 0 < z j) ∧ (∀ j, j < n → p j ≠ true → z j = 0) ∧ (∀ l, l < 3 → rf_sm (fun j => z j * rh_bA C F K j l) n = 0) ∧ rn_g z n = 1 ∧ ∃ A V Q, rh_L p n C F K W A V Q ∧ rn_mask A (rh_n p n)
theorem rf_smM (f : Nat → Int) (k : Int) (n : Nat) : rf_sm (fun j => k * f j) n = k * rf_sm f n := by
  induction n with
  | zero => show (0 : Int) = k * 0; omega
  | succ n ih =>
    show rf_sm (fun j => k * f j) n + k * f n = k * (rf_sm f n + f n)
    rw [ih]; grind
def rn_z0 (G : Nat → Nat → Int) (nb : Nat → Nat) (u : Nat) (p : Nat → Bool) (j : Nat) : Int := if p j = true then rn_wt G nb u (3 + rh_n p j) else 0
theorem rn_fin {v n c : Nat} {C F K W : Nat → Int32} {p : Nat → Bool} {A : Nat → Nat → Int} {V Q : Nat → Int} {cc : Nat → Int} {nb bs : Nat → Nat} {r : Nat} {xde : Int64} {xta : Nat → Int64} {xba xnb : Nat → Int32} (hc : c = rh_n p n) (hS : rg_S v c A V Q) (hL : rh_L p n C F K W A V Q) (hT : rg_T v c A cc nb bs xde xta xba xnb) (hX : rg_X c A V Q nb bs r) (hmin : ∀ j, j < n → p j = true → rm_ft n C F K W (rm_rm p j)) :
    (∀ j, j < n → zA (rn_z0 (rf_G A) nb (bs r) p j) 48000) ∧ 0 < rn_g (rn_z0 (rf_G A) nb (bs r) p) n ∧ rn_M n C F K W p (fun j => rn_z0 (rf_G A) nb (bs r) p j / (rn_g (rn_z0 (rf_G A) nb (bs r) p) n : Int)) := by
  have hv := hS.2.1
  obtain ⟨hr, h3, hs, hn⟩ := hX
  obtain ⟨_, okr, nin⟩ := hT.2.2.2.1 r hr
  have hu := rg_okl hv okr
  have hb := rg_Nl hv hT.2.2.1
  have hG := fun k hk => rg_Gb hS (hb k hk)
  have g := hT.1
  have nn : ∀ j, 0 ≤ rn_z0 (rf_G A) nb (bs r) p j := by
    intro j
    unfold rn_z0
    by_cases q : p j = true
    · rw [if_pos q]; exact rn_wtn g hn _
    · rw [if_neg q]; exact Int.le_refl 0
  have hz0 : ∀ j, p j ≠ true → rn_z0 (rf_G A) nb (bs r) p j = 0 := fun j q => if_neg q
  have w1 := rn_wt1 g nin
  have bd : ∀ w, rn_wt (rf_G A) nb (bs r) w ≤ 48000 := by
    intro w
    by_cases e : w = bs r
    · rw [e, w1.1]; exact (rg_deb hG).2
    · by_cases q : rc_in nb w
      · obtain ⟨l, hl, el⟩ := rc_inE q
        rw [← el, w1.2 l hl]
        have := (rg_tvb hG (rg_Gb hS hu) l).1
        omega
      · rw [rn_wt0 e q]; omega
  have zb : ∀ j, j < n → zA (rn_z0 (rf_G A) nb (bs r) p j) 48000 := by
    intro j _
    refine ⟨by have := nn j; omega, ?_⟩
    unfold rn_z0
    by_cases q : p j = true
    · rw [if_pos q]; exact bd _
    · rw [if_neg q]; omega
  have sA : ∀ l, l < 3 → rf_sm (fun j => rn_z0 (rf_G A) nb (bs r) p j * rh_bA C F K j l) n = 0 := by
    intro l hl
    have := rn_sumA (A := A) (nb := nb) h3 hu hb hn hl
    rw [hc, ← rn_rows p] at this
    rw [← this]
    refine rf_smC n (fun j hj => ?_)
    unfold rn_z0
    by_cases q : p j = true
    · rw [if_pos q, if_pos q, (hL j hj q).1]
    · rw [if_neg q, if_neg q, Int.zero_mul]
  have sb : rf_sm (fun j => rn_z0 (rf_G A) nb (bs r) p j * rm_bb K W j) n < 0 := by
    have := rn_sumb (A := A) (nb := nb) (b := rg_b V Q) h3 hu hb hn
    rw [hc, ← rn_rows p] at this
    refine Int.lt_of_le_of_lt (Int.le_of_eq ?_) hs
    rw [← this]
    refine rf_smC n (fun j hj => ?_)
    unfold rn_z0
    by_cases q : p j = true
    · rw [if_pos q, if_pos q]
      unfold rg_b rm_bb
      rw [(hL j hj q).2.1, (hL j hj q).2.2]
    · rw [if_neg q, if_neg q, Int.zero_mul]
  have sup : ∀ j, j < n → p j = true → 0 < rn_z0 (rf_G A) nb (bs r) p j := by
    intro j hj q
    by_cases e : rn_z0 (rf_G A) nb (bs r) p j = 0
    · exact absurd (hmin j hj q) (rm_cert j _ (fun i _ => nn i) (fun i _ => hz0 i) e sA sb)
    · have := nn j; omega
  have gpos : 0 < rn_g (rn_z0 (rf_G A) nb (bs r) p) n := by
    obtain ⟨j, hj, q, _⟩ := rh_nE p n r (by omega)
    refine rn_gpos n ⟨j, hj, ?_⟩
    have := sup j hj q
    omega
  refine ⟨zb, gpos, ?_⟩
  have dv : ∀ j, j < n → rn_z0 (rf_G A) nb (bs r) p j = (rn_g (rn_z0 (rf_G A) nb (bs r) p) n : Int) * (rn_z0 (rf_G A) nb (bs r) p j / (rn_g (rn_z0 (rf_G A) nb (bs r) p) n : Int)) := fun j hj => (Int.mul_ediv_cancel' (rn_gd _ n j hj)).symm
  have gm := rn_gm (k := rn_g (rn_z0 (rf_G A) nb (bs r) p) n) n dv
  generalize hg : rn_g (rn_z0 (rf_G A) nb (bs r) p) n = gg at *
  refine ⟨fun j hj => ?_, fun j hj q => ?_, fun j hj q => ?_, fun l hl => ?_, ?_, A, V, Q, hL, ?_⟩
  · have a := nn j
    have b := (zb j hj).2
    have e1 : 0 ≤ rn_z0 (rf_G A) nb (bs r) p j / (gg : Int) := Int.ediv_nonneg a (by omega)
    have e2 : rn_z0 (rf_G A) nb (bs r) p j / (gg : Int) ≤ rn_z0 (rf_G A) nb (bs r) p j := Int.ediv_le_self _ a
    show zA (rn_z0 (rf_G A) nb (bs r) p j / (gg : Int)) 48000
    exact ⟨by omega, by omega⟩
  · have a := sup j hj q
    have b := dv j hj
    by_cases e : 0 < rn_z0 (rf_G A) nb (bs r) p j / (gg : Int)
    · exact e
    · have := Int.mul_nonpos_of_nonneg_of_nonpos (show (0 : Int) ≤ (gg : Int) by omega) (show rn_z0 (rf_G A) nb (bs r) p j / (gg : Int) ≤ 0 by omega)
      omega
  · show rn_z0 (rf_G A) nb (bs r) p j / (gg : Int) = 0
    rw [hz0 j q, Int.zero_ediv]
  · have e := sA l hl
    have e2 : rf_sm (fun j => rn_z0 (rf_G A) nb (bs r) p j * rh_bA C F K j l) n = (gg : Int) * rf_sm (fun j => rn_z0 (rf_G A) nb (bs r) p j / (gg : Int) * rh_bA C F K j l) n := by
      rw [← rf_smM]
      refine rf_smC n (fun j hj => ?_)
      rw [← Int.mul_assoc, ← dv j hj]
    rw [e2] at e
    rcases Int.mul_eq_zero.mp e with q | q
    · omega
    · exact q
  · exact Nat.eq_of_mul_eq_mul_left gpos (by rw [← gm, Nat.mul_one])
  · rw [← hc]
    refine rn_mex g h3 hu hb nin hn (fun w a b => ?_)
    obtain ⟨j, hj, q, ej⟩ := rh_nE p n (w - 3) (by omega)
    have := sup j hj q
    unfold rn_z0 at this
    rw [if_pos q, ej, show 3 + (w - 3) = w by omega] at this
    omega
end
section
/-! readMultipliers, extractCore -/
def rn_mu (p : Nat → Bool) (n : Nat) (xmu : Nat → Int64) (w : Nat → Int) : Prop := ∀ j, j < n → xmu j = zL (if p j = true then w (3 + rh_n p j) else 0)
def rn_wk (G : Nat → Nat → Int) (nb : Nat → Nat) (u k w : Nat) : Int := (if w = u then rc_den G nb else 0) + rf_sm (fun l => if w = nb l then -rc_tv G nb (G u) l else 0) k
section
variable {v n nf c r : Nat} {p : Nat → Bool} {A : Nat → Nat → Int} {V Q : Nat → Int} {cc : Nat → Int} {nb bs : Nat → Nat} {z : Nat → Int}
variable {xmf xmb xml xfo xol xst xps xcc xho xof xos : Int32} {xpd xto xon xod xde xsp xsq xlp xlq xpn xpe : Int64} {xco xbf xbk xbv xbl xke xro xba xnb : Nat → Int32} {xpp xpq xmu xcf xrv xrd xta : Nat → Int64}
theorem xw_sm {post : SX → Prop} {w : Nat} {s : Int} {f f' : Nat → Int} (hv : v ≤ 3) (hn : n ≤ 10) (hc : c = rh_n p n) (hw : rg_ok v c w) (hO : ∀ j, j < n → p j = true → xro (rh_n p j) = nI j) (hmu : rn_mu p n xmu f) (hf : ∀ w', 3 ≤ w' → f' w' = if w' = w then s else f w') (K : ∀ xmu, rn_mu p n xmu f' → post (nI v, xmf, xmb, xml, xfo, nI n, xol, xst, xpd, xps, xcc, xto, xho, xon, xod, nI c, xof, xos, xde, nI r, xsp, xsq, xlp, xlq, xpn, xpe, xco, xbf, xbk, xbv, xbl, xpp, xpq, xmu, xke, xcf, xrv, xrd, xro, xta, xba, xnb)) : wpX_setMultiplier post (nI v, xmf, xmb, xml, xfo, nI n, xol, xst, xpd, xps, xcc, xto, xho, xon, xod, nI c, xof, xos, xde, nI r, xsp, xsq, xlp, xlq, xpn, xpe, xco, xbf, xbk, xbv, xbl, xpp, xpq, xmu, xke, xcf, xrv, xrd, xro, xta, xba, xnb) (nI (rg_c v w)) (zL s) := by
  have hcn := rh_nle p n
  rcases hw with h | ⟨h, h'⟩
  · refine nm_e (br_t (rg_vr h hv) (K _ (fun j hj => ?_)))
    rw [hmu j hj, hf (3 + rh_n p j) (by omega), if_neg (show ¬ 3 + rh_n p j = w by omega)]
  · obtain ⟨i, hi, pi, ei⟩ := rh_nE p n (w - 3) (by omega)
    have eo := hO i hi pi
    refine nm_r (rg_rw h h' (by omega) hv) (br_f (nI_pos (by omega)) (And.intro (vp_in_nI (by omega) (by omega)) ?_))
    rw [nI_clamp (show w - 3 < 2 ^ 31 by omega), ← ei, eo]
    refine br_f (nI_pos (by omega)) (And.intro (vp_in_nI (by omega) (by omega)) (And.intro (vp_in_nI (by omega) (by omega)) ?_))
    rw [nI_clamp (show i < 2 ^ 31 by omega)]
    refine nm_e (K _ (fun j hj => ?_))
    by_cases e : j = i
    · subst e
      rw [pk_uLs, if_pos pi, hf _ (by omega), if_pos (by omega)]
    · rw [pk_uLn e, hmu j hj]
      by_cases q : p j = true
      · rw [if_pos q, if_pos q, hf _ (by omega), if_neg ?_]
        intro z
        by_cases l : j < i
        · have := rh_nlt l q; omega
        · have := rh_nlt (show i < j by omega) pi; omega
      · rw [if_neg q, if_neg q]
theorem xw_rm127 {post : SX → Prop} {g : Int} (hB : rh_B nf n xbf xbk xbv) (hg : 0 < g) (hgB : zB g) (hz : ∀ j, j < n → zA (z j) 48000) (hzn : ∀ j, j < n → 0 ≤ z j / g ∧ z j / g ≤ 48000 ∧ z j = z j / g * g) (hzp : ∀ j, j < n → (p j = true ↔ z j / g ≠ 0))
    (K : ∀ xmu, (∀ j, j < n → xmu j = zL (z j / g)) → post (nI v, xmf, xmb, xml, xfo, nI n, xol, xst, xpd, xps, nI (rh_n p n), zL (rf_sm (fun j => z j / g * rh_bV xbk xbv j) n), xho, xon, xod, nI c, xof, xos, xde, nI r, xsp, xsq, xlp, xlq, xpn, xpe, xco, xbf, xbk, xbv, xbl, xpp, xpq, xmu, xke, xcf, xrv, xrd, xro, xta, xba, xnb)) :
    ∀ d j fu xmu, j + d = n → d < fu → (∀ i, i < j → xmu i = zL (z i / g)) → (∀ i, j ≤ i → i < n → xmu i = zL (z i)) → wX_readMultipliers_127 post (zL g) (nI v) xmf xmb xml xfo (nI n) xol xst xpd xps xho xon xod (nI c) xof xos xde (nI r) xsp xsq xlp xlq xpn xpe fu (nI j) (nI (rh_n p j)) (zL (rf_sm (fun j => z j / g * rh_bV xbk xbv j) j)) xco xbf xbk xbv xbl xpp xpq xmu xke xcf xrv xrd xro xta xba xnb := by
  have hn := hB.1
  intro d
  induction d with
  | zero =>
    intro j fu xmu hj hf h1 h2
    obtain ⟨fu, rfl⟩ : ∃ n', fu = n' + 1 := ⟨fu - 1, by omega⟩
    have e : j = n := by omega
    subst e
    exact br_t (nI_le (by omega) (by omega)) (K _ h1)
  | succ d ih =>
    intro j fu xmu hj hf h1 h2
    obtain ⟨fu, rfl⟩ : ∃ n', fu = n' + 1 := ⟨fu - 1, by omega⟩
    obtain ⟨f1, f2, k1, k2, w1⟩ := hB.2 j (by omega)
    obtain ⟨q1, q2, q3⟩ := hzn j (by omega)
    have hx : vp_in (nI j) 10 := vp_in_nI (by omega) (by omega)
    have zB' : zB (z j / g) := by unfold zB; omega
    have go : ∀ xmu, (∀ i, i < j + 1 → xmu i = zL (z i / g)) → (∀ i, j + 1 ≤ i → i < n → xmu i = zL (z i)) → wX_readMultipliers_155 post (wX_readMultipliers_127 post (zL g) (nI v) xmf xmb xml xfo (nI n) xol xst xpd xps xho xon xod (nI c) xof xos xde (nI r) xsp xsq xlp xlq xpn xpe fu) (zL g) (nI j) (nI v) xmf xmb xml xfo (nI n) xol xst xpd xps (nI (rh_n p j)) (zL (rf_sm (fun j => z j / g * rh_bV xbk xbv j) j)) xho xon xod (nI c) xof xos xde (nI r) xsp xsq xlp xlq xpn xpe xco xbf xbk xbv xbl xpp xpq xmu xke xcf xrv xrd xro xta xba xnb := by
      intro xmu h1 h2
      have ih' := ih (j + 1) fu xmu (by omega) (by omega) h1 h2
      have fin : ∀ cn : Nat, cn = rh_n p (j + 1) → wX_readMultipliers_176 post (wX_readMultipliers_127 post (zL g) (nI v) xmf xmb xml xfo (nI n) xol xst xpd xps xho xon xod (nI c) xof xos xde (nI r) xsp xsq xlp xlq xpn xpe fu) (zL g) (nI j) (nI v) xmf xmb xml xfo (nI n) xol xst xpd xps (nI cn) (zL (rf_sm (fun j => z j / g * rh_bV xbk xbv j) j)) xho xon xod (nI c) xof xos xde (nI r) xsp xsq xlp xlq xpn xpe xco xbf xbk xbv xbl xpp xpq xmu xke xcf xrv xrd xro xta xba xnb := by
        intro cn ec
        unfold wX_readMultipliers_176
        refine And.intro hx (And.intro hx ?_)
        rw [nI_clamp (show j < 2 ^ 31 by omega), k1]
        refine xw_sign k2 (And.intro hx ?_)
        rw [h1 j (by omega), zI_L (by have := rh_s1 (rh_N xbk j); unfold zb; omega), zI_of (xbv j), zI_L (zA_b w1 (by omega)), zL_mul, zL_mul, zL_add, Int.mul_assoc]
        refine nm_e (nm_r (nI_1 j) ?_)
        rw [ec]
        exact ih'
      unfold wX_readMultipliers_155
      refine And.intro hx ?_
      rw [nI_clamp (show j < 2 ^ 31 by omega), h1 j (by omega), show (0 : Int64) = zL 0 from rfl, zL_eq zB' zB_0]
      refine br_c (fun h => fin _ ?_) (fun h => nm_r (nI_1 _) (fin _ ?_))
      · rw [rh_nN (fun q => (hzp j (by omega)).mp q h)]
      · rw [rh_nS ((hzp j (by omega)).mpr h)]
    refine br_f (nI_ge (by omega) (by omega)) ?_
    rw [show (1 : Int64) = zL 1 from rfl, zL_le hgB zB_1]
    refine br_c (fun h => go _ ?_ (fun i a b => h2 i (by omega) b)) (fun h => And.intro hx (And.intro ?_ (And.intro hx ?_)))
    · intro i hi
      by_cases e : i = j
      · subst e
        rw [h2 i (by omega) (by omega), show g = 1 by omega, Int.ediv_one]
      · exact h1 i (by omega)
    · rw [show (0 : Int64) = zL 0 from rfl, zL_eq hgB zB_0]; omega
    · rw [nI_clamp (show j < 2 ^ 31 by omega), h2 j (by omega) (by omega), zL_div (zA_B (hz j (by omega)) (by omega)) hgB (by omega) q3]
      refine nm_e (go _ ?_ ?_)
      · intro i hi
        by_cases e : i = j
        · rw [e, pk_uLs]
        · rw [pk_uLn e]; exact h1 i (by omega)
      · intro i a b
        rw [pk_uLn (by omega)]; exact h2 i (by omega) b
theorem xw_rm89 {post : SX → Prop} (hB : rh_B nf n xbf xbk xbv) (hz : ∀ j, j < n → zA (z j) 48000) (hmu : ∀ j, j < n → xmu j = zL (z j)) (K : ∃ fu, wX_readMultipliers_127 post (zL (rn_g z n : Int)) (nI v) xmf xmb xml xfo (nI n) xol xst xpd xps xho xon xod (nI c) xof xos xde (nI r) xsp xsq xlp xlq xpn xpe fu 0 0 0 xco xbf xbk xbv xbl xpp xpq xmu xke xcf xrv xrd xro xta xba xnb) :
    ∀ d j fu, j + d = n → d < fu → wX_readMultipliers_89 post (nI v) xmf xmb xml xfo (nI n) xol xst xpd xps xcc xto xho xon xod (nI c) xof xos xde (nI r) xsp xsq xlp xlq xpn xpe xco xbf xbk xbv xbl xpp xpq xmu xke xcf xrv xrd xro xta xba xnb fu (zL (rn_g z j : Int)) (nI j) := by
  have hn := hB.1
  intro d
  induction d with
  | zero =>
    intro j fu hj hf
    obtain ⟨fu, rfl⟩ : ∃ n', fu = n' + 1 := ⟨fu - 1, by omega⟩
    have e : j = n := by omega
    subst e
    exact br_t (nI_le (by omega) (by omega)) K
  | succ d ih =>
    intro j fu hj hf
    obtain ⟨fu, rfl⟩ : ∃ n', fu = n' + 1 := ⟨fu - 1, by omega⟩
    have hl := rn_gle (z := z) (c := 48000) j (fun i hi => hz i (by omega))
    have hzj := hz j (by omega)
    refine br_f (nI_ge (by omega) (by omega)) (And.intro (vp_in_nI (by omega) (by omega)) ?_)
    rw [nI_clamp (show j < 2 ^ 31 by omega), hmu j (by omega)]
    refine xw_gcd (by unfold zB; omega) (zA_B hzj (by omega)) ?_ (nm_r (nI_1 j) (ih (j + 1) fu (by omega) (by omega)))
    have h1 := hzj.1
    have h2 := hzj.2
    have : ((rn_g z j : Nat) : Int).natAbs * (z j).natAbs ≤ 48000 * 48000 := Nat.mul_le_mul (by omega) (by omega)
    exact Nat.lt_of_le_of_lt this (by decide)
theorem xw_rm47 {post : SX → Prop} (hn : n ≤ 10) (hc : c = rh_n p n) (hS : rg_S v c A V Q) (hT : rg_T v c A cc nb bs xde xta xba xnb) (hr : r < c) (hO : ∀ j, j < n → p j = true → xro (rh_n p j) = nI j)
    (K : ∀ xmu, rn_mu p n xmu (fun w => rn_wk (rf_G A) nb (bs r) v w) → ∃ fu, wX_readMultipliers_89 post (nI v) xmf xmb xml xfo (nI n) xol xst xpd xps xcc xto xho xon xod (nI c) xof xos xde (nI r) xsp xsq xlp xlq xpn xpe xco xbf xbk xbv xbl xpp xpq xmu xke xcf xrv xrd xro xta xba xnb fu 0 0) :
    ∀ d k fu xmu, k + d = v → d < fu → rn_mu p n xmu (fun w => rn_wk (rf_G A) nb (bs r) k w) → wX_readMultipliers_47 post fu (nI k) (nI v) xmf xmb xml xfo (nI n) xol xst xpd xps xcc xto xho xon xod (nI c) xof xos xde (nI r) xsp xsq xlp xlq xpn xpe xco xbf xbk xbv xbl xpp xpq xmu xke xcf xrv xrd xro xta xba xnb := by
  have hv := hS.2.1
  have hcn := rh_nle p n
  intro d
  induction d with
  | zero =>
    intro k fu xmu hk hf h
    obtain ⟨fu, rfl⟩ : ∃ n', fu = n' + 1 := ⟨fu - 1, by omega⟩
    have e : k = v := by omega
    subst e
    exact br_t (nI_le (by omega) (by omega)) (K _ h)
  | succ d ih =>
    intro k fu xmu hk hf h
    obtain ⟨fu, rfl⟩ : ∃ n', fu = n' + 1 := ⟨fu - 1, by omega⟩
    obtain ⟨ek, ok⟩ := hT.2.2.1.1 k (by omega)
    obtain ⟨_, _, nin⟩ := hT.2.2.2.1 r hr
    refine br_f (nI_ge (by omega) (by omega)) (And.intro (vp_in_nI (by omega) (by omega)) (And.intro (xw_in (by omega) (by omega)) ?_))
    rw [nI_clamp (show k < 2 ^ 31 by omega), ek, xw_cl (show 3 * r + k < 2 ^ 31 by omega), hT.2.2.2.2.2.2.1 r hr k (by omega), zL_neg]
    refine xw_sm (f' := fun w => rn_wk (rf_G A) nb (bs r) (k + 1) w) hv hn hc ok hO h (fun w hw => ?_) (fun xmu h2 => nm_r (nI_1 k) (ih (k + 1) fu _ (by omega) (by omega) h2))
    show (if w = bs r then rc_den (rf_G A) nb else 0) + (rf_sm (fun l => if w = nb l then -rc_tv (rf_G A) nb (rf_G A (bs r)) l else 0) k + (if w = nb k then -rc_tv (rf_G A) nb (rf_G A (bs r)) k else 0)) = _
    by_cases e : w = nb k
    · have z1 : ¬ w = bs r := fun q => nin (by rw [← q, e]; exact rc_inI (by omega))
      have z2 : rf_sm (fun l => if w = nb l then -rc_tv (rf_G A) nb (rf_G A (bs r)) l else 0) k = 0 := by
        have : rf_sm (fun l => if w = nb l then -rc_tv (rf_G A) nb (rf_G A (bs r)) l else 0) k = rf_sm (fun _ => 0) k := by
          refine rf_smC k (fun l hl => if_neg (fun q => ?_))
          have := rc_dist hT.1 (k := l) (l := k) (by omega) (by omega) (by rw [← q, e])
          omega
        rw [this]
        have zs : ∀ m, rf_sm (fun _ => 0) m = 0 := by
          intro m
          induction m with
          | zero => rfl
          | succ m ihm => show rf_sm (fun _ => 0) m + 0 = 0; rw [ihm]; rfl
        exact zs k
      rw [if_pos e, if_pos e, if_neg z1, z2]; omega
    · rw [if_neg e, if_neg e, Int.add_zero]
      rfl
theorem xw_rm2 {post : SX → Prop} (hn : n ≤ 10) (hr : r < 20) (K : ∀ xmu : Nat → Int64, (∀ j, j < 10 → xmu j = 0) → wpX_setMultiplier (fun u => match u with | (xv, xmf, xmb, xml, xfo, xbo, xol, xst, xpd, xps, xcc, xto, xho, xon, xod, xrc, xof, xos, xde, xcr, xsp, xsq, xlp, xlq, xpn, xpe, xco, xbf, xbk, xbv, xbl, xpp, xpq, xmu, xke, xcf, xrv, xrd, xro, xta, xba, xnb) => ∃ n47 : Nat, wX_readMultipliers_47 post n47 0 xv xmf xmb xml xfo xbo xol xst xpd xps xcc xto xho xon xod xrc xof xos xde xcr xsp xsq xlp xlq xpn xpe xco xbf xbk xbv xbl xpp xpq xmu xke xcf xrv xrd xro xta xba xnb) (nI v, xmf, xmb, xml, xfo, nI n, xol, xst, xpd, xps, xcc, xto, xho, xon, xod, nI c, xof, xos, xde, nI r, xsp, xsq, xlp, xlq, xpn, xpe, xco, xbf, xbk, xbv, xbl, xpp, xpq, xmu, xke, xcf, xrv, xrd, xro, xta, xba, xnb) (xba r) xde) :
    ∀ d j fu (xmu : Nat → Int64), j + d = 10 → d < fu → (∀ i, i < j → xmu i = 0) → wX_readMultipliers_2 post (nI v) xmf xmb xml xfo (nI n) xol xst xpd xps xcc xto xho xon xod (nI c) xof xos xde (nI r) xsp xsq xlp xlq xpn xpe fu (nI j) xco xbf xbk xbv xbl xpp xpq xmu xke xcf xrv xrd xro xta xba xnb := by
  intro d
  induction d with
  | zero =>
    intro j fu xmu hj hf h
    obtain ⟨fu, rfl⟩ : ∃ n', fu = n' + 1 := ⟨fu - 1, by omega⟩
    have e : j = 10 := by omega
    subst e
    refine br_t (by decide) (br_f (nI_pos (by omega)) (And.intro (vp_in_nI (by omega) (by omega)) ?_))
    rw [nI_clamp (show r < 2 ^ 31 by omega)]
    exact K _ h
  | succ d ih =>
    intro j fu xmu hj hf h
    obtain ⟨fu, rfl⟩ : ∃ n', fu = n' + 1 := ⟨fu - 1, by omega⟩
    refine br_f (nI_ge (b := 10) (by omega) (by decide)) (And.intro (vp_in_nI (by omega) (by omega)) ?_)
    rw [nI_clamp (show j < 2 ^ 31 by omega)]
    refine nm_e (nm_r (nI_1 j) (ih (j + 1) fu _ (by omega) (by omega) (fun i hi => ?_)))
    by_cases e : i = j
    · rw [e, pk_uLs]
    · rw [pk_uLn e]; exact h i (by omega)
theorem rn_wkv (hv : v ≤ 3) (hN : rg_N v c nb xnb) {u w : Nat} (hw : 3 ≤ w) : rn_wk (rf_G A) nb u v w = rn_wt (rf_G A) nb u w := by
  unfold rn_wk rn_wt
  rw [rf_sm3 hv (fun l l1 l2 => if_neg (by have := hN.2 l l1 l2; omega))]
  omega
theorem xw_rmul {post : SX → Prop} (hC : rh_C v nf xco) (hB : rh_B nf n xbf xbk xbv) (hc : c = rh_n p n) (hS : rg_S v c A V Q) (hL : rh_L p n xco xbf xbk xbv A V Q) (hT : rg_T v c A cc nb bs xde xta xba xnb) (hX : rg_X c A V Q nb bs r) (hO : ∀ j, j < n → p j = true → xro (rh_n p j) = nI j) (hmin : ∀ j, j < n → p j = true → rm_ft n xco xbf xbk xbv (rm_rm p j))
    (K : ∀ xmu z, rn_M n xco xbf xbk xbv p z → (∀ j, j < n → xmu j = zL (z j)) → post (nI v, xmf, xmb, xml, xfo, nI n, xol, xst, xpd, xps, nI (rh_n p n), zL (rf_sm (fun j => z j * rh_bV xbk xbv j) n), xho, xon, xod, nI c, xof, xos, xde, nI r, xsp, xsq, xlp, xlq, xpn, xpe, xco, xbf, xbk, xbv, xbl, xpp, xpq, xmu, xke, xcf, xrv, xrd, xro, xta, xba, xnb)) : wpX_readMultipliers post (nI v, xmf, xmb, xml, xfo, nI n, xol, xst, xpd, xps, xcc, xto, xho, xon, xod, nI c, xof, xos, xde, nI r, xsp, xsq, xlp, xlq, xpn, xpe, xco, xbf, xbk, xbv, xbl, xpp, xpq, xmu, xke, xcf, xrv, xrd, xro, xta, xba, xnb) := by
  have hv := hS.2.1
  have hn := hB.1
  have hcn := rh_nle p n
  obtain ⟨zb, gp, hM⟩ := rn_fin hc hS hL hT hX hmin
  obtain ⟨er, okr, nin⟩ := hT.2.2.2.1 r hX.1
  have hr := hX.1
  refine ⟨11, xw_rm2 hn (by omega) (fun xmu h0 => ?_) 10 0 11 _ (by omega) (by omega) (fun i hi => absurd hi (by omega))⟩
  rw [er, hT.2.1]
  refine xw_sm (p := p) (f := fun _ => 0) (f' := fun w => rn_wk (rf_G A) nb (bs r) 0 w) hv hn hc okr hO ?_ (fun w hw => ?_) (fun xmu h1 => ?_)
  · intro j hj
    rw [h0 j (by omega)]
    by_cases q : p j = true
    · rw [if_pos q]; rfl
    · rw [if_neg q]; rfl
  · show (if w = bs r then rc_den (rf_G A) nb else 0) + 0 = _
    rw [Int.add_zero]
  · rw [← hT.2.1]
    refine ⟨v + 1, xw_rm47 hn hc hS hT hr hO (fun xmu h2 => ?_) v 0 (v + 1) _ (by omega) (by omega) h1⟩
    have hmu : ∀ j, j < n → xmu j = zL (rn_z0 (rf_G A) nb (bs r) p j) := by
      intro j hj
      rw [h2 j hj]
      unfold rn_z0
      by_cases q : p j = true
      · rw [if_pos q, if_pos q]
        exact congrArg zL (rn_wkv hv hT.2.2.1 (by omega))
      · rw [if_neg q, if_neg q]
    have gl := rn_gle (z := rn_z0 (rf_G A) nb (bs r) p) (c := 48000) n zb
    refine ⟨n + 1, xw_rm89 hB zb hmu ⟨n + 1, xw_rm127 (z := rn_z0 (rf_G A) nb (bs r) p) (p := p) hB (by omega) (by unfold zB; omega) zb (fun j hj => ?_) (fun j hj => ?_) (fun xmu h3 => K xmu _ hM h3) n 0 (n + 1) _ (by omega) (by omega) (fun i hi => absurd hi (by omega)) (fun i _ hi => hmu i hi)⟩ n 0 (n + 1) (by omega) (by omega)⟩
    · have a := hM.1 j hj
      have b := hM.2.1 j hj
      have d := hM.2.2.1 j hj
      have e := (Int.ediv_mul_cancel (rn_gd (rn_z0 (rf_G A) nb (bs r) p) n j hj)).symm
      by_cases q : p j = true
      · have := b q
        dsimp only at this
        exact ⟨by omega, a.2, e⟩
      · have := d q
        dsimp only at this
        exact ⟨by omega, a.2, e⟩
    · have b := hM.2.1 j hj
      have d := hM.2.2.1 j hj
      constructor
      · intro q z
        have := b q
        dsimp only at this
        omega
      · intro q
        by_cases w : p j = true
        · exact w
        · exact absurd (d w) q
end
section
variable {v n nf of : Nat} {σ : Int}
variable {xmf xmb xml xfo xol xst xps xcc xho xrc xcr : Int32} {xpd xto xon xod xde xsp xsq xlp xlq xpn xpe : Int64} {xco xbf xbk xbv xbl xke xro xba xnb : Nat → Int32} {xpp xpq xmu xcf xrv xrd xta : Nat → Int64}
/-- findFeasible over the bounds that are kept -/
theorem xw_ffk {post : Int32 → SX → Prop} {p : Nat → Bool} {A : Nat → Nat → Int} {V Q : Nat → Int} (hC : rh_C v nf xco) (hof : of < nf) (hσ : zA σ 1) (hLd : rg_Ld v (rh_n p n) A V Q xcf xrv xrd) (hL : rh_L p n xco xbf xbk xbv A V Q)
    (K1 : ∀ nb bs xde xta xba xnb xsp xsq xlp xlq, rg_T v (rh_n p n) A (fun l => σ * (xco (3 * of + l)).toInt) nb bs xde xta xba xnb → rg_F (rh_n p n) A V Q nb → rm_ft n xco xbf xbk xbv p → post 1 (nI v, xmf, xmb, xml, xfo, nI n, xol, xst, xpd, xps, xcc, xto, xho, xon, xod, nI (rh_n p n), nI of, zI σ, xde, -1, xsp, xsq, xlp, xlq, xpn, xpe, xco, xbf, xbk, xbv, xbl, xpp, xpq, xmu, xke, xcf, xrv, xrd, xro, xta, xba, xnb))
    (K0 : ∀ nb bs xde xta xba xnb xsp xsq xlp xlq r, rg_T v (rh_n p n) A (fun l => σ * (xco (3 * of + l)).toInt) nb bs xde xta xba xnb → rg_X (rh_n p n) A V Q nb bs r → ¬ rm_ft n xco xbf xbk xbv p → post 0 (nI v, xmf, xmb, xml, xfo, nI n, xol, xst, xpd, xps, xcc, xto, xho, xon, xod, nI (rh_n p n), nI of, zI σ, xde, nI r, xsp, xsq, xlp, xlq, xpn, xpe, xco, xbf, xbk, xbv, xbl, xpp, xpq, xmu, xke, xcf, xrv, xrd, xro, xta, xba, xnb)) : wpX_findFeasible post (nI v, xmf, xmb, xml, xfo, nI n, xol, xst, xpd, xps, xcc, xto, xho, xon, xod, nI (rh_n p n), nI of, zI σ, xde, xcr, xsp, xsq, xlp, xlq, xpn, xpe, xco, xbf, xbk, xbv, xbl, xpp, xpq, xmu, xke, xcf, xrv, xrd, xro, xta, xba, xnb) := by
  refine xw_ff hLd.1 hLd.2.1 hLd.2.2 (rh_Oc hC hof hσ) (fun nb bs xde xta xba xnb xsp xsq xlp xlq hT hF => K1 _ _ _ _ _ _ _ _ _ _ hT hF ⟨_, _, (rm_feL hL _ _).mp (rf_feas hT.1 hF)⟩) (fun nb bs xde xta xba xnb xsp xsq xlp xlq r hT hX => K0 _ _ _ _ _ _ _ _ _ _ r hT hX ?_)
  rintro ⟨x, d, hx⟩
  have hv := hC.2.1
  exact rf_conf hT.1 (rg_Nl hv hT.2.2.1) hX.2.1 (rg_okl hv (hT.2.2.2.1 r hX.1).2.1) hX.2.2.1 hX.2.2.2 ((rm_feL hL _ _).mpr hx)
theorem xw_ec30 {post : SX → Prop} (hC : rh_C v nf xco) (hB : rh_B nf n xbf xbk xbv) (hof : of < nf) (hσ : zA σ 1) (hno : ¬ rm_ft n xco xbf xbk xbv (fun _ => true))
    (K : ∀ z xrc xde xcr xsp xsq xlp xlq xmu xke xcf xrv xrd xro xta xba xnb, rn_M n xco xbf xbk xbv (rm_co n xco xbf xbk xbv n) z → (∀ j, j < n → xmu j = zL (z j)) → post (nI v, xmf, xmb, xml, xfo, nI n, xol, xst, xpd, xps, nI (rh_n (rm_co n xco xbf xbk xbv n) n), zL (rf_sm (fun j => z j * rh_bV xbk xbv j) n), xho, xon, xod, xrc, nI of, zI σ, xde, xcr, xsp, xsq, xlp, xlq, xpn, xpe, xco, xbf, xbk, xbv, xbl, xpp, xpq, xmu, xke, xcf, xrv, xrd, xro, xta, xba, xnb)) :
    ∀ i fu xrc xde xcr xsp xsq xlp xlq xke xcf xrv xrd xro xta xba xnb, i ≤ n → i < fu → (∀ j, j < n → (xke j ≠ 0 ↔ rm_co n xco xbf xbk xbv (n - i) j = true)) → wX_extractCore_30 post fu (rh_fx i) (nI v) xmf xmb xml xfo (nI n) xol xst xpd xps xcc xto xho xon xod xrc (nI of) (zI σ) xde xcr xsp xsq xlp xlq xpn xpe xco xbf xbk xbv xbl xpp xpq xmu xke xcf xrv xrd xro xta xba xnb := by
  have hn := hB.1
  intro i
  induction i with
  | zero =>
    intro fu xrc xde xcr xsp xsq xlp xlq xke xcf xrv xrd xro xta xba xnb hi hf hk
    obtain ⟨fu, rfl⟩ : ∃ n', fu = n' + 1 := ⟨fu - 1, by omega⟩
    rw [Nat.sub_zero] at hk
    refine br_t (by decide) (xw_lk (p := rm_co n xco xbf xbk xbv n) hC hB (fun j hj => ?_) (fun A V Q xcf xrv xrd xro hLd hL hO => ?_))
    · rw [hk j hj]
      refine ⟨fun z => ⟨z, fun q => ?_⟩, fun z => z.1⟩
      have : nI j < 0 := by rw [q]; decide
      exact nI_pos (by omega) this
    · refine xw_ffk hC hof hσ hLd hL (fun nb bs xde xta xba xnb xsp xsq xlp xlq hT hF hft => ?_) (fun nb bs xde xta xba xnb xsp xsq xlp xlq r hT hX hnf => ?_)
      · exact absurd hft (rm_coN hno n)
      · exact xw_rmul (p := rm_co n xco xbf xbk xbv n) hC hB rfl hLd.1 hL hT hX hO (fun j hj q => rm_min hj q) (fun xmu z hM hz => K z _ _ _ _ _ _ _ _ _ _ _ _ _ _ _ _ hM hz)
  | succ i ih =>
    intro fu xrc xde xcr xsp xsq xlp xlq xke xcf xrv xrd xro xta xba xnb hi hf hk
    obtain ⟨fu, rfl⟩ : ∃ n', fu = n' + 1 := ⟨fu - 1, by omega⟩
    have e1 : n - 1 - (n - (i + 1)) = i := by omega
    have e2 : n - (i + 1) + 1 = n - i := by omega
    refine br_f (nI_pos (by omega)) (xw_lk (p := rm_rm (rm_co n xco xbf xbk xbv (n - (i + 1))) i) hC hB (fun j hj => ?_) (fun A V Q xcf xrv xrd xro hLd hL hO => ?_))
    · rw [rm_rmT, hk j hj]
      show _ ↔ _ ∧ nI j ≠ nI i
      rw [Ne, Ne, nI_eq (by omega) (by omega)]
    · refine xw_ffk hC hof hσ hLd hL (fun nb bs xde xta xba xnb xsp xsq xlp xlq hT hF hft => ?_) (fun nb bs xde xta xba xnb xsp xsq xlp xlq r hT hX hnf => ?_)
      · refine br_f (by decide) (nm_r (rh_fx1 i) (ih fu _ _ _ _ _ _ _ _ _ _ _ _ _ _ _ (by omega) (by omega) (fun j hj => ?_)))
        rw [hk j hj, ← e2, rm_coT (by rw [e1]; exact hft)]
      · refine br_t rfl (And.intro (vp_in_nI (by omega) (by omega)) ?_)
        refine nm_e (nm_r (rh_fx1 i) (ih fu _ _ _ _ _ _ _ _ _ _ _ _ _ _ _ (by omega) (by omega) (fun j hj => ?_)))
        rw [← e2, rm_coF (by rw [e1]; exact hnf), e1, rm_rmT, ← hk j hj, show (rh_fx (i + 1)).toNatClampNeg = i from nI_clamp (by omega)]
        by_cases e : j = i
        · rw [e, pk_us]
          exact ⟨fun z => absurd rfl z, fun z => absurd rfl z.2⟩
        · rw [pk_un e]
          exact ⟨fun z => ⟨z, e⟩, fun z => z.1⟩
theorem xw_ec2 {post : SX → Prop} (hn : n ≤ 10) (K : ∀ xke : Nat → Int32, (∀ j, j < n → xke j = 1) → ∃ fu, wX_extractCore_30 post fu (rh_fx n) (nI v) xmf xmb xml xfo (nI n) xol xst xpd xps xcc xto xho xon xod xrc (nI of) (zI σ) xde xcr xsp xsq xlp xlq xpn xpe xco xbf xbk xbv xbl xpp xpq xmu xke xcf xrv xrd xro xta xba xnb) :
    ∀ d i fu (xke : Nat → Int32), i + d = n → d < fu → (∀ j, j < i → xke j = 1) → wX_extractCore_2 post (nI v) xmf xmb xml xfo (nI n) xol xst xpd xps xcc xto xho xon xod xrc (nI of) (zI σ) xde xcr xsp xsq xlp xlq xpn xpe fu (nI i) xco xbf xbk xbv xbl xpp xpq xmu xke xcf xrv xrd xro xta xba xnb := by
  intro d
  induction d with
  | zero =>
    intro i fu xke hi hf h
    obtain ⟨fu, rfl⟩ : ∃ n', fu = n' + 1 := ⟨fu - 1, by omega⟩
    have e : i = n := by omega
    subst e
    refine br_t (nI_le (by omega) (by omega)) (nm_r (e' := rh_fx i) ?_ (K _ h))
    cases i with
    | zero => rfl
    | succ i => exact nI_pred i
  | succ d ih =>
    intro i fu xke hi hf h
    obtain ⟨fu, rfl⟩ : ∃ n', fu = n' + 1 := ⟨fu - 1, by omega⟩
    refine br_f (nI_ge (by omega) (by omega)) (And.intro (vp_in_nI (by omega) (by omega)) ?_)
    rw [nI_clamp (show i < 2 ^ 31 by omega)]
    refine nm_e (nm_r (nI_1 i) (ih (i + 1) fu _ (by omega) (by omega) ?_))
    intro j hj
    by_cases e : j = i
    · rw [e, pk_us]; rfl
    · rw [pk_un e]; exact h j (by omega)
theorem xw_ec {post : SX → Prop} (hC : rh_C v nf xco) (hB : rh_B nf n xbf xbk xbv) (hof : of < nf) (hσ : zA σ 1) (hno : ¬ rm_ft n xco xbf xbk xbv (fun _ => true))
    (K : ∀ z xrc xde xcr xsp xsq xlp xlq xmu xke xcf xrv xrd xro xta xba xnb, rn_M n xco xbf xbk xbv (rm_co n xco xbf xbk xbv n) z → (∀ j, j < n → xmu j = zL (z j)) → post (nI v, xmf, xmb, xml, xfo, nI n, xol, xst, xpd, xps, nI (rh_n (rm_co n xco xbf xbk xbv n) n), zL (rf_sm (fun j => z j * rh_bV xbk xbv j) n), xho, xon, xod, xrc, nI of, zI σ, xde, xcr, xsp, xsq, xlp, xlq, xpn, xpe, xco, xbf, xbk, xbv, xbl, xpp, xpq, xmu, xke, xcf, xrv, xrd, xro, xta, xba, xnb)) : wpX_extractCore post (nI v, xmf, xmb, xml, xfo, nI n, xol, xst, xpd, xps, xcc, xto, xho, xon, xod, xrc, nI of, zI σ, xde, xcr, xsp, xsq, xlp, xlq, xpn, xpe, xco, xbf, xbk, xbv, xbl, xpp, xpq, xmu, xke, xcf, xrv, xrd, xro, xta, xba, xnb) := by
  refine ⟨n + 1, xw_ec2 hB.1 (fun xke hk => ⟨n + 1, xw_ec30 hC hB hof hσ hno K n (n + 1) _ _ _ _ _ _ _ _ _ _ _ _ _ _ _ (by omega) (by omega) (fun j hj => ?_)⟩) n 0 (n + 1) _ (by omega) (by omega) (fun j hj => absurd hj (by omega))⟩
  rw [hk j hj, Nat.sub_self]
  exact ⟨fun _ => rfl, fun _ => by decide⟩
end
end
section
/-! the reference: rows and planes -/
def yq_W (N : Nat) (R : Nat → Nat → Int) (yrw : Nat → Int64) : Prop := ∀ r c, r < N → c < 5 → yrw (5 * r + c) = zL (R r c)
def yq_r (a : Nat → Int) (V Q : Int) : Nat → Int := fun c => if c < 3 then a c else if c = 3 then V else Q
def yq_R (A : Nat → Nat → Int) (V Q : Nat → Int) : Nat → Nat → Int := fun r => yq_r (A r) (V r) (Q r)
def yq_z (m : Nat) (V : Nat → Int) : Nat → Int := fun r => if r < m then V r else 0
theorem yq_Rp (A : Nat → Nat → Int) (V Q : Nat → Int) (m : Nat) (a : Nat → Int) (z q : Int) : rg_p (yq_R A V Q) m (yq_r a z q) = yq_R (rg_p A m a) (rg_p V m z) (rg_p Q m q) := by
  funext r
  unfold yq_R
  by_cases e : r = m
  · rw [e, rg_ps, rg_ps, rg_ps, rg_ps]
  · rw [rg_pn e, rg_pn e, rg_pn e, rg_pn e]
theorem yw_ix (r i : Nat) : (5 : Int32) * nI r + nI i = nI (5 * r + i) := by
  rw [show (5 : Int32) = nI 5 from rfl, pk_mul, nI_add]
theorem yw_in {r i N : Nat} (h : 5 * r + i < N) (hN : N < 2 ^ 31) : vp_in (5 * nI r + nI i) N := by
  rw [yw_ix]
  exact vp_in_nI h hN
theorem yw_cl {r i : Nat} (h : 5 * r + i < 2 ^ 31) : (5 * nI r + nI i).toNatClampNeg = 5 * r + i := by
  rw [yw_ix]
  exact nI_clamp h
theorem yq_Wu {N r c : Nat} {R : Nat → Nat → Int} {yrw : Nat → Int64} {x : Int64} (h : yq_W N R yrw) (hr : N ≤ r) (_ : c < 5) : yq_W N R (vp_updL yrw (5 * r + c) x) := by
  intro r' c' h1 h2
  rw [pk_uLn (by omega)]
  exact h r' c' h1 h2
section
variable {m nf f κ v : Nat} {R : Nat → Nat → Int} {z : Int}
variable {xv xmf xmb xml xfo xbo xol xst : Int32} {yon yod : Int64} {xco xbf xbk xbv xbl yke ypi : Nat → Int32} {yrw ypt ywe ymu : Nat → Int64}
theorem yw_ar15 {post : SY → Prop} (hC : rh_C v nf xco) (hf : f < nf) (hm : m < 16) (hκ : κ < 4) (hz : zA z 1000) (hW : yq_W m R yrw)
    (K : ∀ yrw, yq_W (m + 1) (rg_p R m (yq_r (rh_a xco f κ) (rh_s κ * z) (rh_q κ))) yrw → post (xv, xmf, xmb, xml, xfo, xbo, xol, xst, yon, yod, nI (m + 1), xco, xbf, xbk, xbv, xbl, yke, yrw, ypt, ypi, ywe, ymu)) :
    ∀ d i n yrw, i + d = 3 → d < n → yq_W m R yrw → (∀ l, l < i → yrw (5 * m + l) = zL (rh_a xco f κ l)) → wY_addRow_15 post (nI f) (nI κ) (zI z) (zI (rh_s κ)) xv xmf xmb xml xfo xbo xol xst yon yod (nI m) n (nI i) xco xbf xbk xbv xbl yke yrw ypt ypi ywe ymu := by
  have h9 := hC.2.2.2.1
  intro d
  induction d with
  | zero =>
    intro i n yrw hi hn h1 h2
    obtain ⟨n, rfl⟩ : ∃ n', n = n' + 1 := ⟨n - 1, by omega⟩
    have e : i = 3 := by omega
    subst e
    have hx3 : vp_in (5 * nI m + 3) 80 := yw_in (i := 3) (by omega) (by omega)
    have hc3 : (5 * nI m + 3).toNatClampNeg = 5 * m + 3 := yw_cl (i := 3) (by omega)
    have hx4 : vp_in (5 * nI m + 4) 80 := yw_in (i := 4) (by omega) (by omega)
    have hc4 : (5 * nI m + 4).toNatClampNeg = 5 * m + 4 := yw_cl (i := 4) (by omega)
    refine br_t (by decide) (And.intro hx3 ?_)
    rw [hc3, zI_mul, zI_L (zA_b (rh_sb κ hz) (by omega))]
    have fin : ∀ q, q = rh_q κ → wY_addRow_103 post (zL q) (5 * nI m + 4) xv xmf xmb xml xfo xbo xol xst yon yod (nI m) xco xbf xbk xbv xbl yke (vp_updL yrw (5 * m + 3) (zL (rh_s κ * z))) ypt ypi ywe ymu := by
      intro q eq
      unfold wY_addRow_103
      refine And.intro hx4 ?_
      rw [hc4]
      refine nm_e (nm_r (nI_1 m) (K _ ?_))
      intro r c hr hc
      by_cases e : r = m
      · subst e
        rw [rg_ps]
        unfold yq_r
        by_cases c3 : c < 3
        · rw [if_pos c3, pk_uLn (by omega), pk_uLn (by omega)]
          exact h2 c c3
        · rw [if_neg c3]
          by_cases c4 : c = 3
          · subst c4
            rw [if_pos rfl, pk_uLn (by omega), pk_uLs]
          · rw [if_neg c4, show c = 4 by omega, pk_uLs, eq]
      · rw [rg_pn e, pk_uLn (by omega), pk_uLn (by omega)]
        exact h1 r c (by omega) hc
    refine nm_e ?_
    have c : κ = 0 ∨ κ = 1 ∨ κ = 2 ∨ κ = 3 := by omega
    rcases c with rfl | rfl | rfl | rfl
    · exact br_f (by decide) (br_f (by decide) (fin 0 rfl))
    · exact br_t rfl (fin (-1) rfl)
    · exact br_f (by decide) (br_f (by decide) (fin 0 rfl))
    · exact br_f (by decide) (br_t rfl (fin (-1) rfl))
  | succ d ih =>
    intro i n yrw hi hn h1 h2
    obtain ⟨n, rfl⟩ : ∃ n', n = n' + 1 := ⟨n - 1, by omega⟩
    have hx : vp_in (3 * nI f + nI i) 27 := xw_in (by omega) (by omega)
    have hc : (3 * nI f + nI i).toNatClampNeg = 3 * f + i := xw_cl (by omega)
    have hx2 : vp_in (5 * nI m + nI i) 80 := yw_in (by omega) (by omega)
    have hc2 : (5 * nI m + nI i).toNatClampNeg = 5 * m + i := yw_cl (by omega)
    have hb : zA (rh_s κ * (xco (3 * f + i)).toInt) 20 := by rw [← rh_a3 (show i < 3 by omega)]; exact (rh_ab hC hf κ).1 i (by omega)
    refine br_f (nI_ge (b := 3) (by omega) (by decide)) (And.intro hx (And.intro hx2 ?_))
    rw [hc, hc2, zI_of (xco (3 * f + i)), zI_mul, zI_L (zA_b hb (by omega))]
    refine nm_e (nm_r (nI_1 i) (ih (i + 1) n _ (by omega) (by omega) (yq_Wu h1 (by omega) (by omega)) ?_))
    intro l hl
    by_cases e : l = i
    · rw [e, pk_uLs, rh_a3 (by omega)]
    · rw [pk_uLn (by omega)]; exact h2 l (by omega)
theorem yw_ar {post : SY → Prop} (hC : rh_C v nf xco) (hf : f < nf) (hm : m < 16) (hκ : κ < 4) (hz : zA z 1000) (hW : yq_W m R yrw)
    (K : ∀ yrw, yq_W (m + 1) (rg_p R m (yq_r (rh_a xco f κ) (rh_s κ * z) (rh_q κ))) yrw → post (xv, xmf, xmb, xml, xfo, xbo, xol, xst, yon, yod, nI (m + 1), xco, xbf, xbk, xbv, xbl, yke, yrw, ypt, ypi, ywe, ymu)) : wpY_addRow post (xv, xmf, xmb, xml, xfo, xbo, xol, xst, yon, yod, nI m, xco, xbf, xbk, xbv, xbl, yke, yrw, ypt, ypi, ywe, ymu) (nI f) (nI κ) (zI z) := by
  have go := yw_ar15 (post := post) hC hf hm hκ hz hW K 3 0 4 yrw (by omega) (by omega) hW (fun l hl => absurd hl (by omega))
  unfold wpY_addRow
  by_cases h : 1 < κ
  · rw [show rh_s κ = -1 from if_neg (by omega)] at go
    exact br_t (nI_lt (a := 1) h (by omega)) ⟨4, go⟩
  · rw [show rh_s κ = 1 from if_pos (by omega)] at go
    exact br_f (nI_nlt (a := 1) (by omega) (by omega)) ⟨4, go⟩
theorem yw_pl9 {post : SY → Prop} {i : Nat} (hm : m ≤ 13) (hi : i < 3) {J : Int32 → (Nat → Int32) → (Nat → Int32) → (Nat → Int32) → (Nat → Int32) → (Nat → Int32) → (Nat → Int32) → (Nat → Int64) → (Nat → Int64) → (Nat → Int32) → (Nat → Int64) → (Nat → Int64) → Prop} (K : ∀ yrw, yq_W (m + i + 1) (rg_p R (m + i) (yq_r (rb_e i) 0 0)) yrw → J (nI (i + 1)) xco xbf xbk xbv xbl yke yrw ypt ypi ywe ymu) :
    ∀ d c n yrw, c + d = 5 → d < n → yq_W (m + i) R yrw → (∀ l, l < c → yrw (5 * (m + i) + l) = zL (yq_r (rb_e i) 0 0 l)) → wY_planes_9 post J (nI i) xv xmf xmb xml xfo xbo xol xst yon yod (nI m) n (nI c) xco xbf xbk xbv xbl yke yrw ypt ypi ywe ymu := by
  intro d
  induction d with
  | zero =>
    intro c n yrw hc hn h1 h2
    obtain ⟨n, rfl⟩ : ∃ n', n = n' + 1 := ⟨n - 1, by omega⟩
    have e : c = 5 := by omega
    subst e
    refine br_t (by decide) (nm_r (nI_1 i) (K _ ?_))
    intro r c hr hc
    by_cases e : r = m + i
    · rw [e, rg_ps]; exact h2 c hc
    · rw [rg_pn e]; exact h1 r c (by omega) hc
  | succ d ih =>
    intro c n yrw hc hn h1 h2
    obtain ⟨n, rfl⟩ : ∃ n', n = n' + 1 := ⟨n - 1, by omega⟩
    have hx : vp_in (5 * (nI m + nI i) + nI c) 80 := by rw [nI_add]; exact yw_in (by omega) (by omega)
    have hcl : (5 * (nI m + nI i) + nI c).toNatClampNeg = 5 * (m + i) + c := by rw [nI_add]; exact yw_cl (by omega)
    have st : ∀ x : Int64, x = zL (yq_r (rb_e i) 0 0 c) → wY_planes_9 post J (nI i) xv xmf xmb xml xfo xbo xol xst yon yod (nI m) n (nI (c + 1)) xco xbf xbk xbv xbl yke (vp_updL yrw (5 * (m + i) + c) x) ypt ypi ywe ymu := by
      intro x ex
      refine ih (c + 1) n _ (by omega) (by omega) (yq_Wu h1 (by omega) (by omega)) (fun l hl => ?_)
      by_cases e : l = c
      · rw [e, pk_uLs, ex]
      · rw [pk_uLn (by omega)]; exact h2 l (by omega)
    refine br_f (nI_ge (b := 5) (by omega) (by decide)) ?_
    rw [nI_eq (by omega) (by omega)]
    refine br_c (fun h => And.intro hx ?_) (fun h => And.intro hx ?_)
    · rw [hcl]
      refine nm_e (nm_r (nI_1 c) (st 1 ?_))
      unfold yq_r rb_e
      rw [if_pos (show c < 3 by omega), if_pos h]; rfl
    · rw [hcl]
      refine nm_e (nm_r (nI_1 c) (st 0 ?_))
      unfold yq_r rb_e
      by_cases q : c < 3
      · rw [if_pos q, if_neg h]; rfl
      · rw [if_neg q]
        by_cases q2 : c = 3
        · rw [if_pos q2]; rfl
        · rw [if_neg q2]; rfl
theorem yw_pl2 {post : SY → Prop} {A : Nat → Nat → Int} {V Q : Nat → Int} (hm : m ≤ 13) (K : ∀ yrw, yq_W (m + 3) (yq_R (rn_V A m) (yq_z m V) (yq_z m Q)) yrw → post (xv, xmf, xmb, xml, xfo, xbo, xol, xst, yon, yod, nI m, xco, xbf, xbk, xbv, xbl, yke, yrw, ypt, ypi, ywe, ymu)) :
    ∀ d i n yrw, i + d = 3 → d < n → yq_W (m + i) (yq_R (rn_V A m) (yq_z m V) (yq_z m Q)) yrw → wY_planes_2 post xv xmf xmb xml xfo xbo xol xst yon yod (nI m) n (nI i) xco xbf xbk xbv xbl yke yrw ypt ypi ywe ymu := by
  intro d
  induction d with
  | zero =>
    intro i n yrw hi hn h
    obtain ⟨n, rfl⟩ : ∃ n', n = n' + 1 := ⟨n - 1, by omega⟩
    have e : i = 3 := by omega
    subst e
    exact br_t (by decide) (K _ h)
  | succ d ih =>
    intro i n yrw hi hn h
    obtain ⟨n, rfl⟩ : ∃ n', n = n' + 1 := ⟨n - 1, by omega⟩
    refine br_f (nI_ge (b := 3) (by omega) (by decide)) ⟨6, yw_pl9 hm (by omega) (fun yrw h2 => ih (i + 1) n _ (by omega) (by omega) ?_) 5 0 6 _ (by omega) (by omega) h (fun l hl => absurd hl (by omega))⟩
    intro r c hr hc
    rw [h2 r c (by omega) hc]
    by_cases e : r = m + i
    · subst e
      rw [rg_ps]
      show zL _ = zL (yq_r (rn_V A m (m + i)) (yq_z m V (m + i)) (yq_z m Q (m + i)) c)
      unfold yq_z
      rw [rn_Ve, if_neg (by omega), if_neg (by omega)]
    · rw [rg_pn e]
theorem yw_pl {post : SY → Prop} {A : Nat → Nat → Int} {V Q : Nat → Int} (hm : m ≤ 13) (h : yq_W m (yq_R A V Q) yrw) (K : ∀ yrw, yq_W (m + 3) (yq_R (rn_V A m) (yq_z m V) (yq_z m Q)) yrw → post (xv, xmf, xmb, xml, xfo, xbo, xol, xst, yon, yod, nI m, xco, xbf, xbk, xbv, xbl, yke, yrw, ypt, ypi, ywe, ymu)) : wpY_planes post (xv, xmf, xmb, xml, xfo, xbo, xol, xst, yon, yod, nI m, xco, xbf, xbk, xbv, xbl, yke, yrw, ypt, ypi, ywe, ymu) := by
  refine ⟨4, yw_pl2 (A := A) (V := V) (Q := Q) hm K 3 0 4 _ (by omega) (by omega) ?_⟩
  intro r c hr hc
  rw [h r c (by omega) hc]
  show _ = zL (yq_r (rn_V A m r) (yq_z m V r) (yq_z m Q r) c)
  unfold rn_V yq_z
  rw [if_pos (by omega), if_pos (by omega), if_pos (by omega)]
  rfl
end
section
variable {n nf v : Nat} {p : Nat → Bool}
variable {xv xmf xmb xml xfo xol xst yrs : Int32} {yon yod : Int64} {xco xbf xbk xbv xbl yke ypi : Nat → Int32} {yrw ypt ywe ymu : Nat → Int64}
theorem yw_ka {post : SY → Prop} (K : ∀ yke : Nat → Int32, (∀ j, j < 10 → yke j = 1) → post (xv, xmf, xmb, xml, xfo, nI n, xol, xst, yon, yod, yrs, xco, xbf, xbk, xbv, xbl, yke, yrw, ypt, ypi, ywe, ymu)) : wpY_keepAll post (xv, xmf, xmb, xml, xfo, nI n, xol, xst, yon, yod, yrs, xco, xbf, xbk, xbv, xbl, yke, yrw, ypt, ypi, ywe, ymu) := by
  have go : ∀ d i fu (yke : Nat → Int32), i + d = 10 → d < fu → (∀ j, j < i → yke j = 1) → wY_keepAll_2 post xv xmf xmb xml xfo (nI n) xol xst yon yod yrs fu (nI i) xco xbf xbk xbv xbl yke yrw ypt ypi ywe ymu := by
    intro d
    induction d with
    | zero =>
      intro i fu yke hi hf h
      obtain ⟨fu, rfl⟩ : ∃ n', fu = n' + 1 := ⟨fu - 1, by omega⟩
      have e : i = 10 := by omega
      subst e
      exact br_t (by decide) (K _ h)
    | succ d ih =>
      intro i fu yke hi hf h
      obtain ⟨fu, rfl⟩ : ∃ n', fu = n' + 1 := ⟨fu - 1, by omega⟩
      refine br_f (nI_ge (b := 10) (by omega) (by decide)) (And.intro (vp_in_nI (by omega) (by omega)) ?_)
      rw [nI_clamp (show i < 2 ^ 31 by omega)]
      refine nm_e (nm_r (nI_1 i) (ih (i + 1) fu _ (by omega) (by omega) (fun j hj => ?_)))
      by_cases e : j = i
      · rw [e, pk_us]; rfl
      · rw [pk_un e]; exact h j (by omega)
  exact ⟨11, go 10 0 11 _ (by omega) (by omega) (fun j hj => absurd hj (by omega))⟩
theorem yw_loL {post : SY → Prop} (hC : rh_C v nf xco) (hB : rh_B nf n xbf xbk xbv) (hp : ∀ j, j < n → (p j = true ↔ yke j ≠ 0))
    (K : ∀ A V Q yrw, yq_W (rh_n p n) (yq_R A V Q) yrw → rh_L p n xco xbf xbk xbv A V Q → post (xv, xmf, xmb, xml, xfo, nI n, xol, xst, yon, yod, nI (rh_n p n), xco, xbf, xbk, xbv, xbl, yke, yrw, ypt, ypi, ywe, ymu)) :
    ∀ d i fu A V Q yrw, i + d = n → d < fu → yq_W (rh_n p i) (yq_R A V Q) yrw → rh_L p i xco xbf xbk xbv A V Q → wY_load_7 post fu (nI i) xv xmf xmb xml xfo (nI n) xol xst yon yod (nI (rh_n p i)) xco xbf xbk xbv xbl yke yrw ypt ypi ywe ymu := by
  have hn := hB.1
  intro d
  induction d with
  | zero =>
    intro i fu A V Q yrw hi hf hW hL
    obtain ⟨fu, rfl⟩ : ∃ n', fu = n' + 1 := ⟨fu - 1, by omega⟩
    have e : i = n := by omega
    subst e
    exact br_t (nI_le (by omega) (by omega)) (K _ _ _ _ hW hL)
  | succ d ih =>
    intro i fu A V Q yrw hi hf hW hL
    obtain ⟨fu, rfl⟩ : ∃ n', fu = n' + 1 := ⟨fu - 1, by omega⟩
    have hx : vp_in (nI i) 10 := vp_in_nI (by omega) (by omega)
    obtain ⟨f1, f2, k1, k2, w1⟩ := hB.2 i (by omega)
    have hq := hp i (by omega)
    refine br_f (nI_ge (by omega) (by omega)) (And.intro hx ?_)
    rw [nI_clamp (show i < 2 ^ 31 by omega)]
    refine br_c (fun h => nm_r (nI_1 i) ?_) (fun h => And.intro hx (And.intro hx (And.intro hx ?_)))
    · have c : ¬ p i = true := fun z => hq.mp z h
      have hh := ih (i + 1) fu A V Q yrw (by omega) (by omega)
      rw [rh_nN c] at hh
      refine hh hW ?_
      intro j hj pj
      by_cases e : j = i
      · rw [e] at pj; exact absurd pj c
      · exact hL j (by omega) pj
    · have c : p i = true := hq.mpr h
      have hle := rh_nle p i
      rw [f1, k1, zI_of (xbv i)]
      refine yw_ar hC f2 (by omega) k2 w1 hW (fun yrw hW2 => nm_r (nI_1 i) ?_)
      rw [yq_Rp] at hW2
      have hh := ih (i + 1) fu _ _ _ yrw (by omega) (by omega) (by rw [rh_nS c]; exact hW2)
      rw [rh_nS c] at hh
      refine hh ?_
      intro j hj pj
      by_cases e : j = i
      · subst e
        rw [rg_ps, rg_ps, rg_ps]
        exact ⟨rfl, rfl, rfl⟩
      · have l := rh_nlt (p := p) (i := j) (j := i) (by omega) pj
        rw [rg_pn (by omega), rg_pn (by omega), rg_pn (by omega)]
        exact hL j (by omega) pj
theorem yw_lo {post : SY → Prop} (hC : rh_C v nf xco) (hB : rh_B nf n xbf xbk xbv) (hp : ∀ j, j < n → (p j = true ↔ yke j ≠ 0))
    (K : ∀ A V Q yrw, yq_W (rh_n p n) (yq_R A V Q) yrw → rh_L p n xco xbf xbk xbv A V Q → post (xv, xmf, xmb, xml, xfo, nI n, xol, xst, yon, yod, nI (rh_n p n), xco, xbf, xbk, xbv, xbl, yke, yrw, ypt, ypi, ywe, ymu)) : wpY_load post (xv, xmf, xmb, xml, xfo, nI n, xol, xst, yon, yod, yrs, xco, xbf, xbk, xbv, xbl, yke, yrw, ypt, ypi, ywe, ymu) :=
  ⟨n + 1, yw_loL hC hB hp K n 0 (n + 1) (fun _ _ => 0) (fun _ => 0) (fun _ => 0) _ (by omega) (by omega) (fun r c hr => absurd hr (by show ¬ r < 0; omega)) (fun j hj => absurd hj (by omega))⟩
end
end
section
/-! corner, inside -/
def yq_d (u v w : Nat → Int) (a b c : Nat) : Int := u a * (v b * w c - v c * w b) - u b * (v a * w c - v c * w a) + u c * (v a * w b - v b * w a)
/-- Cramer's numerators, before the sign -/
def yq_c (u v w : Nat → Int) (p i : Nat) : Int := if i = 0 then yq_d u v w p 1 2 else if i = 1 then yq_d u v w 0 p 2 else yq_d u v w 0 1 p
theorem yq_d0 (u v w : Nat → Int) : yq_d u v w 0 1 2 = rb_det u v w := by unfold yq_d rb_det; grind
theorem yq_cr (u v w : Nat → Int) (p : Nat) : rb_dot u (yq_c u v w p) = rb_det u v w * u p ∧ rb_dot v (yq_c u v w p) = rb_det u v w * v p ∧ rb_dot w (yq_c u v w p) = rb_det u v w * w p := by
  have e0 : yq_c u v w p 0 = yq_d u v w p 1 2 := rfl
  have e1 : yq_c u v w p 1 = yq_d u v w 0 p 2 := rfl
  have e2 : yq_c u v w p 2 = yq_d u v w 0 1 p := rfl
  unfold rb_dot
  rw [e0, e1, e2]
  unfold yq_d rb_det
  refine ⟨?_, ?_, ?_⟩ <;> grind
/-- the numbers of a point at place o of pt -/
def yq_at (o : Nat) (PV PQ : Nat → Int) (D : Int) (ypt : Nat → Int64) : Prop := (∀ i, i < 3 → ypt (o + i) = zL (PV i) ∧ ypt (o + 3 + i) = zL (PQ i)) ∧ ypt (o + 6) = zL D
def yq_b (PV PQ : Nat → Int) (D : Int) : Prop := (∀ i, i < 3 → zA (PV i) 2400000 ∧ zA (PQ i) 2400) ∧ 0 < D ∧ D ≤ 48000
def yq_S (N : Nat) (R : Nat → Nat → Int) : Prop := N ≤ 16 ∧ ∀ r, r < N → rb_bd (R r) 20 ∧ zA (R r 3) 1000 ∧ zA (R r 4) 1
/-- the corner of three rows -/
def yq_V (R : Nat → Nat → Int) (i j k : Nat) (l : Nat) : Int := rb_sg (rb_det (R i) (R j) (R k)) * yq_c (R i) (R j) (R k) 3 l
def yq_Q (R : Nat → Nat → Int) (i j k : Nat) (l : Nat) : Int := rb_sg (rb_det (R i) (R j) (R k)) * yq_c (R i) (R j) (R k) 4 l
def yq_D (R : Nat → Nat → Int) (i j k : Nat) : Int := rb_sg (rb_det (R i) (R j) (R k)) * rb_det (R i) (R j) (R k)
theorem yq_db {u v w : Nat → Int} {a b c : Nat} {A B C : Int} (ua : zA (u a) A) (va : zA (v a) A) (wa : zA (w a) A) (ub : zA (u b) B) (vb : zA (v b) B) (wb : zA (w b) B) (uc : zA (u c) C) (vc : zA (v c) C) (wc : zA (w c) C) : zA (yq_d u v w a b c) (6 * (A * (B * C))) := by
  have h := zA_add (zA_sub (zA_mul ua (zA_sub (zA_mul vb wc) (zA_mul vc wb))) (zA_mul ub (zA_sub (zA_mul va wc) (zA_mul vc wa)))) (zA_mul uc (zA_sub (zA_mul va wb) (zA_mul vb wa)))
  exact zA_w h (by grind)
theorem yq_cb {u v w : Nat → Int} (hu : rb_bd u 20) (hv : rb_bd v 20) (hw : rb_bd w 20) {p : Nat} {P : Int} (up : zA (u p) P) (vp : zA (v p) P) (wp : zA (w p) P) {i : Nat} (hi : i < 3) : zA (yq_c u v w p i) (2400 * P) := by
  unfold yq_c
  rcases rb_lt3 hi with rfl | rfl | rfl
  · rw [if_pos rfl]
    exact zA_w (yq_db up vp wp (hu 1 (by omega)) (hv 1 (by omega)) (hw 1 (by omega)) (hu 2 (by omega)) (hv 2 (by omega)) (hw 2 (by omega))) (by omega)
  · rw [if_neg (by omega), if_pos rfl]
    exact zA_w (yq_db (hu 0 (by omega)) (hv 0 (by omega)) (hw 0 (by omega)) up vp wp (hu 2 (by omega)) (hv 2 (by omega)) (hw 2 (by omega))) (by omega)
  · rw [if_neg (by omega), if_neg (by omega)]
    exact zA_w (yq_db (hu 0 (by omega)) (hv 0 (by omega)) (hw 0 (by omega)) (hu 1 (by omega)) (hv 1 (by omega)) (hw 1 (by omega)) up vp wp) (by omega)
theorem yq_bc {N : Nat} {R : Nat → Nat → Int} (hS : yq_S N R) {i j k : Nat} (hi : i < N) (hj : j < N) (hk : k < N) (h0 : rb_det (R i) (R j) (R k) ≠ 0) : yq_b (yq_V R i j k) (yq_Q R i j k) (yq_D R i j k) := by
  obtain ⟨i1, i2, i3⟩ := hS.2 i hi
  obtain ⟨j1, j2, j3⟩ := hS.2 j hj
  obtain ⟨k1, k2, k3⟩ := hS.2 k hk
  have b := rb_detb i1 j1 k1
  refine ⟨fun l hl => ⟨?_, ?_⟩, rb_sgp h0, ?_⟩
  · exact zA_w (rg_sgb (rb_sgc _) (yq_cb i1 j1 k1 i2 j2 k2 hl)) (by omega)
  · exact zA_w (rg_sgb (rb_sgc _) (yq_cb i1 j1 k1 i3 j3 k3 hl)) (by omega)
  · have := (rg_sgb (rb_sgc (rb_det (R i) (R j) (R k))) b).2
    unfold yq_D
    omega
/-- the corner lies on its planes -/
theorem yq_cor {R : Nat → Nat → Int} {i j k : Nat} : rb_dot (R i) (rh_x (yq_V R i j k) (yq_Q R i j k)) = yq_D R i j k * (R i 3 * zM + R i 4) ∧ rb_dot (R j) (rh_x (yq_V R i j k) (yq_Q R i j k)) = yq_D R i j k * (R j 3 * zM + R j 4) ∧ rb_dot (R k) (rh_x (yq_V R i j k) (yq_Q R i j k)) = yq_D R i j k * (R k 3 * zM + R k 4) := by
  obtain ⟨a1, a2, a3⟩ := yq_cr (R i) (R j) (R k) 3
  obtain ⟨b1, b2, b3⟩ := yq_cr (R i) (R j) (R k) 4
  have lin : ∀ g : Nat → Int, rb_dot g (rh_x (yq_V R i j k) (yq_Q R i j k)) = rb_sg (rb_det (R i) (R j) (R k)) * (rb_dot g (yq_c (R i) (R j) (R k) 3) * zM + rb_dot g (yq_c (R i) (R j) (R k) 4)) := by
    intro g
    unfold rb_dot rh_x yq_V yq_Q
    grind
  unfold yq_D
  refine ⟨?_, ?_, ?_⟩
  · rw [lin, a1, b1]; grind
  · rw [lin, a2, b2]; grind
  · rw [lin, a3, b3]; grind
section
variable {m N : Nat} {R : Nat → Nat → Int}
variable {xv xmf xmb xml xfo xbo xol xst : Int32} {yon yod : Int64} {xco xbf xbk xbv xbl yke ypi : Nat → Int32} {yrw ypt ywe ymu : Nat → Int64}
theorem yw_det {post : Int64 → Prop} {i j k a b c : Nat} (hN : N ≤ 16) (hW : yq_W N R yrw) (hi : i < N) (hj : j < N) (hk : k < N) (ha : a < 5) (hb : b < 5) (hc : c < 5) (K : post (zL (yq_d (R i) (R j) (R k) a b c))) : wpY_det post (xv, xmf, xmb, xml, xfo, xbo, xol, xst, yon, yod, nI m, xco, xbf, xbk, xbv, xbl, yke, yrw, ypt, ypi, ywe, ymu) (nI i) (nI j) (nI k) (nI a) (nI b) (nI c) := by
  have I : ∀ r l, r < N → l < 5 → vp_in (5 * nI r + nI l) 80 := fun r l h1 h2 => yw_in (by omega) (by omega)
  have C : ∀ r l, r < N → l < 5 → yrw (5 * nI r + nI l).toNatClampNeg = zL (R r l) := by
    intro r l h1 h2
    rw [yw_cl (by omega)]
    exact hW r l h1 h2
  unfold wpY_det
  refine And.intro (I i a hi ha) (And.intro (I j b hj hb) (And.intro (I k c hk hc) (And.intro (I j c hj hc) (And.intro (I k b hk hb) (And.intro (I i b hi hb) (And.intro (I j a hj ha) (And.intro (I k c hk hc) (And.intro (I j c hj hc) (And.intro (I k a hk ha) (And.intro (I i c hi hc) (And.intro (I j a hj ha) (And.intro (I k b hk hb) (And.intro (I j b hj hb) (And.intro (I k a hk ha) ?_))))))))))))))
  rw [C i a hi ha, C i b hi hb, C i c hi hc, C j a hj ha, C j b hj hb, C j c hj hc, C k a hk ha, C k b hk hb, C k c hk hc]
  simp only [zL_mul, zL_sub, zL_add]
  exact K
theorem yw_co117 {post : Int32 → SY → Prop} {PV PQ : Nat → Int} {D : Int} (K : ∀ ypt', (∀ l, 7 ≤ l → ypt' l = ypt l) → yq_at 0 (fun l => -PV l) (fun l => -PQ l) (-D) ypt' → wY_corner_145 post xv xmf xmb xml xfo xbo xol xst yon yod (nI m) xco xbf xbk xbv xbl yke yrw ypt' ypi ywe ymu) (h0 : yq_at 0 PV PQ D ypt) :
    ∀ d i n ypt', i + d = 7 → d < n → (∀ l, 7 ≤ l → ypt' l = ypt l) → (∀ l, l < 7 → ypt' l = if l < i then -ypt l else ypt l) → wY_corner_117 post xv xmf xmb xml xfo xbo xol xst yon yod (nI m) n (nI i) xco xbf xbk xbv xbl yke yrw ypt' ypi ywe ymu := by
  intro d
  induction d with
  | zero =>
    intro i n ypt' hi hn h1 h2
    obtain ⟨n, rfl⟩ : ∃ n', n = n' + 1 := ⟨n - 1, by omega⟩
    have e : i = 7 := by omega
    subst e
    refine br_t (by decide) (K _ h1 ⟨fun l hl => ⟨?_, ?_⟩, ?_⟩)
    · rw [h2 (0 + l) (by omega), if_pos (by omega), (h0.1 l hl).1, zL_neg]
    · rw [h2 (0 + 3 + l) (by omega), if_pos (by omega), (h0.1 l hl).2, zL_neg]
    · rw [h2 (0 + 6) (by omega), if_pos (by omega), h0.2, zL_neg]
  | succ d ih =>
    intro i n ypt' hi hn h1 h2
    obtain ⟨n, rfl⟩ : ∃ n', n = n' + 1 := ⟨n - 1, by omega⟩
    have hx : vp_in (nI i) 14 := vp_in_nI (by omega) (by omega)
    refine br_f (nI_ge (b := 7) (by omega) (by decide)) (And.intro hx (And.intro hx ?_))
    rw [nI_clamp (show i < 2 ^ 31 by omega)]
    refine nm_e (nm_r (nI_1 i) (ih (i + 1) n _ (by omega) (by omega) (fun l hl => ?_) (fun l hl => ?_)))
    · rw [pk_uLn (by omega)]; exact h1 l hl
    · by_cases e : l = i
      · subst e
        rw [pk_uLs, if_pos (by omega), h2 l hl, if_neg (by omega)]
      · rw [pk_uLn e, h2 l hl]
        by_cases q : l < i
        · rw [if_pos q, if_pos (by omega)]
        · rw [if_neg q, if_neg (by omega)]
theorem yw_cor {post : Int32 → SY → Prop} {i j k : Nat} (hS : yq_S N R) (hW : yq_W N R yrw) (hi : i < N) (hj : j < N) (hk : k < N)
    (K0 : rb_det (R i) (R j) (R k) = 0 → ∀ ypt', (∀ l, 7 ≤ l → ypt' l = ypt l) → post 0 (xv, xmf, xmb, xml, xfo, xbo, xol, xst, yon, yod, nI m, xco, xbf, xbk, xbv, xbl, yke, yrw, ypt', ypi, ywe, ymu))
    (K1 : rb_det (R i) (R j) (R k) ≠ 0 → ∀ ypt', (∀ l, 7 ≤ l → ypt' l = ypt l) → yq_at 0 (yq_V R i j k) (yq_Q R i j k) (yq_D R i j k) ypt' → post 1 (xv, xmf, xmb, xml, xfo, xbo, xol, xst, yon, yod, nI m, xco, xbf, xbk, xbv, xbl, yke, yrw, ypt', ypi, ywe, ymu)) : wpY_corner post (xv, xmf, xmb, xml, xfo, xbo, xol, xst, yon, yod, nI m, xco, xbf, xbk, xbv, xbl, yke, yrw, ypt, ypi, ywe, ymu) (nI i) (nI j) (nI k) := by
  have hN := hS.1
  obtain ⟨i1, i2, i3⟩ := hS.2 i hi
  obtain ⟨j1, j2, j3⟩ := hS.2 j hj
  obtain ⟨k1, k2, k3⟩ := hS.2 k hk
  have hb := rb_detb i1 j1 k1
  unfold wpY_corner
  refine yw_det (a := 0) (b := 1) (c := 2) hN hW hi hj hk (by omega) (by omega) (by omega) (nm_e ⟨3, ?_⟩)
  refine br_f (by decide) (yw_det (a := 3) (b := 1) (c := 2) hN hW hi hj hk (by omega) (by omega) (by omega) (And.intro (vp_in_iff.mpr (by decide)) (nm_e ?_)))
  refine yw_det (a := 0) (b := 3) (c := 2) hN hW hi hj hk (by omega) (by omega) (by omega) (And.intro (vp_in_iff.mpr (by decide)) (nm_e ?_))
  refine yw_det (a := 0) (b := 1) (c := 3) hN hW hi hj hk (by omega) (by omega) (by omega) (And.intro (vp_in_iff.mpr (by decide)) (nm_e (nm_e ?_)))
  refine br_f (by decide) (yw_det (a := 4) (b := 1) (c := 2) hN hW hi hj hk (by omega) (by omega) (by omega) (And.intro (vp_in_iff.mpr (by decide)) (nm_e ?_)))
  refine yw_det (a := 0) (b := 4) (c := 2) hN hW hi hj hk (by omega) (by omega) (by omega) (And.intro (vp_in_iff.mpr (by decide)) (nm_e ?_))
  refine yw_det (a := 0) (b := 1) (c := 4) hN hW hi hj hk (by omega) (by omega) (by omega) (And.intro (vp_in_iff.mpr (by decide)) (nm_e (nm_e ?_)))
  refine br_t (by decide) ?_
  rw [yq_d0]
  generalize hP : vp_updL (vp_updL (vp_updL (vp_updL (vp_updL (vp_updL (vp_updL ypt 6 (zL (rb_det (R i) (R j) (R k)))) _ _) _ _) _ _) _ _) _ _) _ _ = P
  have q0 : P 0 = zL (yq_c (R i) (R j) (R k) 3 0) := by rw [← hP]; rfl
  have q1 : P 1 = zL (yq_c (R i) (R j) (R k) 3 1) := by rw [← hP]; rfl
  have q2 : P 2 = zL (yq_c (R i) (R j) (R k) 3 2) := by rw [← hP]; rfl
  have q3 : P 3 = zL (yq_c (R i) (R j) (R k) 4 0) := by rw [← hP]; rfl
  have q4 : P 4 = zL (yq_c (R i) (R j) (R k) 4 1) := by rw [← hP]; rfl
  have q5 : P 5 = zL (yq_c (R i) (R j) (R k) 4 2) := by rw [← hP]; rfl
  have q6 : P 6 = zL (rb_det (R i) (R j) (R k)) := by rw [← hP]; rfl
  have q7 : ∀ l, 7 ≤ l → P l = ypt l := by
    intro l hl
    rw [← hP]
    have nx : ∀ (f : Nat → Int64) (q : Int32) (x : Int64), q.toNatClampNeg < 7 → vp_updL f q.toNatClampNeg x l = f l := fun f q x h => pk_uLn (by omega)
    rw [nx _ _ _ (by decide), nx _ _ _ (by decide), nx _ _ _ (by decide), nx _ _ _ (by decide), nx _ _ _ (by decide), nx _ _ _ (by decide), pk_uLn (by omega)]
  have hat : yq_at 0 (yq_c (R i) (R j) (R k) 3) (yq_c (R i) (R j) (R k) 4) (rb_det (R i) (R j) (R k)) P := by
    refine ⟨fun l hl => ?_, q6⟩
    rcases rb_lt3 hl with rfl | rfl | rfl
    · exact ⟨q0, q3⟩
    · exact ⟨q1, q4⟩
    · exact ⟨q2, q5⟩
  clear hP
  have hB := zA_B hb (by omega)
  have fin : ∀ ypt' : Nat → Int64, (∀ l, 7 ≤ l → ypt' l = ypt l) → yq_at 0 (yq_V R i j k) (yq_Q R i j k) (yq_D R i j k) ypt' → wY_corner_145 post xv xmf xmb xml xfo xbo xol xst yon yod (nI m) xco xbf xbk xbv xbl yke yrw ypt' ypi ywe ymu := by
    intro ypt' h7 ha
    unfold wY_corner_145
    have e6 : ypt' 6 = zL (yq_D R i j k) := ha.2
    have hDB : zB (yq_D R i j k) := zA_B (rg_sgb (rb_sgc _) hb) (by omega)
    rw [e6, show (0 : Int64) = zL 0 from rfl, zL_eq hDB zB_0]
    refine br_c (fun h => K0 ?_ _ h7) (fun h => K1 ?_ _ h7 ha)
    · unfold yq_D at h
      rcases Int.mul_eq_zero.mp h with z | z
      · have := rb_sgc (rb_det (R i) (R j) (R k)); omega
      · exact z
    · intro z
      apply h
      unfold yq_D
      rw [z, Int.mul_zero]
  rw [q6, show (0 : Int64) = zL 0 from rfl, zL_le zB_0 hB]
  refine br_c (fun h => ?_) (fun h => ?_)
  · refine fin P q7 ?_
    have s1 : rb_sg (rb_det (R i) (R j) (R k)) = 1 := rb_sgnn (by omega)
    unfold yq_V yq_Q yq_D
    rw [s1]
    refine ⟨fun l hl => ?_, by rw [Int.one_mul]; exact q6⟩
    dsimp only
    rw [Int.one_mul, Int.one_mul]
    exact hat.1 l hl
  · refine ⟨8, yw_co117 (ypt := P) (fun ypt' a b => fin ypt' (fun l hl => (a l hl).trans (q7 l hl)) ?_) hat 7 0 8 P (by omega) (by omega) (fun l _ => rfl) (fun l _ => (if_neg (by omega)).symm)⟩
    have s1 : rb_sg (rb_det (R i) (R j) (R k)) = -1 := rb_sgn (by omega)
    unfold yq_V yq_Q yq_D
    rw [s1]
    refine ⟨fun l hl => ?_, ?_⟩
    · dsimp only
      rw [Int.neg_mul, Int.neg_mul, Int.one_mul, Int.one_mul]
      exact b.1 l hl
    · rw [Int.neg_mul, Int.one_mul]
      exact b.2
theorem yw_rdL {post : Int64 → Prop} {r o : Nat} {P : Nat → Int} (hN : N ≤ 16) (hW : yq_W N R yrw) (hr : r < N) (ho : o ≤ 11) (hP : ∀ l, l < 3 → ypt (o + l) = zL (P l)) (K : post (zL (rb_dot (R r) P))) : wpY_rowDot post (xv, xmf, xmb, xml, xfo, xbo, xol, xst, yon, yod, nI m, xco, xbf, xbk, xbv, xbl, yke, yrw, ypt, ypi, ywe, ymu) (nI r) (nI o) := by
  have go : ∀ d i n, i + d = 3 → d < n → wY_rowDot_5 post (nI r) (nI o) xv xmf xmb xml xfo xbo xol xst yon yod (nI m) xco xbf xbk xbv xbl yke yrw ypt ypi ywe ymu n (zL (rf_sm (fun l => R r l * P l) i)) (nI i) := by
    intro d
    induction d with
    | zero =>
      intro i n hi hn
      obtain ⟨n, rfl⟩ : ∃ n', n = n' + 1 := ⟨n - 1, by omega⟩
      have e : i = 3 := by omega
      subst e
      rw [rf_sm3 (v := 3) (by omega) (fun k a b => by omega)]
      exact br_t (by decide) K
    | succ d ih =>
      intro i n hi hn
      obtain ⟨n, rfl⟩ : ∃ n', n = n' + 1 := ⟨n - 1, by omega⟩
      refine br_f (nI_ge (b := 3) (by omega) (by decide)) (And.intro (yw_in (by omega) (by omega)) ?_)
      rw [yw_cl (show 5 * r + i < 2 ^ 31 by omega), nI_add]
      refine And.intro (vp_in_nI (by omega) (by omega)) ?_
      rw [nI_clamp (show o + i < 2 ^ 31 by omega), hP i (by omega), hW r i hr (by omega), zL_mul, zL_add]
      exact nm_e (nm_r (nI_1 i) (ih (i + 1) n (by omega) (by omega)))
  exact ⟨4, go 3 0 4 (by omega) (by omega)⟩
theorem yw_in2 {post : Int32 → Prop} {PV PQ : Nat → Int} {D : Int} (hmN : m ≤ N) (hS : yq_S N R) (hW : yq_W N R yrw) (hb : yq_b PV PQ D) (ha : yq_at 0 PV PQ D ypt)
    (K1 : (∀ r, r < m → rb_dot (R r) (rh_x PV PQ) ≤ D * (R r 3 * zM + R r 4)) → post 1) (K0 : ¬ (∀ r, r < m → rb_dot (R r) (rh_x PV PQ) ≤ D * (R r 3 * zM + R r 4)) → post 0) :
    ∀ d i n, i + d = m → d < n → (∀ r, r < i → rb_dot (R r) (rh_x PV PQ) ≤ D * (R r 3 * zM + R r 4)) → wY_inside_2 post xv xmf xmb xml xfo xbo xol xst yon yod (nI m) xco xbf xbk xbv xbl yke yrw ypt ypi ywe ymu n (nI i) := by
  have hN := hS.1
  intro d
  induction d with
  | zero =>
    intro i n hi hn h
    obtain ⟨n, rfl⟩ : ∃ n', n = n' + 1 := ⟨n - 1, by omega⟩
    have e : i = m := by omega
    subst e
    exact br_t (nI_le (by omega) (by omega)) (K1 h)
  | succ d ih =>
    intro i n hi hn h
    obtain ⟨n, rfl⟩ : ∃ n', n = n' + 1 := ⟨n - 1, by omega⟩
    obtain ⟨b1, b2, b3⟩ := hS.2 i (by omega)
    have hD : zA D 48000 := by have := hb.2; unfold zA; omega
    have hx3 : vp_in (5 * nI i + 3) 80 := yw_in (i := 3) (by omega) (by omega)
    have hc3 : (5 * nI i + 3).toNatClampNeg = 5 * i + 3 := yw_cl (i := 3) (by omega)
    have hx4 : vp_in (5 * nI i + 4) 80 := yw_in (i := 4) (by omega) (by omega)
    have hc4 : (5 * nI i + 4).toNatClampNeg = 5 * i + 4 := yw_cl (i := 4) (by omega)
    have e6 : ypt 6 = zL D := ha.2
    have dV : zA (rb_dot (R i) PV) 144000000 := zA_w (zA_add (zA_add (zA_mul (b1 0 (by omega)) (hb.1 0 (by omega)).1) (zA_mul (b1 1 (by omega)) (hb.1 1 (by omega)).1)) (zA_mul (b1 2 (by omega)) (hb.1 2 (by omega)).1)) (by omega)
    have dQ : zA (rb_dot (R i) PQ) 144000 := zA_w (zA_add (zA_add (zA_mul (b1 0 (by omega)) (hb.1 0 (by omega)).2) (zA_mul (b1 1 (by omega)) (hb.1 1 (by omega)).2)) (zA_mul (b1 2 (by omega)) (hb.1 2 (by omega)).2)) (by omega)
    have bV := zA_sub (zA_mul b2 hD) dV
    have bQ := zA_sub (zA_mul b3 hD) dQ
    have key : (R i 3 * D - rb_dot (R i) PV) * zM + (R i 4 * D - rb_dot (R i) PQ) = D * (R i 3 * zM + R i 4) - rb_dot (R i) (rh_x PV PQ) := by
      unfold rb_dot rh_x; grind
    have neg := zM_neg (P := R i 3 * D - rb_dot (R i) PV) (zA_w (d := 1000000000000000) bQ (by omega))
    rw [key] at neg
    refine br_f (nI_ge (by omega) (by omega)) (And.intro hx3 ?_)
    refine yw_rdL (o := 0) (P := PV) hN hW (by omega) (by omega) (fun l hl => (ha.1 l hl).1) ?_
    rw [hc3, hW i 3 (by omega) (by omega), e6, zL_mul, zL_sub]
    refine nm_e (And.intro hx4 ?_)
    refine yw_rdL (o := 3) (P := PQ) hN hW (by omega) (by omega) (fun l hl => ?_) ?_
    · have := (ha.1 l hl).2
      rwa [Nat.zero_add] at this
    rw [hc4, hW i 4 (by omega) (by omega), zL_mul, zL_sub]
    refine nm_e ?_
    rw [show (0 : Int64) = zL 0 from rfl, zL_lt (zA_B bV (by omega)) zB_0, zL_eq (zA_B bV (by omega)) zB_0, zL_le zB_0 (zA_B bQ (by omega))]
    have no : (R i 3 * D - rb_dot (R i) PV < 0 ∨ (R i 3 * D - rb_dot (R i) PV = 0 ∧ R i 4 * D - rb_dot (R i) PQ < 0)) → post 0 := by
      intro z
      refine K0 (fun q => ?_)
      have := q i (by omega)
      have := neg.mpr z
      omega
    have yes : ¬ (R i 3 * D - rb_dot (R i) PV < 0 ∨ (R i 3 * D - rb_dot (R i) PV = 0 ∧ R i 4 * D - rb_dot (R i) PQ < 0)) → wY_inside_2 post xv xmf xmb xml xfo xbo xol xst yon yod (nI m) xco xbf xbk xbv xbl yke yrw ypt ypi ywe ymu n (nI (i + 1)) := by
      intro z
      refine ih (i + 1) n (by omega) (by omega) (fun r hr => ?_)
      by_cases e : r = i
      · subst e
        by_cases q : D * (R r 3 * zM + R r 4) - rb_dot (R r) (rh_x PV PQ) < 0
        · exact absurd (neg.mp q) z
        · omega
      · exact h r (by omega)
    exact br_c (fun z => no (Or.inl z)) (fun z => br_c (fun z2 => br_c (fun z3 => nm_r (nI_1 i) (yes (by omega))) (fun z3 => no (Or.inr ⟨z2, by omega⟩))) (fun z2 => nm_r (nI_1 i) (yes (by omega))))
theorem yw_ins {post : Int32 → Prop} {PV PQ : Nat → Int} {D : Int} (hmN : m ≤ N) (hS : yq_S N R) (hW : yq_W N R yrw) (hb : yq_b PV PQ D) (ha : yq_at 0 PV PQ D ypt)
    (K1 : (∀ r, r < m → rb_dot (R r) (rh_x PV PQ) ≤ D * (R r 3 * zM + R r 4)) → post 1) (K0 : ¬ (∀ r, r < m → rb_dot (R r) (rh_x PV PQ) ≤ D * (R r 3 * zM + R r 4)) → post 0) : wpY_inside post (xv, xmf, xmb, xml, xfo, xbo, xol, xst, yon, yod, nI m, xco, xbf, xbk, xbv, xbl, yke, yrw, ypt, ypi, ywe, ymu) :=
  ⟨m + 1, yw_in2 hmN hS hW hb ha K1 K0 m 0 (m + 1) (by omega) (by omega) (fun r hr => absurd hr (by omega))⟩
end
end
section
/-! better -/
theorem zM_pos {P Q : Int} (h : zA Q 1000000000000000) : 0 < P * zM + Q ↔ (0 < P ∨ (P = 0 ∧ 0 < Q)) := by
  have := zM_neg (P := -P) (zA_neg h)
  have e : -P * zM + -Q = -(P * zM + Q) := by grind
  rw [e] at this
  constructor
  · intro k
    have := this.mp (by omega)
    omega
  · intro k
    have := this.mpr (by omega)
    omega
theorem yw_sg {A B I J : Prop} {P Q : Int} (hP : zB P) (hQ : zA Q 1000000000000000) (i : I) (j : J) (hA : P * zM + Q < 0 → A) (hB : ¬ P * zM + Q < 0 → B) : (zL P < 0 → A) ∧ (¬ zL P < 0 → (I ∧ ((zL P = 0 → (J ∧ ((0 ≤ zL Q → B) ∧ (¬ 0 ≤ zL Q → A)))) ∧ (¬ zL P = 0 → B)))) := by
  rw [zM_neg hQ] at hA hB
  rw [show (0 : Int64) = zL 0 from rfl, zL_lt hP zB_0, zL_eq hP zB_0, zL_le zB_0 (zA_B hQ (by omega))]
  exact br_c (fun h => hA (Or.inl h)) (fun h => And.intro i (br_c (fun h2 => And.intro j (br_c (fun h3 => hB (by omega)) (fun h3 => hA (Or.inr ⟨h2, by omega⟩)))) (fun h2 => hB (by omega))))
section
variable {nf v : Nat} {PV PQ PV' PQ' : Nat → Int} {D E : Int}
variable {xv xmf xmb xml xfo xbo xol xst yrs : Int32} {yon yod : Int64} {xco xbf xbk xbv xbl yke ypi : Nat → Int32} {yrw ypt ywe ymu : Nat → Int64}
theorem yw_194 {post : Int32 → Prop} {J : Int32 → Prop} {i : Nat} {sc sb : Int} (hi : i < 3) (hb : yq_b PV PQ D) (hb' : yq_b PV' PQ' E) (ha : yq_at 0 PV PQ D ypt) (ha' : yq_at 7 PV' PQ' E ypt) (hc : sc = 1 ∨ sc = -1) (hs : sb = 1 ∨ sb = -1)
    (Kl : sc * rh_x PV PQ i * E < sb * rh_x PV' PQ' i * D → post 1) (Kg : sb * rh_x PV' PQ' i * D < sc * rh_x PV PQ i * E → post 0) (Ke : sc * rh_x PV PQ i * E = sb * rh_x PV' PQ' i * D → J (nI (i + 1))) : wY_better_194 post J (nI i) (zI sc) (zI sb) xv xmf xmb xml xfo xbo xol xst yon yod yrs xco xbf xbk xbv xbl yke yrw ypt ypi ywe ymu := by
  have hD : zA D 48000 := by have := hb.2; unfold zA; omega
  have hE : zA E 48000 := by have := hb'.2; unfold zA; omega
  have x0 : ypt (nI i).toNatClampNeg = zL (PV i) := by
    rw [nI_clamp (by omega)]
    have := (ha.1 i hi).1
    rwa [Nat.zero_add] at this
  have x7 : (7 : Int32) + nI i = nI (7 + i) := by rw [show (7 : Int32) = nI 7 from rfl, nI_add]
  have x3 : (3 : Int32) + nI i = nI (3 + i) := by rw [show (3 : Int32) = nI 3 from rfl, nI_add]
  have x10 : (10 : Int32) + nI i = nI (10 + i) := by rw [show (10 : Int32) = nI 10 from rfl, nI_add]
  have y7 : ypt (7 + i) = zL (PV' i) := (ha'.1 i hi).1
  have y10 : ypt (10 + i) = zL (PQ' i) := (ha'.1 i hi).2
  have y3 : ypt (3 + i) = zL (PQ i) := by
    have := (ha.1 i hi).2
    rwa [Nat.zero_add] at this
  have e6 : ypt 6 = zL D := ha.2
  have e13 : ypt 13 = zL E := ha'.2
  have bP := zA_sub (zA_mul (rg_sgb hc (hb.1 i hi).1) hE) (zA_mul (rg_sgb hs (hb'.1 i hi).1) hD)
  have bQ := zA_sub (zA_mul (rg_sgb hc (hb.1 i hi).2) hE) (zA_mul (rg_sgb hs (hb'.1 i hi).2) hD)
  have key : (sc * PV i * E - sb * PV' i * D) * zM + (sc * PQ i * E - sb * PQ' i * D) = sc * rh_x PV PQ i * E - sb * rh_x PV' PQ' i * D := by
    unfold rh_x; grind
  have bQ1 := zA_w (d := 1000000000000000) bQ (by omega)
  have neg := zM_neg (P := sc * PV i * E - sb * PV' i * D) bQ1
  have zer := zM_eq (P := sc * PV i * E - sb * PV' i * D) bQ1
  rw [key] at neg zer
  have zc : (zI sc).toInt64 = zL sc := zI_L (by unfold zb; omega)
  have zs : (zI sb).toInt64 = zL sb := zI_L (by unfold zb; omega)
  unfold wY_better_194
  rw [x7, x3, x10, x0, nI_clamp (show 7 + i < 2 ^ 31 by omega), nI_clamp (show 3 + i < 2 ^ 31 by omega), nI_clamp (show 10 + i < 2 ^ 31 by omega), y7, y3, y10, e6, e13, zc, zs]
  simp only [zL_mul, zL_sub]
  refine And.intro (vp_in_nI (by omega) (by omega)) (And.intro (vp_in_nI (by omega) (by omega)) (nm_e (And.intro (vp_in_nI (by omega) (by omega)) (And.intro (vp_in_nI (by omega) (by omega)) (nm_e ?_)))))
  rw [show (0 : Int64) = zL 0 from rfl, zL_eq (zA_B bP (by omega)) zB_0, zL_eq (zA_B bQ (by omega)) zB_0, zL_le zB_0 (zA_B bP (by omega)), zL_le zB_0 (zA_B bQ (by omega))]
  have nn : ¬ (sc * rh_x PV PQ i * E - sb * rh_x PV' PQ' i * D = 0) → ¬ (sc * rh_x PV PQ i * E - sb * rh_x PV' PQ' i * D < 0) → post 0 := fun a b => Kg (by omega)
  refine br_c (fun h1 => br_c (fun h2 => ?_) (fun h2 => br_c (fun h3 => ?_) (fun h3 => ?_))) (fun h1 => br_c (fun h3 => ?_) (fun h3 => ?_))
  · have := zer.mpr ⟨h1, h2⟩
    exact nm_r (nI_1 i) (Ke (by omega))
  · exact nn (fun z => h2 (zer.mp z).2) (fun z => by have := neg.mp z; omega)
  · have := neg.mpr (Or.inr ⟨h1, by omega⟩)
    exact Kl (by omega)
  · exact nn (fun z => h1 (zer.mp z).1) (fun z => by have := neg.mp z; omega)
  · have := neg.mpr (Or.inl (by omega))
    exact Kl (by omega)
theorem yw_b1 {post : Int32 → Prop} {i n : Nat} (hi : i < 3) (hb : yq_b PV PQ D) (hb' : yq_b PV' PQ' E) (ha : yq_at 0 PV PQ D ypt) (ha' : yq_at 7 PV' PQ' E ypt)
    (Kl : rf_ab (rh_x PV PQ i) * E < rf_ab (rh_x PV' PQ' i) * D → post 1) (Kg : rf_ab (rh_x PV' PQ' i) * D < rf_ab (rh_x PV PQ i) * E → post 0) (Ke : rf_ab (rh_x PV PQ i) * E = rf_ab (rh_x PV' PQ' i) * D → wY_better_100 post xv xmf xmb xml xfo xbo xol xst yon yod yrs xco xbf xbk xbv xbl yke yrw ypt ypi ywe ymu n (nI (i + 1))) : wY_better_100 post xv xmf xmb xml xfo xbo xol xst yon yod yrs xco xbf xbk xbv xbl yke yrw ypt ypi ywe ymu (n + 1) (nI i) := by
  have x0 : ypt (nI i).toNatClampNeg = zL (PV i) := by
    rw [nI_clamp (by omega)]
    have := (ha.1 i hi).1
    rwa [Nat.zero_add] at this
  have x3 : (3 : Int32) + nI i = nI (3 + i) := by rw [show (3 : Int32) = nI 3 from rfl, nI_add]
  have x7 : (7 : Int32) + nI i = nI (7 + i) := by rw [show (7 : Int32) = nI 7 from rfl, nI_add]
  have x10 : (10 : Int32) + nI i = nI (10 + i) := by rw [show (10 : Int32) = nI 10 from rfl, nI_add]
  have y3 : ypt ((3 : Int32) + nI i).toNatClampNeg = zL (PQ i) := by
    rw [x3, nI_clamp (by omega)]
    have := (ha.1 i hi).2
    rwa [Nat.zero_add] at this
  have y7 : ypt ((7 : Int32) + nI i).toNatClampNeg = zL (PV' i) := by rw [x7, nI_clamp (by omega)]; exact (ha'.1 i hi).1
  have y10 : ypt ((10 : Int32) + nI i).toNatClampNeg = zL (PQ' i) := by rw [x10, nI_clamp (by omega)]; exact (ha'.1 i hi).2
  have i0 : vp_in (nI i) 14 := vp_in_nI (by omega) (by omega)
  have i3 : vp_in ((3 : Int32) + nI i) 14 := by rw [x3]; exact vp_in_nI (by omega) (by omega)
  have i7 : vp_in ((7 : Int32) + nI i) 14 := by rw [x7]; exact vp_in_nI (by omega) (by omega)
  have i10 : vp_in ((10 : Int32) + nI i) 14 := by rw [x10]; exact vp_in_nI (by omega) (by omega)
  have sec : ∀ (sc : Int) (qc : Int32), qc = zI sc → (sc = 1 ∨ sc = -1) → sc * rh_x PV PQ i = rf_ab (rh_x PV PQ i) → wY_better_145 post (wY_better_100 post xv xmf xmb xml xfo xbo xol xst yon yod yrs xco xbf xbk xbv xbl yke yrw ypt ypi ywe ymu n) (nI i) qc xv xmf xmb xml xfo xbo xol xst yon yod yrs xco xbf xbk xbv xbl yke yrw ypt ypi ywe ymu := by
    intro sc qc ec h1 h2
    subst ec
    have thr : ∀ (sb : Int) (qb : Int32), qb = zI sb → (sb = 1 ∨ sb = -1) → sb * rh_x PV' PQ' i = rf_ab (rh_x PV' PQ' i) → wY_better_194 post (wY_better_100 post xv xmf xmb xml xfo xbo xol xst yon yod yrs xco xbf xbk xbv xbl yke yrw ypt ypi ywe ymu n) (nI i) (zI sc) qb xv xmf xmb xml xfo xbo xol xst yon yod yrs xco xbf xbk xbv xbl yke yrw ypt ypi ywe ymu := by
      intro sb qb eb h3 h4
      subst eb
      refine yw_194 hi hb hb' ha ha' h1 h3 ?_ ?_ ?_
      · rw [h2, h4]; exact Kl
      · rw [h2, h4]; exact Kg
      · rw [h2, h4]; exact Ke
    unfold wY_better_145
    rw [y7, y10]
    refine And.intro i7 (yw_sg (zA_B (hb'.1 i hi).1 (by omega)) (zA_w (hb'.1 i hi).2 (by omega)) i7 i10 (fun z => ?_) (fun z => ?_))
    · unfold wY_better_189
      exact thr (-1) (-1) zI_m1 (Or.inr rfl) (by rw [rf_abn (show rh_x PV' PQ' i ≤ 0 by unfold rh_x; omega)]; omega)
    · unfold wY_better_193
      exact thr 1 1 zI_1 (Or.inl rfl) (by rw [rf_abp (show 0 ≤ rh_x PV' PQ' i by unfold rh_x; omega)]; omega)
  refine br_f (nI_ge (b := 3) (by omega) (by decide)) (And.intro i0 ?_)
  rw [x0, y3]
  refine yw_sg (zA_B (hb.1 i hi).1 (by omega)) (zA_w (hb.1 i hi).2 (by omega)) i0 i3 (fun z => ?_) (fun z => ?_)
  · unfold wY_better_140
    exact sec (-1) (-1) zI_m1 (Or.inr rfl) (by rw [rf_abn (show rh_x PV PQ i ≤ 0 by unfold rh_x; omega)]; omega)
  · unfold wY_better_144
    exact sec 1 1 zI_1 (Or.inl rfl) (by rw [rf_abp (show 0 ≤ rh_x PV PQ i by unfold rh_x; omega)]; omega)
theorem yw_bn {post : Int32 → Prop} {x2 : Int32} (hb : yq_b PV PQ D) (hb' : yq_b PV' PQ' E) (ha : yq_at 0 PV PQ D ypt) (ha' : yq_at 7 PV' PQ' E ypt) (K1 : rf_bt (rh_x PV PQ) D (rh_x PV' PQ') E → post 1) (K0 : ¬ rf_bt (rh_x PV PQ) D (rh_x PV' PQ') E → post 0) : wpY_better post (xv, xmf, xmb, xml, xfo, xbo, xol, xst, yon, yod, yrs, xco, xbf, xbk, xbv, xbl, yke, yrw, ypt, ypi, ywe, ymu) (-1) x2 := by
  unfold rf_bt at K1 K0
  unfold wpY_better
  refine br_t (by decide) ⟨4, ?_⟩
  refine yw_b1 (i := 0) (by omega) hb hb' ha ha' (fun h => K1 (Or.inl h)) (fun h => K0 (by omega)) (fun h0 => ?_)
  refine yw_b1 (i := 1) (by omega) hb hb' ha ha' (fun h => K1 (Or.inr ⟨h0, Or.inl h⟩)) (fun h => K0 (by omega)) (fun h1 => ?_)
  refine yw_b1 (i := 2) (by omega) hb hb' ha ha' (fun h => K1 (Or.inr ⟨h0, Or.inr ⟨h1, h⟩⟩)) (fun h => K0 (by omega)) (fun h2 => ?_)
  exact br_t (by decide) (K0 (by omega))
theorem yw_dot {post : Int64 → Prop} {f o : Nat} {P : Nat → Int} (hC : rh_C v nf xco) (hf : f < nf) (ho : o ≤ 11) (hP : ∀ l, l < 3 → ypt (o + l) = zL (P l)) (K : post (zL (rb_dot (fun l => (xco (3 * f + l)).toInt) P))) : wpY_dot post (xv, xmf, xmb, xml, xfo, xbo, xol, xst, yon, yod, yrs, xco, xbf, xbk, xbv, xbl, yke, yrw, ypt, ypi, ywe, ymu) (nI f) (nI o) := by
  have h9 := hC.2.2.2.1
  have go : ∀ d i n, i + d = 3 → d < n → wY_dot_5 post (nI f) (nI o) xv xmf xmb xml xfo xbo xol xst yon yod yrs xco xbf xbk xbv xbl yke yrw ypt ypi ywe ymu n (zL (rf_sm (fun l => (xco (3 * f + l)).toInt * P l) i)) (nI i) := by
    intro d
    induction d with
    | zero =>
      intro i n hi hn
      obtain ⟨n, rfl⟩ : ∃ n', n = n' + 1 := ⟨n - 1, by omega⟩
      have e : i = 3 := by omega
      subst e
      rw [rf_sm3 (v := 3) (by omega) (fun k a b => by omega)]
      exact br_t (by decide) K
    | succ d ih =>
      intro i n hi hn
      obtain ⟨n, rfl⟩ : ∃ n', n = n' + 1 := ⟨n - 1, by omega⟩
      refine br_f (nI_ge (b := 3) (by omega) (by decide)) (And.intro (xw_in (by omega) (by omega)) ?_)
      rw [xw_cl (show 3 * f + i < 2 ^ 31 by omega), nI_add]
      refine And.intro (vp_in_nI (by omega) (by omega)) ?_
      rw [nI_clamp (show o + i < 2 ^ 31 by omega), hP i (by omega), zI_of (xco (3 * f + i)), zI_L (zA_b (hC.2.2.2.2 f hf i (by omega)).1 (by omega)), zL_mul, zL_add]
      exact nm_e (nm_r (nI_1 i) (ih (i + 1) n (by omega) (by omega)))
  exact ⟨4, go 3 0 4 (by omega) (by omega)⟩
/-- a greater value of the form -/
def yq_bf (c : Nat → Int) (x : Nat → Int) (D : Int) (y : Nat → Int) (E : Int) : Prop := rb_dot c y * D < rb_dot c x * E
theorem yw_bf {post : Int32 → Prop} {f : Nat} {s : Int} (hs : s = 1 ∨ s = -1) (hC : rh_C v nf xco) (hf : f < nf) (hb : yq_b PV PQ D) (hb' : yq_b PV' PQ' E) (ha : yq_at 0 PV PQ D ypt) (ha' : yq_at 7 PV' PQ' E ypt)
    (K1 : yq_bf (fun l => s * (xco (3 * f + l)).toInt) (rh_x PV PQ) D (rh_x PV' PQ') E → post 1) (K0 : ¬ yq_bf (fun l => s * (xco (3 * f + l)).toInt) (rh_x PV PQ) D (rh_x PV' PQ') E → post 0) : wpY_better post (xv, xmf, xmb, xml, xfo, xbo, xol, xst, yon, yod, yrs, xco, xbf, xbk, xbv, xbl, yke, yrw, ypt, ypi, ywe, ymu) (nI f) (zI s) := by
  have h9 := hC.2.2.2.1
  have hD : zA D 48000 := by have := hb.2; unfold zA; omega
  have hE : zA E 48000 := by have := hb'.2; unfold zA; omega
  have cb := fun l hl => (hC.2.2.2.2 f hf l hl).1
  have db : ∀ (P : Nat → Int) (c : Int), (∀ l, l < 3 → zA (P l) c) → zA (rb_dot (fun l => (xco (3 * f + l)).toInt) P) (60 * c) := fun P c h => zA_w (zA_add (zA_add (zA_mul (cb 0 (by omega)) (h 0 (by omega))) (zA_mul (cb 1 (by omega)) (h 1 (by omega)))) (zA_mul (cb 2 (by omega)) (h 2 (by omega)))) (by omega)
  have bP := rg_sgb hs (zA_sub (zA_mul (db PV _ (fun l hl => (hb.1 l hl).1)) hE) (zA_mul (db PV' _ (fun l hl => (hb'.1 l hl).1)) hD))
  have bQ := rg_sgb hs (zA_sub (zA_mul (db PQ _ (fun l hl => (hb.1 l hl).2)) hE) (zA_mul (db PQ' _ (fun l hl => (hb'.1 l hl).2)) hD))
  have e6 : ypt 6 = zL D := ha.2
  have e13 : ypt 13 = zL E := ha'.2
  have zs : (zI s).toInt64 = zL s := zI_L (by unfold zb; omega)
  have pos := zM_pos (P := s * (rb_dot (fun l => (xco (3 * f + l)).toInt) PV * E - rb_dot (fun l => (xco (3 * f + l)).toInt) PV' * D)) (zA_w (d := 1000000000000000) bQ (by omega))
  have key : s * (rb_dot (fun l => (xco (3 * f + l)).toInt) PV * E - rb_dot (fun l => (xco (3 * f + l)).toInt) PV' * D) * zM + s * (rb_dot (fun l => (xco (3 * f + l)).toInt) PQ * E - rb_dot (fun l => (xco (3 * f + l)).toInt) PQ' * D) = rb_dot (fun l => s * (xco (3 * f + l)).toInt) (rh_x PV PQ) * E - rb_dot (fun l => s * (xco (3 * f + l)).toInt) (rh_x PV' PQ') * D := by
    unfold rb_dot rh_x; grind
  rw [key] at pos
  have K1' : (0 < s * (rb_dot (fun l => (xco (3 * f + l)).toInt) PV * E - rb_dot (fun l => (xco (3 * f + l)).toInt) PV' * D) ∨ (s * (rb_dot (fun l => (xco (3 * f + l)).toInt) PV * E - rb_dot (fun l => (xco (3 * f + l)).toInt) PV' * D) = 0 ∧ 0 < s * (rb_dot (fun l => (xco (3 * f + l)).toInt) PQ * E - rb_dot (fun l => (xco (3 * f + l)).toInt) PQ' * D))) → post 1 := by
    intro z
    have := pos.mpr z
    exact K1 (by unfold yq_bf; omega)
  have K0' : ¬ (0 < s * (rb_dot (fun l => (xco (3 * f + l)).toInt) PV * E - rb_dot (fun l => (xco (3 * f + l)).toInt) PV' * D) ∨ (s * (rb_dot (fun l => (xco (3 * f + l)).toInt) PV * E - rb_dot (fun l => (xco (3 * f + l)).toInt) PV' * D) = 0 ∧ 0 < s * (rb_dot (fun l => (xco (3 * f + l)).toInt) PQ * E - rb_dot (fun l => (xco (3 * f + l)).toInt) PQ' * D))) → post 0 := by
    intro z
    refine K0 (fun w => z (pos.mp ?_))
    unfold yq_bf at w
    omega
  unfold wpY_better
  refine br_f (nI_pos (by omega)) ?_
  refine yw_dot (o := 0) (P := PV) hC hf (by omega) (fun l hl => (ha.1 l hl).1) ?_
  refine yw_dot (o := 7) (P := PV') hC hf (by omega) (fun l hl => (ha'.1 l hl).1) ?_
  rw [e6, e13, zs, zL_mul, zL_mul, zL_sub, zL_mul]
  refine nm_e ?_
  refine yw_dot (o := 3) (P := PQ) hC hf (by omega) (fun l hl => ?_) ?_
  · have := (ha.1 l hl).2
    rwa [Nat.zero_add] at this
  refine yw_dot (o := 10) (P := PQ') hC hf (by omega) (fun l hl => (ha'.1 l hl).2) ?_
  rw [zL_mul, zL_mul, zL_sub, zL_mul]
  refine nm_e ?_
  rw [show (0 : Int64) = zL 0 from rfl, zL_lt zB_0 (zA_B bP (by omega)), zL_eq (zA_B bP (by omega)) zB_0, zL_le (zA_B bQ (by omega)) zB_0]
  exact br_c (fun h => K1' (Or.inl h)) (fun h => br_c (fun h2 => br_c (fun h3 => K0' (by omega)) (fun h3 => K1' (Or.inr ⟨h2, by omega⟩))) (fun h2 => K0' (by omega)))
end
end
section
/-! solve: the best corner -/
def yq_x (R : Nat → Nat → Int) (i j k : Nat) : Nat → Int := rh_x (yq_V R i j k) (yq_Q R i j k)
def yq_ok (m : Nat) (R : Nat → Nat → Int) (i j k : Nat) : Prop := i < j ∧ j < k ∧ k < m + 3 ∧ rb_det (R i) (R j) (R k) ≠ 0 ∧ ∀ r, r < m → rb_dot (R r) (yq_x R i j k) ≤ yq_D R i j k * (R r 3 * zM + R r 4)
def yq_vi (i j k : Nat) : Nat → Nat → Nat → Prop := fun a b c => a < i ∨ (a = i ∧ (b < j ∨ (b = j ∧ c < k)))
def yq_I (m : Nat) (R : Nat → Nat → Int) (Bt : (Nat → Int) → Int → (Nat → Int) → Int → Prop) (vis : Nat → Nat → Nat → Prop) (x3 : Int32) (ypt : Nat → Int64) : Prop :=
  (x3 = 0 ∧ ∀ i j k, yq_ok m R i j k → vis i j k → False) ∨
  (x3 = 1 ∧ ∃ a b c, yq_ok m R a b c ∧ yq_at 7 (yq_V R a b c) (yq_Q R a b c) (yq_D R a b c) ypt ∧ ∀ i j k, yq_ok m R i j k → vis i j k → ¬ Bt (yq_x R i j k) (yq_D R i j k) (yq_x R a b c) (yq_D R a b c))
theorem yq_at7 {PV PQ : Nat → Int} {D : Int} {ypt ypt' : Nat → Int64} (h : yq_at 7 PV PQ D ypt) (e : ∀ l, 7 ≤ l → ypt' l = ypt l) : yq_at 7 PV PQ D ypt' := by
  refine ⟨fun i hi => ?_, ?_⟩
  · rw [e (7 + i) (by omega), e (7 + 3 + i) (by omega)]; exact h.1 i hi
  · rw [e (7 + 6) (by omega)]; exact h.2
section
variable {m : Nat} {R : Nat → Nat → Int} {Bt : (Nat → Int) → Int → (Nat → Int) → Int → Prop} {vis vis' : Nat → Nat → Nat → Prop} {x3 : Int32} {ypt ypt' : Nat → Int64}
theorem yq_Im (h : yq_I m R Bt vis x3 ypt) (e : ∀ l, 7 ≤ l → ypt' l = ypt l) (hv : ∀ i j k, yq_ok m R i j k → vis' i j k → vis i j k) : yq_I m R Bt vis' x3 ypt' := by
  rcases h with ⟨h1, h2⟩ | ⟨h1, a, b, c, h2, h3, h4⟩
  · exact Or.inl ⟨h1, fun i j k q w => h2 i j k q (hv i j k q w)⟩
  · exact Or.inr ⟨h1, a, b, c, h2, yq_at7 h3 e, fun i j k q w => h4 i j k q (hv i j k q w)⟩
theorem yq_vs {i j k a b c : Nat} (h : yq_vi i j (k + 1) a b c) : yq_vi i j k a b c ∨ (a = i ∧ b = j ∧ c = k) := by
  unfold yq_vi at *
  omega
/-- the next triple is no corner inside -/
theorem yq_Ino {i j k : Nat} (h : yq_I m R Bt (yq_vi i j k) x3 ypt) (e : ∀ l, 7 ≤ l → ypt' l = ypt l) (hn : ¬ yq_ok m R i j k) : yq_I m R Bt (yq_vi i j (k + 1)) x3 ypt' := by
  refine yq_Im h e (fun a b c q w => ?_)
  rcases yq_vs w with z | ⟨rfl, rfl, rfl⟩
  · exact z
  · exact absurd q hn
/-- it is the first -/
theorem yq_I1 {i j k : Nat} (h : ∀ a b c, yq_ok m R a b c → yq_vi i j k a b c → False) (irr : ∀ x D, ¬ Bt x D x D) (hq : yq_ok m R i j k) (ha : yq_at 7 (yq_V R i j k) (yq_Q R i j k) (yq_D R i j k) ypt) : yq_I m R Bt (yq_vi i j (k + 1)) 1 ypt := by
  refine Or.inr ⟨rfl, i, j, k, hq, ha, fun a b c q w => ?_⟩
  rcases yq_vs w with z | ⟨rfl, rfl, rfl⟩
  · exact absurd z (h a b c q)
  · exact irr _ _
/-- it is not better -/
theorem yq_I2 {i j k a b c : Nat} (ho : yq_ok m R a b c) (ha : yq_at 7 (yq_V R a b c) (yq_Q R a b c) (yq_D R a b c) ypt) (h : ∀ i' j' k', yq_ok m R i' j' k' → yq_vi i j k i' j' k' → ¬ Bt (yq_x R i' j' k') (yq_D R i' j' k') (yq_x R a b c) (yq_D R a b c)) (hn : ¬ Bt (yq_x R i j k) (yq_D R i j k) (yq_x R a b c) (yq_D R a b c)) : yq_I m R Bt (yq_vi i j (k + 1)) 1 ypt := by
  refine Or.inr ⟨rfl, a, b, c, ho, ha, fun i' j' k' q w => ?_⟩
  rcases yq_vs w with z | ⟨rfl, rfl, rfl⟩
  · exact h _ _ _ q z
  · exact hn
/-- it is better -/
theorem yq_I3 {i j k a b c : Nat} (ho : yq_ok m R a b c) (h : ∀ i' j' k', yq_ok m R i' j' k' → yq_vi i j k i' j' k' → ¬ Bt (yq_x R i' j' k') (yq_D R i' j' k') (yq_x R a b c) (yq_D R a b c)) (irr : ∀ x D, ¬ Bt x D x D) (tr : ∀ x y z D E F, 0 < D → 0 < E → 0 < F → Bt x D y E → Bt y E z F → Bt x D z F)
    (hq : yq_ok m R i j k) (hb : Bt (yq_x R i j k) (yq_D R i j k) (yq_x R a b c) (yq_D R a b c)) (ha : yq_at 7 (yq_V R i j k) (yq_Q R i j k) (yq_D R i j k) ypt) : yq_I m R Bt (yq_vi i j (k + 1)) 1 ypt := by
  refine Or.inr ⟨rfl, i, j, k, hq, ha, fun i' j' k' q w => ?_⟩
  rcases yq_vs w with z | ⟨rfl, rfl, rfl⟩
  · exact fun y => h _ _ _ q z (tr _ _ _ _ _ _ (rb_sgp q.2.2.2.1) (rb_sgp hq.2.2.2.1) (rb_sgp ho.2.2.2.1) y hb)
  · exact irr _ _
end
section
variable {m : Nat} {R : Nat → Nat → Int} {Bt : (Nat → Int) → Int → (Nat → Int) → Int → Prop} {x1 x2 : Int32}
variable {xv xmf xmb xml xfo xbo xol xst : Int32} {yon yod : Int64} {xco xbf xbk xbv xbl yke ypi : Nat → Int32} {yrw ypt ywe ymu : Nat → Int64}
theorem yw_so92 {post : Int32 → SY → Prop} {J9 J26 J43 : Int32 → Int32 → Int32 → Int32 → Int32 → Int32 → Int32 → Int32 → Int32 → Int32 → Int64 → Int64 → Int32 → (Nat → Int32) → (Nat → Int32) → (Nat → Int32) → (Nat → Int32) → (Nat → Int32) → (Nat → Int32) → (Nat → Int64) → (Nat → Int64) → (Nat → Int32) → (Nat → Int64) → (Nat → Int64) → Prop} {x3 : Int32} {x4 x5 : Int32} {k : Nat} {PV PQ : Nat → Int} {D : Int} (h0 : yq_at 0 PV PQ D ypt) (K : ∀ ypt', yq_at 7 PV PQ D ypt' → J43 x3 (nI (k + 1)) xv xmf xmb xml xfo xbo xol xst yon yod (nI m) xco xbf xbk xbv xbl yke yrw ypt' ypi ywe ymu) :
    ∀ d i n ypt', i + d = 7 → d < n → (∀ l, l < 7 → ypt' l = ypt l) → (∀ l, l < i → ypt' (7 + l) = ypt l) → wY_solve_92 post J9 J26 J43 x1 x2 x3 x4 x5 (nI k) xv xmf xmb xml xfo xbo xol xst yon yod (nI m) n (nI i) xco xbf xbk xbv xbl yke yrw ypt' ypi ywe ymu := by
  intro d
  induction d with
  | zero =>
    intro i n ypt' hi hn h1 h2
    obtain ⟨n, rfl⟩ : ∃ n', n = n' + 1 := ⟨n - 1, by omega⟩
    have e : i = 7 := by omega
    subst e
    refine br_t (by decide) (nm_r (nI_1 k) (K _ ⟨fun l hl => ⟨?_, ?_⟩, ?_⟩))
    · rw [h2 l (by omega), ← (h0.1 l hl).1, Nat.zero_add]
    · rw [show 7 + 3 + l = 7 + (3 + l) by omega, h2 (3 + l) (by omega), ← (h0.1 l hl).2, Nat.zero_add]
    · rw [h2 6 (by omega), ← h0.2]
  | succ d ih =>
    intro i n ypt' hi hn h1 h2
    obtain ⟨n, rfl⟩ : ∃ n', n = n' + 1 := ⟨n - 1, by omega⟩
    have x7 : (7 : Int32) + nI i = nI (7 + i) := by rw [show (7 : Int32) = nI 7 from rfl, nI_add]
    refine br_f (nI_ge (b := 7) (by omega) (by decide)) (And.intro (vp_in_nI (by omega) (by omega)) ?_)
    rw [x7]
    refine And.intro (vp_in_nI (by omega) (by omega)) ?_
    rw [nI_clamp (show i < 2 ^ 31 by omega), nI_clamp (show 7 + i < 2 ^ 31 by omega)]
    refine nm_e (nm_r (nI_1 i) (ih (i + 1) n _ (by omega) (by omega) (fun l hl => ?_) (fun l hl => ?_)))
    · rw [pk_uLn (by omega)]; exact h1 l hl
    · by_cases e : l = i
      · rw [e, pk_uLs]; exact h1 i (by omega)
      · rw [pk_uLn (by omega)]; exact h2 l (by omega)
theorem yw_so43 {post : Int32 → SY → Prop} {J9 J26 : Int32 → Int32 → Int32 → Int32 → Int32 → Int32 → Int32 → Int32 → Int32 → Int32 → Int64 → Int64 → Int32 → (Nat → Int32) → (Nat → Int32) → (Nat → Int32) → (Nat → Int32) → (Nat → Int32) → (Nat → Int32) → (Nat → Int64) → (Nat → Int64) → (Nat → Int32) → (Nat → Int64) → (Nat → Int64) → Prop} {i j : Nat} (hij : i < j) (hj : j < m + 3) (hS : yq_S (m + 3) R) (hW : yq_W (m + 3) R yrw) (irr : ∀ x D, ¬ Bt x D x D) (tr : ∀ x y z D E F, 0 < D → 0 < E → 0 < F → Bt x D y E → Bt y E z F → Bt x D z F)
    (hbet : ∀ (post : Int32 → Prop) ypt PV PQ D PV' PQ' E, yq_b PV PQ D → yq_b PV' PQ' E → yq_at 0 PV PQ D ypt → yq_at 7 PV' PQ' E ypt → (Bt (rh_x PV PQ) D (rh_x PV' PQ') E → post 1) → (¬ Bt (rh_x PV PQ) D (rh_x PV' PQ') E → post 0) → wpY_better post (xv, xmf, xmb, xml, xfo, xbo, xol, xst, yon, yod, nI m, xco, xbf, xbk, xbv, xbl, yke, yrw, ypt, ypi, ywe, ymu) x1 x2)
    (K : ∀ x3 ypt, yq_I m R Bt (yq_vi i j (m + 3)) x3 ypt → J26 x3 (nI (j + 1)) xv xmf xmb xml xfo xbo xol xst yon yod (nI m) xco xbf xbk xbv xbl yke yrw ypt ypi ywe ymu) :
    ∀ d k n x3 ypt, k + d = m + 3 → d < n → j < k → yq_I m R Bt (yq_vi i j k) x3 ypt → wY_solve_43 post J9 J26 x1 x2 (nI i) (nI j) n x3 (nI k) xv xmf xmb xml xfo xbo xol xst yon yod (nI m) xco xbf xbk xbv xbl yke yrw ypt ypi ywe ymu := by
  have hN := hS.1
  have e3 : nI m + 3 = nI (m + 3) := nI_add m 3
  intro d
  induction d with
  | zero =>
    intro k n x3 ypt hk hn hjk hI
    obtain ⟨n, rfl⟩ : ∃ n', n = n' + 1 := ⟨n - 1, by omega⟩
    have e : k = m + 3 := by omega
    subst e
    exact br_t (by rw [e3]; exact nI_le (by omega) (by omega)) (nm_r (nI_1 j) (K _ _ hI))
  | succ d ih =>
    intro k n x3 ypt hk hn hjk hI
    obtain ⟨n, rfl⟩ : ∃ n', n = n' + 1 := ⟨n - 1, by omega⟩
    refine br_f (by rw [e3]; exact nI_ge (by omega) (by omega)) (yw_cor hS hW (by omega) hj (by omega) (fun h0 ypt' h7 => ?_) (fun h0 ypt' h7 ha => ?_))
    · exact br_t rfl (nm_r (nI_1 k) (ih (k + 1) n _ _ (by omega) (by omega) (by omega) (yq_Ino hI h7 (fun z => z.2.2.2.1 h0))))
    · refine br_f (by decide) (yw_ins (by omega) hS hW (yq_bc hS (by omega) hj (by omega) h0) ha (fun hin => br_f (by decide) ?_) (fun hin => ?_))
      · have hq : yq_ok m R i j k := ⟨hij, hjk, by omega, h0, hin⟩
        rcases hI with ⟨ex, h⟩ | ⟨ex, a, b, c, ho, hat, h⟩
        · subst ex
          exact br_t rfl ⟨8, yw_so92 ha (fun ypt'' h2 => ih (k + 1) n _ _ (by omega) (by omega) (by omega) (yq_I1 h irr hq h2)) 7 0 8 _ (by omega) (by omega) (fun l _ => rfl) (fun l hl => absurd hl (by omega))⟩
        · subst ex
          have hat' := yq_at7 hat h7
          have ob : yq_b (yq_V R a b c) (yq_Q R a b c) (yq_D R a b c) := yq_bc hS (by have := ho.1; have := ho.2.1; have := ho.2.2.1; omega) (by have := ho.2.1; have := ho.2.2.1; omega) ho.2.2.1 ho.2.2.2.1
          refine br_f (by decide) (hbet _ _ _ _ _ _ _ _ (yq_bc hS (by omega) hj (by omega) h0) ob ha hat' (fun hb => br_f (by decide) ?_) (fun hb => br_t rfl (nm_r (nI_1 k) (ih (k + 1) n _ _ (by omega) (by omega) (by omega) (yq_I2 ho hat' h hb)))))
          exact ⟨8, yw_so92 ha (fun ypt'' h2 => ih (k + 1) n _ _ (by omega) (by omega) (by omega) (yq_I3 ho h irr tr hq hb h2)) 7 0 8 _ (by omega) (by omega) (fun l _ => rfl) (fun l hl => absurd hl (by omega))⟩
      · exact br_t rfl (nm_r (nI_1 k) (ih (k + 1) n _ _ (by omega) (by omega) (by omega) (yq_Ino hI h7 (fun z => hin z.2.2.2.2))))
theorem yw_so26 {post : Int32 → SY → Prop} {J9 : Int32 → Int32 → Int32 → Int32 → Int32 → Int32 → Int32 → Int32 → Int32 → Int32 → Int64 → Int64 → Int32 → (Nat → Int32) → (Nat → Int32) → (Nat → Int32) → (Nat → Int32) → (Nat → Int32) → (Nat → Int32) → (Nat → Int64) → (Nat → Int64) → (Nat → Int32) → (Nat → Int64) → (Nat → Int64) → Prop} {i : Nat} (hi : i < m + 3) (hS : yq_S (m + 3) R) (hW : yq_W (m + 3) R yrw) (irr : ∀ x D, ¬ Bt x D x D) (tr : ∀ x y z D E F, 0 < D → 0 < E → 0 < F → Bt x D y E → Bt y E z F → Bt x D z F)
    (hbet : ∀ (post : Int32 → Prop) ypt PV PQ D PV' PQ' E, yq_b PV PQ D → yq_b PV' PQ' E → yq_at 0 PV PQ D ypt → yq_at 7 PV' PQ' E ypt → (Bt (rh_x PV PQ) D (rh_x PV' PQ') E → post 1) → (¬ Bt (rh_x PV PQ) D (rh_x PV' PQ') E → post 0) → wpY_better post (xv, xmf, xmb, xml, xfo, xbo, xol, xst, yon, yod, nI m, xco, xbf, xbk, xbv, xbl, yke, yrw, ypt, ypi, ywe, ymu) x1 x2)
    (K : ∀ x3 ypt, yq_I m R Bt (yq_vi (i + 1) 0 0) x3 ypt → J9 x3 (nI (i + 1)) xv xmf xmb xml xfo xbo xol xst yon yod (nI m) xco xbf xbk xbv xbl yke yrw ypt ypi ywe ymu) :
    ∀ d j n x3 ypt, j + d = m + 3 → d < n → i < j → yq_I m R Bt (yq_vi i j 0) x3 ypt → wY_solve_26 post J9 x1 x2 (nI i) n x3 (nI j) xv xmf xmb xml xfo xbo xol xst yon yod (nI m) xco xbf xbk xbv xbl yke yrw ypt ypi ywe ymu := by
  have hN := hS.1
  have e3 : nI m + 3 = nI (m + 3) := nI_add m 3
  intro d
  induction d with
  | zero =>
    intro j n x3 ypt hj hn hij hI
    obtain ⟨n, rfl⟩ : ∃ n', n = n' + 1 := ⟨n - 1, by omega⟩
    have e : j = m + 3 := by omega
    subst e
    refine br_t (by rw [e3]; exact nI_le (by omega) (by omega)) (nm_r (nI_1 i) (K _ _ (yq_Im hI (fun _ _ => rfl) (fun a b c q w => ?_))))
    have q1 := q.2.1
    have q2 := q.2.2.1
    unfold yq_vi at *
    omega
  | succ d ih =>
    intro j n x3 ypt hj hn hij hI
    obtain ⟨n, rfl⟩ : ∃ n', n = n' + 1 := ⟨n - 1, by omega⟩
    refine br_f (by rw [e3]; exact nI_ge (by omega) (by omega)) (nm_r (nI_1 j) ⟨m + 3, yw_so43 hij (by omega) hS hW irr tr hbet (fun x3 ypt h => ih (j + 1) n _ _ (by omega) (by omega) (by omega) (yq_Im h (fun _ _ => rfl) (fun a b c q w => ?_))) (m + 3 - (j + 1)) (j + 1) (m + 3) _ _ (by omega) (by omega) (by omega) (yq_Im hI (fun _ _ => rfl) (fun a b c q w => ?_))⟩)
    · have q2 := q.2.2.1
      unfold yq_vi at *
      omega
    · have q2 := q.2.1
      unfold yq_vi at *
      omega
theorem yw_so9 {post : Int32 → SY → Prop} (hS : yq_S (m + 3) R) (hW : yq_W (m + 3) R yrw) (irr : ∀ x D, ¬ Bt x D x D) (tr : ∀ x y z D E F, 0 < D → 0 < E → 0 < F → Bt x D y E → Bt y E z F → Bt x D z F)
    (hbet : ∀ (post : Int32 → Prop) ypt PV PQ D PV' PQ' E, yq_b PV PQ D → yq_b PV' PQ' E → yq_at 0 PV PQ D ypt → yq_at 7 PV' PQ' E ypt → (Bt (rh_x PV PQ) D (rh_x PV' PQ') E → post 1) → (¬ Bt (rh_x PV PQ) D (rh_x PV' PQ') E → post 0) → wpY_better post (xv, xmf, xmb, xml, xfo, xbo, xol, xst, yon, yod, nI m, xco, xbf, xbk, xbv, xbl, yke, yrw, ypt, ypi, ywe, ymu) x1 x2)
    (K : ∀ x3 ypt, yq_I m R Bt (fun _ _ _ => True) x3 ypt → post x3 (xv, xmf, xmb, xml, xfo, xbo, xol, xst, yon, yod, nI m, xco, xbf, xbk, xbv, xbl, yke, yrw, ypt, ypi, ywe, ymu)) :
    ∀ d i n x3 ypt, i + d = m + 3 → d < n → yq_I m R Bt (yq_vi i 0 0) x3 ypt → wY_solve_9 post x1 x2 n x3 (nI i) xv xmf xmb xml xfo xbo xol xst yon yod (nI m) xco xbf xbk xbv xbl yke yrw ypt ypi ywe ymu := by
  have hN := hS.1
  have e3 : nI m + 3 = nI (m + 3) := nI_add m 3
  intro d
  induction d with
  | zero =>
    intro i n x3 ypt hi hn hI
    obtain ⟨n, rfl⟩ : ∃ n', n = n' + 1 := ⟨n - 1, by omega⟩
    have e : i = m + 3 := by omega
    subst e
    refine br_t (by rw [e3]; exact nI_le (by omega) (by omega)) (And.intro ?_ (K _ _ (yq_Im hI (fun _ _ => rfl) (fun a b c q w => ?_))))
    · rcases hI with h | h
      · rw [h.1]; rfl
      · rw [h.1]; rfl
    · have q0 := q.1
      have q1 := q.2.1
      have q2 := q.2.2.1
      unfold yq_vi
      omega
  | succ d ih =>
    intro i n x3 ypt hi hn hI
    obtain ⟨n, rfl⟩ : ∃ n', n = n' + 1 := ⟨n - 1, by omega⟩
    refine br_f (by rw [e3]; exact nI_ge (by omega) (by omega)) (nm_r (nI_1 i) ⟨m + 3, yw_so26 (by omega) hS hW irr tr hbet (fun x3 ypt h => ih (i + 1) n _ _ (by omega) (by omega) h) (m + 3 - (i + 1)) (i + 1) (m + 3) _ _ (by omega) (by omega) (by omega) (yq_Im hI (fun _ _ => rfl) (fun a b c q w => ?_))⟩)
    have q2 := q.1
    unfold yq_vi at *
    omega
/-- the rows with the planes behind them -/
def yq_RP (m : Nat) (A : Nat → Nat → Int) (V Q : Nat → Int) : Nat → Nat → Int := yq_R (rn_V A m) (yq_z m V) (yq_z m Q)
theorem yw_sol {post : Int32 → SY → Prop} {A : Nat → Nat → Int} {V Q : Nat → Int} (hm : m ≤ 13) (hS : yq_S (m + 3) (yq_RP m A V Q)) (hW : yq_W m (yq_R A V Q) yrw) (irr : ∀ x D, ¬ Bt x D x D) (tr : ∀ x y z D E F, 0 < D → 0 < E → 0 < F → Bt x D y E → Bt y E z F → Bt x D z F)
    (hbet : ∀ (post : Int32 → Prop) yrw ypt PV PQ D PV' PQ' E, yq_b PV PQ D → yq_b PV' PQ' E → yq_at 0 PV PQ D ypt → yq_at 7 PV' PQ' E ypt → (Bt (rh_x PV PQ) D (rh_x PV' PQ') E → post 1) → (¬ Bt (rh_x PV PQ) D (rh_x PV' PQ') E → post 0) → wpY_better post (xv, xmf, xmb, xml, xfo, xbo, xol, xst, yon, yod, nI m, xco, xbf, xbk, xbv, xbl, yke, yrw, ypt, ypi, ywe, ymu) x1 x2)
    (K : ∀ x3 yrw ypt, yq_W (m + 3) (yq_RP m A V Q) yrw → yq_I m (yq_RP m A V Q) Bt (fun _ _ _ => True) x3 ypt → post x3 (xv, xmf, xmb, xml, xfo, xbo, xol, xst, yon, yod, nI m, xco, xbf, xbk, xbv, xbl, yke, yrw, ypt, ypi, ywe, ymu)) : wpY_solve post (xv, xmf, xmb, xml, xfo, xbo, xol, xst, yon, yod, nI m, xco, xbf, xbk, xbv, xbl, yke, yrw, ypt, ypi, ywe, ymu) x1 x2 := by
  unfold wpY_solve
  refine yw_pl hm hW (fun yrw hW2 => ⟨m + 4, yw_so9 hS hW2 irr tr (fun post ypt => hbet post yrw ypt) (fun x3 ypt h => K x3 yrw ypt hW2 h) (m + 3) 0 (m + 4) 0 _ (by omega) (by omega) (Or.inl ⟨rfl, fun i j k _ w => ?_⟩)⟩)
  unfold yq_vi at w
  omega
end
end
section
/-! a system with a solution has a corner inside -/
theorem rs_step {G : Nat → Nat → Int} {L : Nat → Int} {m : Nat} {nb : Nat → Nat} : (∀ w, 3 ≤ w → w < 3 + m → 0 ≤ rc_sl G L nb w) ∨ (∃ u, 3 ≤ u ∧ u < 3 + m ∧ rc_sl G L nb u < 0 ∧ ∀ l, l < 3 → ¬ re_su G nb (G u) l) ∨ ∃ u k, re_P1 G L m nb u k := by
  by_cases h : ∀ w, 3 ≤ w → w < 3 + m → 0 ≤ rc_sl G L nb w
  · exact Or.inl h
  · refine Or.inr ?_
    have ex : ∃ w, 3 ≤ w ∧ w < 3 + m ∧ rc_sl G L nb w < 0 := by
      by_cases q : ∃ w, 3 ≤ w ∧ w < 3 + m ∧ rc_sl G L nb w < 0
      · exact q
      · exfalso
        apply h
        intro w h1 h2
        by_cases z : 0 ≤ rc_sl G L nb w
        · exact z
        · exact absurd ⟨w, h1, h2, by omega⟩ q
    obtain ⟨u, ⟨u1, u2, u3⟩, hu⟩ := pk_least _ ex
    by_cases s : ∃ x, ∃ k, k < 3 ∧ re_su G nb (G u) k ∧ nb k = x
    · obtain ⟨x, ⟨k, k1, k2, k3⟩, hx⟩ := pk_least _ s
      refine Or.inr ⟨u, k, u1, u2, k1, u3, fun w w1 w2 => ?_, k2, fun l hl hs => ?_⟩
      · by_cases z : 0 ≤ rc_sl G L nb w
        · exact z
        · exact absurd ⟨w1, by omega, by omega⟩ (hu w w2)
      · by_cases z : nb k ≤ nb l
        · exact z
        · exact absurd ⟨l, hl, hs, rfl⟩ (hx (nb l) (by omega))
    · exact Or.inl ⟨u, u1, u2, u3, fun l hl hs => s ⟨nb l, l, hl, hs, rfl⟩⟩
theorem rs_ex {m : Nat} (hm : m ≤ 19) (A : Nat → Nat → Int) (b : Nat → Int) : ∃ nb, rc_gd (rf_G A) nb ∧ (∀ k, k < 3 → nb k < 3 + m) ∧ ((∀ w, 3 ≤ w → w < 3 + m → 0 ≤ rc_sl (rf_G A) (rf_L b) nb w) ∨ (∃ u, 3 ≤ u ∧ u < 3 + m ∧ rc_sl (rf_G A) (rf_L b) nb u < 0 ∧ ∀ l, l < 3 → ¬ re_su (rf_G A) nb (rf_G A u) l)) := by
  by_cases c : ∃ nb, rc_gd (rf_G A) nb ∧ (∀ k, k < 3 → nb k < 3 + m) ∧ ((∀ w, 3 ≤ w → w < 3 + m → 0 ≤ rc_sl (rf_G A) (rf_L b) nb w) ∨ (∃ u, 3 ≤ u ∧ u < 3 + m ∧ rc_sl (rf_G A) (rf_L b) nb u < 0 ∧ ∀ l, l < 3 → ¬ re_su (rf_G A) nb (rf_G A u) l))
  · exact c
  · exfalso
    have all : ∀ n, ∃ nb, rd_Ch (re_P1 (rf_G A) (rf_L b) m) (rf_G A) m n nb ∧ rc_gd (rf_G A) nb ∧ ∀ k, k < 3 → nb k < 3 + m := by
      intro n
      induction n with
      | zero => exact ⟨fun k => k, rd_Ch0, by unfold rc_gd; rw [rg_D0]; decide, fun k hk => by dsimp only; omega⟩
      | succ n ih =>
        obtain ⟨nb, h1, h2, h3⟩ := ih
        rcases rs_step (G := rf_G A) (L := rf_L b) (m := m) (nb := nb) with z | z | ⟨u, k, z⟩
        · exact absurd ⟨nb, h2, h3, Or.inl z⟩ c
        · exact absurd ⟨nb, h2, h3, Or.inr z⟩ c
        · refine ⟨rc_up nb k u, rd_ChS h1 h2 h3 z, rc_gdup (re_su0 z.2.2.2.2.2.1), fun l hl => ?_⟩
          unfold rc_up
          by_cases e : l = k
          · rw [if_pos e]; exact z.2.1
          · rw [if_neg e]; exact h3 l hl
    obtain ⟨nb, h1, h2, h3⟩ := all 8000
    have := rd_ChB hm (fun s us ks i j => re_nr1 s us ks i j) h1 h2 h3
    omega
theorem rs_corner {m : Nat} (hm : m ≤ 19) {A : Nat → Nat → Int} {b : Nat → Int} (h : ∃ x d, rf_in m A b x d) : ∃ nb x d, rf_cor (rf_G A) (rf_L b) (3 + m) nb x d ∧ rf_in m A b x d := by
  obtain ⟨nb, h1, h2, h3⟩ := rs_ex hm A b
  rcases h3 with z | ⟨u, u1, u2, u3, u4⟩
  · exact ⟨nb, _, _, rf_corX h1 h2, rf_feas h1 z⟩
  · obtain ⟨x, d, hx⟩ := h
    exact absurd hx (fun q => rf_conf h1 h2 u1 u2 u3 u4 q)
/-! the reference's planes -/
theorem yq_RPr {m : Nat} {A : Nat → Nat → Int} {V Q : Nat → Int} {r : Nat} (h : r < m) : yq_RP m A V Q r = yq_r (A r) (V r) (Q r) := by
  show yq_r (rn_V A m r) (yq_z m V r) (yq_z m Q r) = _
  unfold rn_V yq_z
  rw [if_pos h, if_pos h, if_pos h]
theorem yq_RPe {m : Nat} {A : Nat → Nat → Int} {V Q : Nat → Int} {i : Nat} : yq_RP m A V Q (m + i) = yq_r (rb_e i) 0 0 := by
  show yq_r (rn_V A m (m + i)) (yq_z m V (m + i)) (yq_z m Q (m + i)) = _
  unfold yq_z
  rw [rn_Ve, if_neg (by omega), if_neg (by omega)]
theorem yq_rd (a : Nat → Int) (V Q : Int) (x : Nat → Int) : rb_dot (yq_r a V Q) x = rb_dot a x := rfl
theorem yq_rdet (a b c : Nat → Int) (V Q V' Q' V'' Q'' : Int) : rb_det (yq_r a V Q) (yq_r b V' Q') (yq_r c V'' Q'') = rb_det a b c := rfl
def yq_ph (m u : Nat) : Nat := if u < 3 then m + u else u - 3
/-- the plane of an unknown -/
theorem yq_phR {m : Nat} {A : Nat → Nat → Int} {V Q : Nat → Int} {u : Nat} (hu : u < 3 + m) : ∃ z q, yq_RP m A V Q (yq_ph m u) = yq_r (rf_G A u) z q ∧ z * zM + q = rf_L (rg_b V Q) u := by
  unfold yq_ph
  by_cases h : u < 3
  · rw [if_pos h, rf_Gv A h, rf_Lv _ h]
    exact ⟨0, 0, yq_RPe, rfl⟩
  · rw [if_neg h]
    refine ⟨V (u - 3), Q (u - 3), ?_, ?_⟩
    · rw [yq_RPr (by omega)]
      unfold rf_G
      rw [if_neg h]
    · unfold rf_L rg_b
      rw [if_neg h]
theorem yq_in {m : Nat} {A : Nat → Nat → Int} {V Q : Nat → Int} {i j k : Nat} (h : yq_ok m (yq_RP m A V Q) i j k) : rf_in m A (rg_b V Q) (yq_x (yq_RP m A V Q) i j k) (yq_D (yq_RP m A V Q) i j k) := by
  refine ⟨rb_sgp h.2.2.2.1, fun r hr => ?_⟩
  have := h.2.2.2.2 r hr
  rw [yq_RPr hr, yq_rd] at this
  exact this
/-- every corner is among the reference's -/
theorem yq_of {m : Nat} {A : Nat → Nat → Int} {V Q : Nat → Int} {nb : Nat → Nat} {x : Nat → Int} {d : Int} (hc : rf_cor (rf_G A) (rf_L (rg_b V Q)) (3 + m) nb x d) (hi : rf_in m A (rg_b V Q) x d) : ∃ i j k, yq_ok m (yq_RP m A V Q) i j k ∧ ∀ g : Nat → Int, yq_D (yq_RP m A V Q) i j k * rb_dot g x = d * rb_dot g (yq_x (yq_RP m A V Q) i j k) := by
  have P : ∀ l, l < 3 → ∃ z q, yq_RP m A V Q (yq_ph m (nb l)) = yq_r (rf_G A (nb l)) z q ∧ z * zM + q = rf_L (rg_b V Q) (nb l) := fun l hl => yq_phR (hc.2.1 l hl)
  have D : rb_det (yq_RP m A V Q (yq_ph m (nb 0))) (yq_RP m A V Q (yq_ph m (nb 1))) (yq_RP m A V Q (yq_ph m (nb 2))) ≠ 0 := by
    obtain ⟨z0, q0, e0, _⟩ := P 0 (by omega)
    obtain ⟨z1, q1, e1, _⟩ := P 1 (by omega)
    obtain ⟨z2, q2, e2, _⟩ := P 2 (by omega)
    rw [e0, e1, e2, yq_rdet]
    exact hc.1
  have ph : ∀ l, l < 3 → yq_ph m (nb l) < m + 3 := by
    intro l hl
    have := hc.2.1 l hl
    unfold yq_ph
    by_cases h : nb l < 3
    · rw [if_pos h]; omega
    · rw [if_neg h]; omega
  obtain ⟨i, j, k, h1, h2, p1, p2, p3, hD, hset⟩ := rn_sort (yq_RP m A V Q) (fun q => q < m + 3) (ph 0 (by omega)) (ph 1 (by omega)) (ph 2 (by omega)) D
  obtain ⟨c1, c2, c3⟩ := yq_cor (R := yq_RP m A V Q) (i := i) (j := j) (k := k)
  have hX : ∀ l, l < 3 → rb_dot (rf_G A (nb l)) (yq_x (yq_RP m A V Q) i j k) = yq_D (yq_RP m A V Q) i j k * rf_L (rg_b V Q) (nb l) := by
    intro l hl
    obtain ⟨z, q, e1, e2⟩ := P l hl
    have gen : ∀ w, (w = i ∨ w = j ∨ w = k) → rb_dot (yq_RP m A V Q w) (yq_x (yq_RP m A V Q) i j k) = yq_D (yq_RP m A V Q) i j k * (yq_RP m A V Q w 3 * zM + yq_RP m A V Q w 4) := by
      rintro w (rfl | rfl | rfl)
      · exact c1
      · exact c2
      · exact c3
    have := gen (yq_ph m (nb l)) ((hset _).mpr (by rcases rb_lt3 hl with rfl | rfl | rfl <;> simp))
    rw [e1, yq_rd] at this
    rw [this, ← e2]
    rfl
  have key := rf_cor1 hc hX
  have dp : 0 < yq_D (yq_RP m A V Q) i j k := rb_sgp hD
  refine ⟨i, j, k, ⟨h1, h2, p3, hD, fun r hr => ?_⟩, key⟩
  rw [yq_RPr hr, yq_rd]
  show _ ≤ yq_D (yq_RP m A V Q) i j k * rg_b V Q r
  have a := hi.2 r hr
  have b := key (A r)
  have c := Int.mul_le_mul_of_nonneg_left a (Int.le_of_lt dp)
  rw [b] at c
  have e : yq_D (yq_RP m A V Q) i j k * (d * rg_b V Q r) = d * (yq_D (yq_RP m A V Q) i j k * rg_b V Q r) := by grind
  rw [e] at c
  exact Int.le_of_mul_le_mul_left c hc.2.2.1
/-- so the reference finds one just when there is a solution -/
theorem yq_iff {m : Nat} (hm : m ≤ 19) {A : Nat → Nat → Int} {V Q : Nat → Int} : (∃ i j k, yq_ok m (yq_RP m A V Q) i j k) ↔ ∃ x d, rf_in m A (rg_b V Q) x d := by
  constructor
  · rintro ⟨i, j, k, h⟩
    exact ⟨_, _, yq_in h⟩
  · intro h
    obtain ⟨nb, x, d, h1, h2⟩ := rs_corner hm h
    obtain ⟨i, j, k, h3, _⟩ := yq_of h1 h2
    exact ⟨i, j, k, h3⟩
/-! the same rows twice -/
theorem rs_same {p : Nat → Bool} {n : Nat} {C F K W : Nat → Int32} {A A' : Nat → Nat → Int} {V V' Q Q' : Nat → Int} (h : rh_L p n C F K W A V Q) (h' : rh_L p n C F K W A' V' Q') : ∀ r, r < rh_n p n → A r = A' r ∧ V r = V' r ∧ Q r = Q' r := by
  intro r hr
  obtain ⟨j, hj, hp, rfl⟩ := rh_nE p n r hr
  obtain ⟨a1, a2, a3⟩ := h j hj hp
  obtain ⟨b1, b2, b3⟩ := h' j hj hp
  exact ⟨a1.trans b1.symm, a2.trans b2.symm, a3.trans b3.symm⟩
theorem rs_corT {m : Nat} {A A' : Nat → Nat → Int} {b b' : Nat → Int} {nb : Nat → Nat} {x : Nat → Int} {d : Int} (hA : ∀ r, r < m → A r = A' r ∧ b r = b' r) (h : rf_cor (rf_G A) (rf_L b) (3 + m) nb x d) : rf_cor (rf_G A') (rf_L b') (3 + m) nb x d := by
  have eG : ∀ u, u < 3 + m → rf_G A u = rf_G A' u ∧ rf_L b u = rf_L b' u := by
    intro u hu
    by_cases c : u < 3
    · rw [rf_Gv A c, rf_Gv A' c, rf_Lv b c, rf_Lv b' c]; exact ⟨rfl, rfl⟩
    · obtain ⟨j, hj, rfl⟩ := rf_row (by omega) hu
      rw [rf_Gr, rf_Gr, rf_Lr, rf_Lr]; exact hA j hj
  refine ⟨?_, h.2.1, h.2.2.1, fun k hk => ?_⟩
  · have e : rb_D (rc_B (rf_G A) nb) = rb_D (rc_B (rf_G A') nb) := by
      unfold rb_D rc_B
      rw [(eG _ (h.2.1 0 (by omega))).1, (eG _ (h.2.1 1 (by omega))).1, (eG _ (h.2.1 2 (by omega))).1]
    have := h.1
    unfold rc_gd at *
    rwa [e] at this
  · have e := eG _ (h.2.1 k hk)
    rw [← e.1, ← e.2]
    exact h.2.2.2 k hk
/-- better looks at the points alone -/
theorem rf_btS {x x' y : Nat → Int} {d d' e : Int} (hd : 0 < d) (hd' : 0 < d') (he : 0 < e) (h : ∀ i, i < 3 → x i * d' = x' i * d) (hb : rf_bt x d y e) : rf_bt x' d' y e := by
  have a : ∀ i, i < 3 → rf_ab (x i) * d' = rf_ab (x' i) * d := by
    intro i hi
    rw [← rf_abm _ _ (by omega), ← rf_abm _ _ (by omega), h i hi]
  have L : ∀ i, i < 3 → rf_ab (x i) * e < rf_ab (y i) * d → rf_ab (x' i) * e < rf_ab (y i) * d' := by
    intro i hi q
    have q1 := Int.mul_lt_mul_of_pos_right q hd'
    have q2 : rf_ab (x i) * e * d' = rf_ab (x' i) * e * d := by
      rw [show rf_ab (x i) * e * d' = rf_ab (x i) * d' * e by grind, a i hi]; grind
    have q3 : rf_ab (y i) * d * d' = rf_ab (y i) * d' * d := by grind
    rw [q2, q3] at q1
    exact Int.lt_of_mul_lt_mul_right q1 (by omega)
  have E : ∀ i, i < 3 → rf_ab (x i) * e = rf_ab (y i) * d → rf_ab (x' i) * e = rf_ab (y i) * d' := by
    intro i hi q
    have q2 : rf_ab (x' i) * e * d = rf_ab (y i) * d' * d := by
      rw [show rf_ab (x' i) * e * d = rf_ab (x' i) * d * e by grind, ← a i hi, show rf_ab (x i) * d' * e = rf_ab (x i) * e * d' by grind, q]; grind
    exact Int.eq_of_mul_eq_mul_right (by omega) q2
  rcases hb with q | ⟨q, r⟩
  · exact Or.inl (L 0 (by omega) q)
  · refine Or.inr ⟨E 0 (by omega) q, ?_⟩
    rcases r with r | ⟨r, s⟩
    · exact Or.inl (L 1 (by omega) r)
    · exact Or.inr ⟨E 1 (by omega) r, L 2 (by omega) s⟩
theorem rf_btI (x : Nat → Int) (D : Int) : ¬ rf_bt x D x D := by
  unfold rf_bt
  omega
theorem yq_bfI (c : Nat → Int) (x : Nat → Int) (D : Int) : ¬ yq_bf c x D x D := by
  unfold yq_bf
  omega
theorem yq_bfT (c : Nat → Int) (x y z : Nat → Int) (D E F : Int) (hD : 0 < D) (hE : 0 < E) (hF : 0 < F) (h1 : yq_bf c x D y E) (h2 : yq_bf c y E z F) : yq_bf c x D z F := by
  unfold yq_bf at *
  exact rc_frl' hE (by omega) hD h2 (Int.le_of_lt h1)
end
section
/-! the reference's questions: is there a solution, the nearest point, the core -/
def rs_b (m : Nat) (A : Nat → Nat → Int) (V Q : Nat → Int) : Prop := ∀ r, r < m → rb_bd (A r) 20 ∧ zA (V r) 1000 ∧ zA (Q r) 1
theorem rs_bS {m : Nat} {A : Nat → Nat → Int} {V Q : Nat → Int} (hm : m ≤ 13) (h : rs_b m A V Q) : yq_S (m + 3) (yq_RP m A V Q) := by
  refine ⟨by omega, fun r hr => ?_⟩
  by_cases c : r < m
  · rw [yq_RPr c]
    obtain ⟨h1, h2, h3⟩ := h r c
    refine ⟨fun i hi => ?_, h2, h3⟩
    show zA (if i < 3 then A r i else _) 20
    rw [if_pos hi]; exact h1 i hi
  · obtain ⟨i, rfl⟩ : ∃ i, r = m + i := ⟨r - m, by omega⟩
    rw [yq_RPe]
    refine ⟨fun l hl => ?_, zA_0 (by omega), zA_0 (by omega)⟩
    show zA (if l < 3 then rb_e i l else _) 20
    rw [if_pos hl]; exact rg_eb i l hl
theorem rs_bL {p : Nat → Bool} {n nf v : Nat} {C F K W : Nat → Int32} {A : Nat → Nat → Int} {V Q : Nat → Int} (hC : rh_C v nf C) (hB : rh_B nf n F K W) (h : rh_L p n C F K W A V Q) : rs_b (rh_n p n) A V Q := by
  intro r hr
  obtain ⟨j, hj, hp, rfl⟩ := rh_nE p n r hr
  obtain ⟨a1, a2, a3⟩ := h j hj hp
  obtain ⟨f1, f2, k1, k2, w1⟩ := hB.2 j hj
  rw [a1, a2, a3]
  exact ⟨(rh_ab hC f2 _).1, rh_sb _ w1, rh_qb _⟩
theorem rs_bP {m : Nat} {A : Nat → Nat → Int} {V Q : Nat → Int} {a : Nat → Int} {z q : Int} (h : rs_b m A V Q) (ha : rb_bd a 20) (hz : zA z 1000) (hq : zA q 1) : rs_b (m + 1) (rg_p A m a) (rg_p V m z) (rg_p Q m q) := by
  intro r hr
  by_cases e : r = m
  · rw [e, rg_ps, rg_ps, rg_ps]; exact ⟨ha, hz, hq⟩
  · rw [rg_pn e, rg_pn e, rg_pn e]; exact h r (by omega)
/-- the best corner -/
def rs_best (m : Nat) (R : Nat → Nat → Int) (Bt : (Nat → Int) → Int → (Nat → Int) → Int → Prop) (PV PQ : Nat → Int) (D : Int) : Prop := ∃ a b c, yq_ok m R a b c ∧ PV = yq_V R a b c ∧ PQ = yq_Q R a b c ∧ D = yq_D R a b c ∧ ∀ i j k, yq_ok m R i j k → ¬ Bt (yq_x R i j k) (yq_D R i j k) (rh_x PV PQ) D
theorem rs_bestb {m : Nat} {A : Nat → Nat → Int} {V Q : Nat → Int} {Bt : (Nat → Int) → Int → (Nat → Int) → Int → Prop} {PV PQ : Nat → Int} {D : Int} (hm : m ≤ 13) (hb : rs_b m A V Q) (h : rs_best m (yq_RP m A V Q) Bt PV PQ D) : yq_b PV PQ D := by
  obtain ⟨a, b, c, h1, h2, h3, h4, _⟩ := h
  rw [h2, h3, h4]
  have q0 := h1.1
  have q1 := h1.2.1
  have q2 := h1.2.2.1
  exact yq_bc (rs_bS hm hb) (by omega) (by omega) q2 h1.2.2.2.1
section
variable {m : Nat} {A : Nat → Nat → Int} {V Q : Nat → Int}
variable {xv xmf xmb xml xfo xbo xol xst : Int32} {yon yod : Int64} {xco xbf xbk xbv xbl yke ypi : Nat → Int32} {yrw ypt ywe ymu : Nat → Int64}
theorem yw_s0 {post : Int32 → SY → Prop} (hm : m ≤ 13) (hb : rs_b m A V Q) (hW : yq_W m (yq_R A V Q) yrw)
    (K1 : ∀ yrw ypt PV PQ D, (∃ x d, rf_in m A (rg_b V Q) x d) → yq_W (m + 3) (yq_RP m A V Q) yrw → rs_best m (yq_RP m A V Q) rf_bt PV PQ D → yq_at 7 PV PQ D ypt → post 1 (xv, xmf, xmb, xml, xfo, xbo, xol, xst, yon, yod, nI m, xco, xbf, xbk, xbv, xbl, yke, yrw, ypt, ypi, ywe, ymu))
    (K0 : ∀ yrw ypt, (¬ ∃ x d, rf_in m A (rg_b V Q) x d) → post 0 (xv, xmf, xmb, xml, xfo, xbo, xol, xst, yon, yod, nI m, xco, xbf, xbk, xbv, xbl, yke, yrw, ypt, ypi, ywe, ymu)) : wpY_solve post (xv, xmf, xmb, xml, xfo, xbo, xol, xst, yon, yod, nI m, xco, xbf, xbk, xbv, xbl, yke, yrw, ypt, ypi, ywe, ymu) (-1) 0 := by
  refine yw_sol (Bt := rf_bt) hm (rs_bS hm hb) hW rf_btI (fun x y z D E F => rf_btT) (fun post yrw ypt PV PQ D PV' PQ' E b1 b2 a1 a2 k1 k2 => yw_bn b1 b2 a1 a2 k1 k2) (fun x3 yrw ypt hW2 hI => ?_)
  rcases hI with ⟨e, h⟩ | ⟨e, a, b, c, h1, h2, h3⟩
  · subst e
    refine K0 _ _ (fun z => ?_)
    obtain ⟨i, j, k, q⟩ := (yq_iff (by omega)).mpr z
    exact h i j k q trivial
  · subst e
    exact K1 _ _ _ _ _ ((yq_iff (by omega)).mp ⟨a, b, c, h1⟩) hW2 ⟨a, b, c, h1, rfl, rfl, rfl, fun i j k q => h3 i j k q trivial⟩ h2
end
section
variable {n nf v : Nat}
variable {xv xmf xmb xml xfo xol xst yrs : Int32} {yon yod : Int64} {xco xbf xbk xbv xbl yke ypi : Nat → Int32} {yrw ypt ywe ymu : Nat → Int64}
/-- load and solve over the bounds that are kept -/
theorem yw_ls {post : Int32 → SY → Prop} {p : Nat → Bool} (hC : rh_C v nf xco) (hB : rh_B nf n xbf xbk xbv) (hp : ∀ j, j < n → (p j = true ↔ yke j ≠ 0))
    (K1 : ∀ A V Q yrw ypt PV PQ D, rm_ft n xco xbf xbk xbv p → rh_L p n xco xbf xbk xbv A V Q → yq_W (rh_n p n + 3) (yq_RP (rh_n p n) A V Q) yrw → rs_best (rh_n p n) (yq_RP (rh_n p n) A V Q) rf_bt PV PQ D → yq_at 7 PV PQ D ypt → post 1 (xv, xmf, xmb, xml, xfo, nI n, xol, xst, yon, yod, nI (rh_n p n), xco, xbf, xbk, xbv, xbl, yke, yrw, ypt, ypi, ywe, ymu))
    (K0 : ∀ yrw ypt, ¬ rm_ft n xco xbf xbk xbv p → post 0 (xv, xmf, xmb, xml, xfo, nI n, xol, xst, yon, yod, nI (rh_n p n), xco, xbf, xbk, xbv, xbl, yke, yrw, ypt, ypi, ywe, ymu)) : wpY_load (fun u => match u with | (xv, xmf, xmb, xml, xfo, xbo, xol, xst, yon, yod, yrs, xco, xbf, xbk, xbv, xbl, yke, yrw, ypt, ypi, ywe, ymu) => wpY_solve post (xv, xmf, xmb, xml, xfo, xbo, xol, xst, yon, yod, yrs, xco, xbf, xbk, xbv, xbl, yke, yrw, ypt, ypi, ywe, ymu) (-1) 0) (xv, xmf, xmb, xml, xfo, nI n, xol, xst, yon, yod, yrs, xco, xbf, xbk, xbv, xbl, yke, yrw, ypt, ypi, ywe, ymu) := by
  have hn := hB.1
  have hle := rh_nle p n
  refine yw_lo (p := p) hC hB hp (fun A V Q yrw hW hL => ?_)
  refine yw_s0 (m := rh_n p n) (by omega) (rs_bL hC hB hL) hW (fun yrw ypt PV PQ D hf hW2 hb ha => K1 A V Q yrw ypt PV PQ D ?_ hL hW2 hb ha) (fun yrw ypt hf => K0 _ _ (fun z => hf ?_))
  · obtain ⟨x, d, h⟩ := hf
    exact ⟨x, d, (rm_feL hL x d).mp h⟩
  · obtain ⟨x, d, h⟩ := z
    exact ⟨x, d, (rm_feL hL x d).mpr h⟩
theorem yw_pt {post : Int32 → SY → Prop} (hC : rh_C v nf xco) (hB : rh_B nf n xbf xbk xbv)
    (K1 : ∀ A V Q yke yrw ypt PV PQ D, rm_ft n xco xbf xbk xbv (fun _ => true) → rh_L (fun _ => true) n xco xbf xbk xbv A V Q → yq_W (rh_n (fun _ => true) n + 3) (yq_RP (rh_n (fun _ => true) n) A V Q) yrw → rs_best (rh_n (fun _ => true) n) (yq_RP (rh_n (fun _ => true) n) A V Q) rf_bt PV PQ D → yq_at 7 PV PQ D ypt → post 1 (xv, xmf, xmb, xml, xfo, nI n, xol, xst, yon, yod, nI (rh_n (fun _ => true) n), xco, xbf, xbk, xbv, xbl, yke, yrw, ypt, ypi, ywe, ymu))
    (K0 : ∀ yke yrw ypt, ¬ rm_ft n xco xbf xbk xbv (fun _ => true) → post 0 (xv, xmf, xmb, xml, xfo, nI n, xol, xst, yon, yod, nI (rh_n (fun _ => true) n), xco, xbf, xbk, xbv, xbl, yke, yrw, ypt, ypi, ywe, ymu)) : wpY_point post (xv, xmf, xmb, xml, xfo, nI n, xol, xst, yon, yod, yrs, xco, xbf, xbk, xbv, xbl, yke, yrw, ypt, ypi, ywe, ymu) := by
  have hn := hB.1
  unfold wpY_point
  refine yw_ka (fun yke hk => ?_)
  refine yw_ls (p := fun _ => true) hC hB (fun j hj => ?_) (fun A V Q yrw ypt PV PQ D h1 h2 h3 h4 h5 => And.intro rfl (K1 A V Q yke yrw ypt PV PQ D h1 h2 h3 h4 h5)) (fun yrw ypt h => And.intro rfl (K0 yke yrw ypt h))
  rw [hk j (by omega)]
  exact ⟨fun _ => by decide, fun _ => rfl⟩
theorem rm_coU {C F K W : Nat → Int32} : ∀ d j, j < n - d → rm_co n C F K W d j = true := by
  intro d
  induction d with
  | zero => exact fun _ _ => rfl
  | succ d ih =>
    intro j hj
    have h := ih j (by omega)
    by_cases c : rm_ft n C F K W (rm_rm (rm_co n C F K W d) (n - 1 - d))
    · rw [rm_coT c]; exact h
    · rw [rm_coF c]; exact rm_rmT.mpr ⟨h, by omega⟩
theorem yw_co11 {post : SY → Prop} (hC : rh_C v nf xco) (hB : rh_B nf n xbf xbk xbv)
    (K : ∀ yrs yke yrw ypt, (∀ j, j < n → (rm_co n xco xbf xbk xbv n j = true ↔ yke j ≠ 0)) → post (xv, xmf, xmb, xml, xfo, nI n, xol, xst, yon, yod, yrs, xco, xbf, xbk, xbv, xbl, yke, yrw, ypt, ypi, ywe, ymu)) :
    ∀ i fu yrs yke yrw ypt, i ≤ n → i < fu → (∀ j, j < n → (rm_co n xco xbf xbk xbv (n - i) j = true ↔ yke j ≠ 0)) → wY_core_11 post fu (rh_fx i) xv xmf xmb xml xfo (nI n) xol xst yon yod yrs xco xbf xbk xbv xbl yke yrw ypt ypi ywe ymu := by
  have hn := hB.1
  intro i
  induction i with
  | zero =>
    intro fu yrs yke yrw ypt hi hf hk
    obtain ⟨fu, rfl⟩ : ∃ n', fu = n' + 1 := ⟨fu - 1, by omega⟩
    rw [Nat.sub_zero] at hk
    exact br_t (by decide) (K _ _ _ _ hk)
  | succ i ih =>
    intro fu yrs yke yrw ypt hi hf hk
    obtain ⟨fu, rfl⟩ : ∃ n', fu = n' + 1 := ⟨fu - 1, by omega⟩
    have e1 : n - 1 - (n - (i + 1)) = i := by omega
    have e2 : n - (i + 1) + 1 = n - i := by omega
    have hx : vp_in (rh_fx (i + 1)) 10 := vp_in_nI (n := i) (by omega) (by omega)
    have hc : (rh_fx (i + 1)).toNatClampNeg = i := nI_clamp (by omega)
    refine br_f (nI_pos (by omega)) (And.intro hx ?_)
    rw [hc]
    refine nm_e (yw_ls (p := rm_rm (rm_co n xco xbf xbk xbv (n - (i + 1))) i) hC hB (fun j hj => ?_) (fun A V Q yrw ypt PV PQ D h1 h2 h3 h4 h5 => br_f (by decide) (And.intro hx ?_)) (fun yrw ypt h => br_t rfl (nm_r (rh_fx1 i) (ih fu _ _ _ _ (by omega) (by omega) (fun j hj => ?_)))))
    · rw [rm_rmT, hk j hj]
      by_cases e : j = i
      · rw [e, pk_us]
        exact ⟨fun z => absurd rfl z.2, fun z => absurd rfl z⟩
      · rw [pk_un e]
        exact ⟨fun z => z.1, fun z => ⟨z, e⟩⟩
    · refine nm_e (nm_r (rh_fx1 i) (ih fu _ _ _ _ (by omega) (by omega) (fun j hj => ?_)))
      rw [← e2, rm_coT (by rw [e1]; exact h1)]
      by_cases e : j = i
      · rw [e, pk_us]
        exact ⟨fun _ => by decide, fun _ => rm_coU _ _ (by omega)⟩
      · rw [pk_un e, pk_un e]; exact hk j hj
    · rw [← e2, rm_coF (by rw [e1]; exact h), e1, rm_rmT, hk j hj]
      by_cases e : j = i
      · rw [e, pk_us]
        exact ⟨fun z => absurd rfl z.2, fun z => absurd rfl z⟩
      · rw [pk_un e]
        exact ⟨fun z => z.1, fun z => ⟨z, e⟩⟩
theorem yw_core {post : SY → Prop} (hC : rh_C v nf xco) (hB : rh_B nf n xbf xbk xbv)
    (K : ∀ yrs yke yrw ypt, (∀ j, j < n → (rm_co n xco xbf xbk xbv n j = true ↔ yke j ≠ 0)) → post (xv, xmf, xmb, xml, xfo, nI n, xol, xst, yon, yod, yrs, xco, xbf, xbk, xbv, xbl, yke, yrw, ypt, ypi, ywe, ymu)) : wpY_core post (xv, xmf, xmb, xml, xfo, nI n, xol, xst, yon, yod, yrs, xco, xbf, xbk, xbv, xbl, yke, yrw, ypt, ypi, ywe, ymu) := by
  have hn := hB.1
  unfold wpY_core
  refine yw_ka (fun yke hk => ?_)
  refine nm_r (e' := rh_fx n) ?_ ⟨n + 1, yw_co11 hC hB K n (n + 1) _ _ _ _ (by omega) (by omega) (fun j hj => ?_)⟩
  · cases n with
    | zero => rfl
    | succ i => exact nI_pred i
  · rw [hk j (by omega), Nat.sub_self]
    exact ⟨fun _ => by decide, fun _ => rfl⟩
end
end
section
/-! four vectors and their dependence -/
theorem rn_four {v : Nat → Nat → Int} {y : Nat → Int} (h : ∀ l, l < 3 → y 0 * v 0 l + y 1 * v 1 l + y 2 * v 2 l + y 3 * v 3 l = 0) :
    y 0 * rb_det (v 0) (v 2) (v 3) = -(y 1 * rb_det (v 1) (v 2) (v 3)) ∧ y 0 * rb_det (v 0) (v 1) (v 3) = y 2 * rb_det (v 1) (v 2) (v 3) ∧ y 0 * rb_det (v 0) (v 1) (v 2) = -(y 3 * rb_det (v 1) (v 2) (v 3)) := by
  have h0 := h 0 (by omega)
  have h1 := h 1 (by omega)
  have h2 := h 2 (by omega)
  refine ⟨?_, ?_, ?_⟩
  · have e : y 0 * rb_det (v 0) (v 2) (v 3) + y 1 * rb_det (v 1) (v 2) (v 3) = (y 0 * v 0 0 + y 1 * v 1 0 + y 2 * v 2 0 + y 3 * v 3 0) * (v 2 1 * v 3 2 - v 2 2 * v 3 1) - (y 0 * v 0 1 + y 1 * v 1 1 + y 2 * v 2 1 + y 3 * v 3 1) * (v 2 0 * v 3 2 - v 2 2 * v 3 0) + (y 0 * v 0 2 + y 1 * v 1 2 + y 2 * v 2 2 + y 3 * v 3 2) * (v 2 0 * v 3 1 - v 2 1 * v 3 0) := by
      unfold rb_det; grind
    rw [h0, h1, h2, Int.zero_mul, Int.zero_mul, Int.zero_mul] at e
    omega
  · have e : y 0 * rb_det (v 0) (v 1) (v 3) - y 2 * rb_det (v 1) (v 2) (v 3) = (y 0 * v 0 0 + y 1 * v 1 0 + y 2 * v 2 0 + y 3 * v 3 0) * (v 1 1 * v 3 2 - v 1 2 * v 3 1) - (y 0 * v 0 1 + y 1 * v 1 1 + y 2 * v 2 1 + y 3 * v 3 1) * (v 1 0 * v 3 2 - v 1 2 * v 3 0) + (y 0 * v 0 2 + y 1 * v 1 2 + y 2 * v 2 2 + y 3 * v 3 2) * (v 1 0 * v 3 1 - v 1 1 * v 3 0) := by
      unfold rb_det; grind
    rw [h0, h1, h2, Int.zero_mul, Int.zero_mul, Int.zero_mul] at e
    omega
  · have e : y 0 * rb_det (v 0) (v 1) (v 2) + y 3 * rb_det (v 1) (v 2) (v 3) = (y 0 * v 0 0 + y 1 * v 1 0 + y 2 * v 2 0 + y 3 * v 3 0) * (v 1 1 * v 2 2 - v 1 2 * v 2 1) - (y 0 * v 0 1 + y 1 * v 1 1 + y 2 * v 2 1 + y 3 * v 3 1) * (v 1 0 * v 2 2 - v 1 2 * v 2 0) + (y 0 * v 0 2 + y 1 * v 1 2 + y 2 * v 2 2 + y 3 * v 3 2) * (v 1 0 * v 2 1 - v 1 1 * v 2 0) := by
      unfold rb_det; grind
    rw [h0, h1, h2, Int.zero_mul, Int.zero_mul, Int.zero_mul] at e
    omega
/-- the determinant of the other three -/
def yn_M (v : Nat → Nat → Int) (t : Nat) : Int := if t = 0 then rb_det (v 1) (v 2) (v 3) else if t = 1 then rb_det (v 0) (v 2) (v 3) else if t = 2 then rb_det (v 0) (v 1) (v 3) else rb_det (v 0) (v 1) (v 2)
theorem rn_gC {f g : Nat → Int} : ∀ n, (∀ j, j < n → f j = g j) → rn_g f n = rn_g g n := by
  intro n
  induction n with
  | zero => intro _; rfl
  | succ n ih =>
    intro h
    show Int.gcd (rn_g f n) (f n) = Int.gcd (rn_g g n) (g n)
    rw [ih (fun j hj => h j (by omega)), h n (by omega)]
theorem rn_gA (f : Nat → Int) (n : Nat) : rn_g (fun j => rf_ab (f j)) n = rn_g f n := by
  induction n with
  | zero => rfl
  | succ n ih =>
    show Int.gcd (rn_g (fun j => rf_ab (f j)) n) (rf_ab (f n)) = Int.gcd (rn_g f n) (f n)
    rw [ih]
    unfold rf_ab
    by_cases c : f n < 0
    · rw [if_pos c, Int.gcd_neg]
    · rw [if_neg c]
theorem rn_gz {f : Nat → Int} : ∀ n, (∀ j, j < n → f j = 0) → rn_g f n = 0 := by
  intro n
  induction n with
  | zero => intro _; rfl
  | succ n ih =>
    intro h
    show Int.gcd (rn_g f n) (f n) = 0
    rw [ih (fun j hj => h j (by omega)), h n (by omega)]
    rfl
theorem rf_abmn (a b : Int) (ha : 0 ≤ a) : rf_ab (a * b) = a * rf_ab b := by
  rw [Int.mul_comm, rf_abm _ _ ha, Int.mul_comm]
theorem rf_abneg (a : Int) : rf_ab (-a) = rf_ab a := by
  unfold rf_ab
  by_cases c : a < 0
  · rw [if_pos c, if_neg (by omega)]
  · by_cases d : a = 0
    · rw [d]; rfl
    · rw [if_neg c, if_pos (by omega)]; omega
/-- the minors are the primitive dependence, times their divisor -/
theorem rn_w {v : Nat → Nat → Int} {y : Nat → Int} (h : ∀ l, l < 3 → y 0 * v 0 l + y 1 * v 1 l + y 2 * v 2 l + y 3 * v 3 l = 0) (h0 : 0 < y 0) (hn : ∀ t, t < 4 → 0 ≤ y t) (hg : rn_g y 4 = 1) : ∀ t, t < 4 → rf_ab (yn_M v t) = (rn_g (yn_M v) 4 : Int) * y t := by
  obtain ⟨a, b, c⟩ := rn_four h
  have key : ∀ t, t < 4 → y 0 * rf_ab (yn_M v t) = rf_ab (yn_M v 0) * y t := by
    intro t ht
    have cs : t = 0 ∨ t = 1 ∨ t = 2 ∨ t = 3 := by omega
    have n1 := hn 1 (by omega)
    have n2 := hn 2 (by omega)
    have n3 := hn 3 (by omega)
    rw [← rf_abmn _ _ (by omega)]
    rcases cs with rfl | rfl | rfl | rfl
    · rw [rf_abmn _ _ (by omega), Int.mul_comm]
    · show rf_ab (y 0 * rb_det (v 0) (v 2) (v 3)) = rf_ab (rb_det (v 1) (v 2) (v 3)) * y 1
      rw [a, rf_abneg, rf_abmn _ _ n1, Int.mul_comm]
    · show rf_ab (y 0 * rb_det (v 0) (v 1) (v 3)) = rf_ab (rb_det (v 1) (v 2) (v 3)) * y 2
      rw [b, rf_abmn _ _ n2, Int.mul_comm]
    · show rf_ab (y 0 * rb_det (v 0) (v 1) (v 2)) = rf_ab (rb_det (v 1) (v 2) (v 3)) * y 3
      rw [c, rf_abneg, rf_abmn _ _ n3, Int.mul_comm]
  have w0 := rf_ab0 (yn_M v 0)
  obtain ⟨yn, hy⟩ : ∃ k : Nat, y 0 = (k : Int) := ⟨(y 0).toNat, by omega⟩
  obtain ⟨wn, hw⟩ : ∃ k : Nat, rf_ab (yn_M v 0) = (k : Int) := ⟨(rf_ab (yn_M v 0)).toNat, by omega⟩
  have e1 := rn_gm (z0 := fun t => y 0 * rf_ab (yn_M v t)) (z := fun t => rf_ab (yn_M v t)) (k := yn) 4 (fun j _ => by rw [hy])
  have e2 := rn_gm (z0 := fun t => rf_ab (yn_M v 0) * y t) (z := y) (k := wn) 4 (fun j _ => by rw [hw])
  have e3 := rn_gC (f := fun t => y 0 * rf_ab (yn_M v t)) (g := fun t => rf_ab (yn_M v 0) * y t) 4 key
  rw [e1, e2, hg, Nat.mul_one, rn_gA] at e3
  intro t ht
  have k := key t ht
  have e4 : rf_ab (yn_M v 0) = y 0 * (rn_g (yn_M v) 4 : Int) := by
    rw [hw, hy, ← e3, Int.natCast_mul]
  rw [e4, Int.mul_assoc] at k
  exact Int.eq_of_mul_eq_mul_left (by omega) k
/-! the four planes that are picked -/
theorem rh_ninj {p : Nat → Bool} {i j : Nat} (hi : p i = true) (hj : p j = true) (h : rh_n p i = rh_n p j) : i = j := by
  by_cases a : i < j
  · have := rh_nlt a hi; omega
  · by_cases b : j < i
    · have := rh_nlt b hj; omega
    · omega
theorem rn_selc {c mask : Nat} : ∀ r, r ≤ c → rh_n (rn_sel c mask) r = r := by
  intro r
  induction r with
  | zero => intro _; rfl
  | succ r ih =>
    intro h
    rw [rh_nS (rn_selr (by omega)), ih (by omega)]
def yn_q (c mask : Nat) (q : Nat → Nat) : Prop := ∀ t, t < 4 → q t < c + 3 ∧ rn_sel c mask (q t) = true ∧ rh_n (rn_sel c mask) (q t) = t
theorem yn_qex {c mask : Nat} (h4 : rh_n (rn_sel c mask) (c + 3) = 4) : ∃ q, yn_q c mask q := by
  have : ∀ t, ∃ r, t < 4 → r < c + 3 ∧ rn_sel c mask r = true ∧ rh_n (rn_sel c mask) r = t := by
    intro t
    by_cases ht : t < 4
    · obtain ⟨r, h1, h2, h3⟩ := rh_nE (rn_sel c mask) (c + 3) t (by omega)
      exact ⟨r, fun _ => ⟨h1, h2, h3⟩⟩
    · exact ⟨0, fun z => absurd z ht⟩
  obtain ⟨q, hq⟩ := Classical.axiomOfChoice this
  exact ⟨q, hq⟩
theorem yn_qc {c mask : Nat} {q : Nat → Nat} (h4 : rh_n (rn_sel c mask) (c + 3) = 4) (hq : yn_q c mask q) : c ≤ 4 ∧ (∀ t, t < c → q t = t) ∧ ∀ t, t < 4 → c ≤ t → c ≤ q t := by
  have hc : c ≤ 4 := by
    have := rh_nm (rn_sel c mask) (i := c) (j := c + 3) (by omega)
    rw [rn_selc c (Nat.le_refl c), h4] at this
    exact this
  refine ⟨hc, fun t ht => ?_, fun t ht hct => ?_⟩
  · obtain ⟨a, b, d⟩ := hq t (by omega)
    exact rh_ninj b (rn_selr ht) (by rw [d, rn_selc t (by omega)])
  · obtain ⟨a, b, d⟩ := hq t ht
    by_cases z : c ≤ q t
    · exact z
    · have := rn_selc (c := c) (mask := mask) (q t) (by omega)
      omega
/-- a mask of rank three has a minor that isn't zero -/
theorem yn_nz {R : Nat → Nat → Int} {A : Nat → Nat → Int} {c mask : Nat} {q : Nat → Nat} (hR : ∀ a b d, rb_det (R a) (R b) (R d) = rb_det (rn_V A c a) (rn_V A c b) (rn_V A c d)) (h4 : rh_n (rn_sel c mask) (c + 3) = 4) (hq : yn_q c mask q) {q0 q1 q2 : Nat} (h01 : q0 < q1) (h12 : q1 < q2) (h2 : q2 < c + 3) (s0 : rn_sel c mask q0 = true) (s1 : rn_sel c mask q1 = true) (s2 : rn_sel c mask q2 = true) (hD : rb_det (rn_V A c q0) (rn_V A c q1) (rn_V A c q2) ≠ 0) : ∃ t, t < 4 ∧ yn_M (fun t => R (q t)) t ≠ 0 := by
  have l01 := rh_nlt (p := rn_sel c mask) h01 s0
  have l12 := rh_nlt (p := rn_sel c mask) h12 s1
  have l23 := rh_nlt (p := rn_sel c mask) h2 s2
  rw [h4] at l23
  have back : ∀ r, rn_sel c mask r = true → rh_n (rn_sel c mask) r < 4 → q (rh_n (rn_sel c mask) r) = r := by
    intro r hr hl
    obtain ⟨a, b, d⟩ := hq _ hl
    exact rh_ninj b hr d
  have b0 := back q0 s0 (by omega)
  have b1 := back q1 s1 (by omega)
  have b2 := back q2 s2 (by omega)
  rw [← hR] at hD
  generalize rh_n (rn_sel c mask) q0 = p0 at *
  generalize rh_n (rn_sel c mask) q1 = p1 at *
  generalize rh_n (rn_sel c mask) q2 = p2 at *
  subst b0 b1 b2
  have cs : (p0 = 1 ∧ p1 = 2 ∧ p2 = 3) ∨ (p0 = 0 ∧ p1 = 2 ∧ p2 = 3) ∨ (p0 = 0 ∧ p1 = 1 ∧ p2 = 3) ∨ (p0 = 0 ∧ p1 = 1 ∧ p2 = 2) := by omega
  rcases cs with ⟨rfl, rfl, rfl⟩ | ⟨rfl, rfl, rfl⟩ | ⟨rfl, rfl, rfl⟩ | ⟨rfl, rfl, rfl⟩
  · exact ⟨0, by omega, hD⟩
  · exact ⟨1, by omega, hD⟩
  · exact ⟨2, by omega, hD⟩
  · exact ⟨3, by omega, hD⟩
/-- the multipliers by rows -/
theorem rn_y {p : Nat → Bool} {n : Nat} (z : Nat → Int) : ∃ y : Nat → Int, (∀ j, j < n → p j = true → z j = y (rh_n p j)) ∧ ∀ r, rh_n p n ≤ r → y r = 0 := by
  have : ∀ r, ∃ w : Int, (∀ j, j < n → p j = true → rh_n p j = r → z j = w) ∧ (rh_n p n ≤ r → w = 0) := by
    intro r
    by_cases h : ∃ j, j < n ∧ p j = true ∧ rh_n p j = r
    · obtain ⟨j, h1, h2, h3⟩ := h
      refine ⟨z j, fun i i1 i2 i3 => ?_, fun q => ?_⟩
      · rw [rh_ninj i2 h2 (i3.trans h3.symm)]
      · have := rh_nlt h1 h2; omega
    · exact ⟨0, fun j h1 h2 h3 => absurd ⟨j, h1, h2, h3⟩ h, fun _ => rfl⟩
  obtain ⟨y, hy⟩ := Classical.axiomOfChoice this
  exact ⟨y, fun j h1 h2 => (hy (rh_n p j)).1 j h1 h2 rfl, fun r h => (hy r).2 h⟩
theorem rn_grow (p : Nat → Bool) (y : Nat → Int) (n : Nat) : rn_g (fun j => if p j = true then y (rh_n p j) else 0) n = rn_g y (rh_n p n) := by
  induction n with
  | zero => rfl
  | succ n ih =>
    show Int.gcd (rn_g (fun j => if p j = true then y (rh_n p j) else 0) n) (if p n = true then y (rh_n p n) else 0) = _
    rw [ih]
    by_cases c : p n = true
    · rw [if_pos c, rh_nS c]; rfl
    · rw [if_neg c, rh_nN c, Int.gcd_zero_right]; rfl
theorem rn_gext {y : Nat → Int} {c : Nat} (hy : ∀ r, c ≤ r → y r = 0) : ∀ d, rn_g y (c + d) = rn_g y c := by
  intro d
  induction d with
  | zero => rfl
  | succ d ih =>
    show Int.gcd (rn_g y (c + d)) (y (c + d)) = _
    rw [ih, hy (c + d) (by omega), Int.gcd_zero_right]; rfl
theorem rf_smext {f : Nat → Int} {c : Nat} (hf : ∀ r, c ≤ r → f r = 0) : ∀ d, rf_sm f (c + d) = rf_sm f c := by
  intro d
  induction d with
  | zero => rfl
  | succ d ih =>
    show rf_sm f (c + d) + f (c + d) = _
    rw [ih, hf (c + d) (by omega), Int.add_zero]
/-- what the reference's weights come to -/
theorem rn_same {n : Nat} {C F K W : Nat → Int32} {p : Nat → Bool} {z : Nat → Int} {A : Nat → Nat → Int} {V Q : Nat → Int} {R : Nat → Nat → Int} {mask : Nat} {q : Nat → Nat} (hM : rn_M n C F K W p z) (hL : rh_L p n C F K W A V Q) (hr : ∀ r, r < rh_n p n → ∀ l, l < 3 → R r l = A r l) (hc0 : 0 < rh_n p n) (h4 : rh_n (rn_sel (rh_n p n) mask) (rh_n p n + 3) = 4) (hq : yn_q (rh_n p n) mask q) :
    ∀ j, j < n → p j = true → rf_ab (yn_M (fun t => R (q t)) (rh_n p j)) = (rn_g (yn_M (fun t => R (q t))) 4 : Int) * z j := by
  obtain ⟨m1, m2, m3, m4, m5, _⟩ := hM
  obtain ⟨hc, qt, qc⟩ := yn_qc h4 hq
  obtain ⟨y, y1, y2⟩ := rn_y (p := p) (n := n) z
  have ez : ∀ j, j < n → z j = if p j = true then y (rh_n p j) else 0 := by
    intro j hj
    by_cases c : p j = true
    · rw [if_pos c]; exact y1 j hj c
    · rw [if_neg c]; exact m3 j hj c
  have g1 : rn_g y 4 = 1 := by
    have e := rn_gext (y := y) (c := rh_n p n) y2 (4 - rh_n p n)
    rw [show rh_n p n + (4 - rh_n p n) = 4 by omega] at e
    rw [e, ← rn_grow, ← m5]
    exact rn_gC n (fun j hj => (ez j hj).symm)
  have yp : ∀ r, r < rh_n p n → 0 < y r := by
    intro r hr2
    obtain ⟨j, h1, h2, h3⟩ := rh_nE p n r hr2
    rw [← h3, ← y1 j h1 h2]
    exact m2 j h1 h2
  have yn : ∀ t, t < 4 → 0 ≤ y t := by
    intro t _
    by_cases c : t < rh_n p n
    · have := yp t c; omega
    · rw [y2 t (by omega)]; exact Int.le_refl 0
  have dep : ∀ l, l < 3 → y 0 * R (q 0) l + y 1 * R (q 1) l + y 2 * R (q 2) l + y 3 * R (q 3) l = 0 := by
    intro l hl
    have e1 : rf_sm (fun t => y t * R (q t) l) 4 = 0 := by
      have e := rf_smext (f := fun t => y t * R (q t) l) (c := rh_n p n) (fun r h => by rw [y2 r h, Int.zero_mul]) (4 - rh_n p n)
      rw [show rh_n p n + (4 - rh_n p n) = 4 by omega] at e
      rw [e, ← rn_rows p]
      refine Eq.trans (rf_smC n (fun j hj => ?_)) (m4 l hl)
      rw [ez j hj]
      by_cases c : p j = true
      · have lt := rh_nlt hj c
        rw [if_pos c, if_pos c, qt _ lt, hr _ lt l hl, (hL j hj c).1]
      · rw [if_neg c, if_neg c, Int.zero_mul]
    have e2 : rf_sm (fun t => y t * R (q t) l) 4 = 0 + y 0 * R (q 0) l + y 1 * R (q 1) l + y 2 * R (q 2) l + y 3 * R (q 3) l := rfl
    rw [e2] at e1
    omega
  have w := rn_w (v := fun t => R (q t)) (y := y) dep (yp 0 hc0) yn g1
  intro j hj c
  have lt := rh_nlt hj c
  rw [w (rh_n p j) (by omega), ← y1 j hj c]
end
section
/-! the reference's multipliers -/
theorem yn_bit : ∀ mask : Fin 8, ∀ s : Fin 3, (((nI mask.val) >>> ((nI s.val) &&& 31)) &&& 1 = (1 : Int32)) ↔ mask.val / 2 ^ s.val % 2 = 1 := by decide +kernel
section
variable {c mask : Nat} {A : Nat → Nat → Int} {V Q : Nat → Int} {R : Nat → Nat → Int}
variable {xv xmf xmb xml xfo xbo xol xst : Int32} {yon yod : Int64} {xco xbf xbk xbv xbl yke ypi : Nat → Int32} {yrw ypt ywe ymu : Nat → Int64}
theorem yw_mu69 {post : SY → Prop} {J16 : Int64 → Int32 → (Nat → Int32) → (Nat → Int32) → (Nat → Int32) → (Nat → Int32) → (Nat → Int32) → (Nat → Int32) → (Nat → Int64) → (Nat → Int64) → (Nat → Int32) → (Nat → Int64) → (Nat → Int64) → Prop} {J34 : Int32 → Int32 → (Nat → Int32) → (Nat → Int32) → (Nat → Int32) → (Nat → Int32) → (Nat → Int32) → (Nat → Int32) → (Nat → Int64) → (Nat → Int64) → (Nat → Int32) → (Nat → Int64) → (Nat → Int64) → Prop} {x1 : Int64} {x3 : Int32} {k r : Nat} (hk : k ≤ 16) (K : ∀ ypi', (∀ t, t < 4 → t ≠ k → ypi' t = ypi t) → (k < 4 → ypi' k = nI r) → J34 (nI (k + 1)) (nI (r + 1)) xco xbf xbk xbv xbl yke yrw ypt ypi' ywe ymu) : wY_multipliers_69 post J16 J34 x1 x3 (nI k) (nI r) xv xmf xmb xml xfo xbo xol xst yon yod (nI c) xco xbf xbk xbv xbl yke yrw ypt ypi ywe ymu := by
  unfold wY_multipliers_69
  by_cases h : 4 ≤ k
  · exact br_t (nI_le (a := 4) h (by omega)) (nm_r (nI_1 k) (nm_r (nI_1 r) (K _ (fun _ _ _ => rfl) (fun z => by omega))))
  · refine br_f (nI_ge (b := 4) (by omega) (by decide)) (And.intro (vp_in_nI (by omega) (by omega)) ?_)
    rw [nI_clamp (show k < 2 ^ 31 by omega)]
    exact nm_e (nm_r (nI_1 k) (nm_r (nI_1 r) (K _ (fun t _ ht => pk_un ht) (fun _ => pk_us))))
theorem yw_mu34 {post : SY → Prop} {J16 : Int64 → Int32 → (Nat → Int32) → (Nat → Int32) → (Nat → Int32) → (Nat → Int32) → (Nat → Int32) → (Nat → Int32) → (Nat → Int64) → (Nat → Int64) → (Nat → Int32) → (Nat → Int64) → (Nat → Int64) → Prop} {x1 : Int64} (hc : c ≤ 13) (hm : mask < 8)
    (K : ∀ ypi, (∀ r, r < c + 3 → rn_sel c mask r = true → rh_n (rn_sel c mask) r < 4 → ypi (rh_n (rn_sel c mask) r) = nI r) → ∃ fu, wY_multipliers_96 post J16 (nI mask) (nI (rh_n (rn_sel c mask) (c + 3))) xv xmf xmb xml xfo xbo xol xst yon yod (nI c) fu x1 0 xco xbf xbk xbv xbl yke yrw ypt ypi ywe ymu) :
    ∀ d r fu ypi, r + d = c + 3 → d < fu → (∀ r', r' < r → rn_sel c mask r' = true → rh_n (rn_sel c mask) r' < 4 → ypi (rh_n (rn_sel c mask) r') = nI r') → wY_multipliers_34 post J16 x1 (nI mask) xv xmf xmb xml xfo xbo xol xst yon yod (nI c) fu (nI (rh_n (rn_sel c mask) r)) (nI r) xco xbf xbk xbv xbl yke yrw ypt ypi ywe ymu := by
  have e3 : nI c + 3 = nI (c + 3) := nI_add c 3
  intro d
  induction d with
  | zero =>
    intro r fu ypi hr hf h
    obtain ⟨fu, rfl⟩ : ∃ n', fu = n' + 1 := ⟨fu - 1, by omega⟩
    have e : r = c + 3 := by omega
    subst e
    exact br_t (by rw [e3]; exact nI_le (by omega) (by omega)) (K _ h)
  | succ d ih =>
    intro r fu ypi hr hf h
    obtain ⟨fu, rfl⟩ : ∃ n', fu = n' + 1 := ⟨fu - 1, by omega⟩
    have hle := rh_nle (rn_sel c mask) r
    have take : rn_sel c mask r = true → wY_multipliers_69 post J16 (wY_multipliers_34 post J16 x1 (nI mask) xv xmf xmb xml xfo xbo xol xst yon yod (nI c) fu) x1 (nI mask) (nI (rh_n (rn_sel c mask) r)) (nI r) xv xmf xmb xml xfo xbo xol xst yon yod (nI c) xco xbf xbk xbv xbl yke yrw ypt ypi ywe ymu := by
      intro hs
      refine yw_mu69 (by omega) (fun ypi' h1 h2 => ?_)
      have := ih (r + 1) fu ypi' (by omega) (by omega)
      rw [rh_nS hs] at this
      refine this (fun r' hr' s' l' => ?_)
      by_cases e : r' = r
      · subst e; exact h2 l'
      · have lt := rh_nlt (p := rn_sel c mask) (i := r') (j := r) (by omega) s'
        rw [h1 _ l' (by omega)]
        exact h r' (by omega) s' l'
    refine br_f (by rw [e3]; exact nI_ge (by omega) (by omega)) ?_
    rw [nI_ltI (by omega) (by omega)]
    refine br_c (fun h1 => take (rn_selr h1)) (fun h1 => ?_)
    rw [pk_sub (by omega), yn_bit ⟨mask, hm⟩ ⟨r - c, by omega⟩]
    refine br_c (fun h2 => take ?_) (fun h2 => nm_r (nI_1 r) ?_)
    · unfold rn_sel
      dsimp only at h2
      simp [h2]
    · have hs : ¬ rn_sel c mask r = true := by
        unfold rn_sel
        dsimp only at h2
        simp [h1, h2]
      have := ih (r + 1) fu ypi (by omega) (by omega)
      rw [rh_nN hs] at this
      refine this (fun r' hr' s' l' => ?_)
      by_cases e : r' = r
      · rw [e] at s'; exact absurd s' hs
      · exact h r' (by omega) s' l'
theorem yw_mu186 {post : SY → Prop} {J16 J96 : Int64 → Int32 → (Nat → Int32) → (Nat → Int32) → (Nat → Int32) → (Nat → Int32) → (Nat → Int32) → (Nat → Int32) → (Nat → Int64) → (Nat → Int64) → (Nat → Int32) → (Nat → Int64) → (Nat → Int64) → Prop} {x3 x4 : Int32} {t g : Nat} {M : Int} {x0 : Int64} (ht : t < 4) (hg : g ≤ 48000) (hM : zA M 48000) (hx : x0 = zL (rf_ab M)) (K : J96 (zL (Int.gcd g M : Int)) (nI (t + 1)) xco xbf xbk xbv xbl yke yrw ypt ypi (vp_updL ywe t (zL (rf_ab M))) ymu) : wY_multipliers_186 post J16 J96 (zL (g : Int)) x3 x4 (nI t) (zL M) x0 (nI t) xv xmf xmb xml xfo xbo xol xst yon yod (nI c) xco xbf xbk xbv xbl yke yrw ypt ypi ywe ymu := by
  have h1 := hM.1
  have h2 := hM.2
  unfold wY_multipliers_186
  refine And.intro (vp_in_nI (by omega) (by omega)) ?_
  rw [nI_clamp (show t < 2 ^ 31 by omega), hx]
  refine nm_e (yw_gcd (by unfold zB; omega) (zA_B hM (by omega)) ?_ (nm_r (nI_1 t) K))
  have : ((g : Nat) : Int).natAbs * M.natAbs ≤ 48000 * 48000 := Nat.mul_le_mul (by omega) (by omega)
  exact Nat.lt_of_le_of_lt this (by decide)
theorem yw_mu156 {post : SY → Prop} {J16 J96 : Int64 → Int32 → (Nat → Int32) → (Nat → Int32) → (Nat → Int32) → (Nat → Int32) → (Nat → Int32) → (Nat → Int32) → (Nat → Int64) → (Nat → Int64) → (Nat → Int32) → (Nat → Int64) → (Nat → Int64) → Prop} {x3 x4 : Int32} {t g a b d : Nat} {z0 : Int32} {k : Nat} (hS : yq_S (c + 3) R) (hW : yq_W (c + 3) R yrw) (ht : t < 4) (hg : g ≤ 48000) (ha : a < c + 3) (hb : b < c + 3) (hd : d < c + 3) (hz : z0 = nI k) (hk : k < 4) (hp : ypi k = nI d)
    (K : J96 (zL (Int.gcd g (rb_det (R a) (R b) (R d)) : Int)) (nI (t + 1)) xco xbf xbk xbv xbl yke yrw ypt ypi (vp_updL ywe t (zL (rf_ab (rb_det (R a) (R b) (R d))))) ymu) : wY_multipliers_156 post J16 J96 (zL (g : Int)) x3 x4 (nI t) z0 (nI b) (nI a) xv xmf xmb xml xfo xbo xol xst yon yod (nI c) xco xbf xbk xbv xbl yke yrw ypt ypi ywe ymu := by
  subst hz
  have hM := rb_detb (hS.2 a ha).1 (hS.2 b hb).1 (hS.2 d hd).1
  unfold wY_multipliers_156
  refine And.intro (vp_in_nI (by omega) (by omega)) ?_
  rw [nI_clamp (show k < 2 ^ 31 by omega), hp]
  refine yw_det (a := 0) (b := 1) (c := 2) hS.1 hW ha hb hd (by omega) (by omega) (by omega) ?_
  rw [yq_d0, show (0 : Int64) = zL 0 from rfl, zL_le zB_0 (zA_B hM (by omega))]
  refine br_c (fun h => yw_mu186 ht hg hM (by rw [rf_abp h]) K) (fun h => yw_mu186 ht hg hM (by rw [rf_abn (by omega), zL_neg]) K)
theorem yw_mu96 {post : SY → Prop} {J16 : Int64 → Int32 → (Nat → Int32) → (Nat → Int32) → (Nat → Int32) → (Nat → Int32) → (Nat → Int32) → (Nat → Int32) → (Nat → Int64) → (Nat → Int64) → (Nat → Int32) → (Nat → Int64) → (Nat → Int64) → Prop} {q : Nat → Nat} (hS : yq_S (c + 3) R) (hW : yq_W (c + 3) R yrw) (hq : ∀ t, t < 4 → q t < c + 3 ∧ ypi t = nI (q t))
    (K : ∀ ywe, (∀ t, t < 4 → ywe t = zL (rf_ab (yn_M (fun t => R (q t)) t))) → J16 (zL (rn_g (yn_M (fun t => R (q t))) 4 : Int)) (nI (mask + 1)) xco xbf xbk xbv xbl yke yrw ypt ypi ywe ymu) :
    ∀ e t fu ywe, t + e = 4 → e < fu → (∀ s, s < t → ywe s = zL (rf_ab (yn_M (fun t => R (q t)) s))) → wY_multipliers_96 post J16 (nI mask) 4 xv xmf xmb xml xfo xbo xol xst yon yod (nI c) fu (zL (rn_g (yn_M (fun t => R (q t))) t : Int)) (nI t) xco xbf xbk xbv xbl yke yrw ypt ypi ywe ymu := by
  have MB : ∀ t, zA (yn_M (fun t => R (q t)) t) 48000 := by
    intro t
    have b := fun t ht => (hS.2 (q t) (hq t ht).1).1
    unfold yn_M
    by_cases h0 : t = 0
    · rw [if_pos h0]; exact rb_detb (b 1 (by omega)) (b 2 (by omega)) (b 3 (by omega))
    · rw [if_neg h0]
      by_cases h1 : t = 1
      · rw [if_pos h1]; exact rb_detb (b 0 (by omega)) (b 2 (by omega)) (b 3 (by omega))
      · rw [if_neg h1]
        by_cases h2 : t = 2
        · rw [if_pos h2]; exact rb_detb (b 0 (by omega)) (b 1 (by omega)) (b 3 (by omega))
        · rw [if_neg h2]; exact rb_detb (b 0 (by omega)) (b 1 (by omega)) (b 2 (by omega))
  intro e
  induction e with
  | zero =>
    intro t fu ywe ht hf h
    obtain ⟨fu, rfl⟩ : ∃ n', fu = n' + 1 := ⟨fu - 1, by omega⟩
    have e : t = 4 := by omega
    subst e
    exact br_t (by decide) (nm_r (nI_1 mask) (K _ h))
  | succ e ih =>
    intro t fu ywe ht hf h
    obtain ⟨fu, rfl⟩ : ∃ n', fu = n' + 1 := ⟨fu - 1, by omega⟩
    have hg := rn_gle (z := yn_M (fun t => R (q t))) (c := 48000) t (fun j _ => MB j)
    have q0 := hq 0 (by omega)
    have q1 := hq 1 (by omega)
    have q2 := hq 2 (by omega)
    have q3 := hq 3 (by omega)
    have nx : ∀ M : Int, M = yn_M (fun t => R (q t)) t → wY_multipliers_96 post J16 (nI mask) 4 xv xmf xmb xml xfo xbo xol xst yon yod (nI c) fu (zL (Int.gcd (rn_g (yn_M (fun t => R (q t))) t) M : Int)) (nI (t + 1)) xco xbf xbk xbv xbl yke yrw ypt ypi (vp_updL ywe t (zL (rf_ab M))) ymu := by
      intro M eM
      subst eM
      refine ih (t + 1) fu _ (by omega) (by omega) (fun s hs => ?_)
      by_cases e : s = t
      · rw [e, pk_uLs]
      · rw [pk_uLn e]; exact h s (by omega)
    refine br_f (nI_ge (b := 4) (by omega) (by decide)) (br_t rfl ?_)
    have cs : t = 0 ∨ t = 1 ∨ t = 2 ∨ t = 3 := by omega
    rcases cs with rfl | rfl | rfl | rfl
    · refine br_f (by decide) ?_
      unfold wY_multipliers_124
      refine And.intro (vp_in_iff.mpr (by decide)) (br_f (by decide) ?_)
      unfold wY_multipliers_140
      refine And.intro (vp_in_iff.mpr (by decide)) (br_f (by decide) ?_)
      rw [show ypi (1 : Int32).toNatClampNeg = nI (q 1) from q1.2, show ypi (2 : Int32).toNatClampNeg = nI (q 2) from q2.2]
      exact yw_mu156 (t := 0) (k := 3) hS hW (by omega) hg q1.1 q2.1 q3.1 rfl (by omega) q3.2 (nx _ rfl)
    · refine br_t (by decide) ?_
      unfold wY_multipliers_124
      refine And.intro (vp_in_iff.mpr (by decide)) (br_f (by decide) ?_)
      unfold wY_multipliers_140
      refine And.intro (vp_in_iff.mpr (by decide)) (br_f (by decide) ?_)
      rw [show ypi (0 : Int32).toNatClampNeg = nI (q 0) from q0.2, show ypi (2 : Int32).toNatClampNeg = nI (q 2) from q2.2]
      exact yw_mu156 (t := 1) (k := 3) hS hW (by omega) hg q0.1 q2.1 q3.1 rfl (by omega) q3.2 (nx _ rfl)
    · refine br_t (by decide) ?_
      unfold wY_multipliers_124
      refine And.intro (vp_in_iff.mpr (by decide)) (br_t (by decide) ?_)
      unfold wY_multipliers_140
      refine And.intro (vp_in_iff.mpr (by decide)) (br_f (by decide) ?_)
      rw [show ypi (0 : Int32).toNatClampNeg = nI (q 0) from q0.2, show ypi (1 : Int32).toNatClampNeg = nI (q 1) from q1.2]
      exact yw_mu156 (t := 2) (k := 3) hS hW (by omega) hg q0.1 q1.1 q3.1 rfl (by omega) q3.2 (nx _ rfl)
    · refine br_t (by decide) ?_
      unfold wY_multipliers_124
      refine And.intro (vp_in_iff.mpr (by decide)) (br_t (by decide) ?_)
      unfold wY_multipliers_140
      refine And.intro (vp_in_iff.mpr (by decide)) (br_t (by decide) ?_)
      rw [show ypi (0 : Int32).toNatClampNeg = nI (q 0) from q0.2, show ypi (1 : Int32).toNatClampNeg = nI (q 1) from q1.2]
      exact yw_mu156 (t := 3) (k := 2) hS hW (by omega) hg q0.1 q1.1 q2.1 rfl (by omega) q2.2 (nx _ rfl)
/-- the masks that are tried -/
def yn_bad (R : Nat → Nat → Int) (c mask : Nat) : Prop := ∀ q, rh_n (rn_sel c mask) (c + 3) = 4 → yn_q c mask q → ∀ t, t < 4 → yn_M (fun t => R (q t)) t = 0
theorem yw_mu16 {post : SY → Prop} (hc : c ≤ 13) (hS : yq_S (c + 3) R) (hW : yq_W (c + 3) R yrw) (hex : ∃ mask, mask < 8 ∧ ¬ yn_bad R c mask)
    (K : ∀ mask q ypi ywe, mask < 8 → rh_n (rn_sel c mask) (c + 3) = 4 → yn_q c mask q → 0 < rn_g (yn_M (fun t => R (q t))) 4 → rn_g (yn_M (fun t => R (q t))) 4 ≤ 48000 → (∀ t, t < 4 → ywe t = zL (rf_ab (yn_M (fun t => R (q t)) t)) ∧ zA (yn_M (fun t => R (q t)) t) 48000) → ∃ fu, wY_multipliers_212 post (zL (rn_g (yn_M (fun t => R (q t))) 4 : Int)) xv xmf xmb xml xfo xbo xol xst yon yod (nI c) fu 0 0 xco xbf xbk xbv xbl yke yrw ypt ypi ywe ymu) :
    ∀ e mask fu ypi ywe, mask + e = 8 → e < fu → (∀ k, k < mask → yn_bad R c k) → wY_multipliers_16 post xv xmf xmb xml xfo xbo xol xst yon yod (nI c) fu 0 (nI mask) xco xbf xbk xbv xbl yke yrw ypt ypi ywe ymu := by
  have hN := hS.1
  intro e
  induction e with
  | zero =>
    intro mask fu ypi ywe hm hf h
    obtain ⟨k, h1, h2⟩ := hex
    exact absurd (h k (by omega)) h2
  | succ e ih =>
    intro mask fu ypi ywe hm hf h
    obtain ⟨fu, rfl⟩ : ∃ n', fu = n' + 1 := ⟨fu - 1, by omega⟩
    refine br_f (nI_ge (b := 8) (by omega) (by decide)) (br_t rfl ⟨c + 4, yw_mu34 hc (by omega) (fun ypi hp => ?_) (c + 3) 0 (c + 4) _ (by omega) (by omega) (fun r hr => absurd hr (by omega))⟩)
    have step : ∀ ypi ywe, yn_bad R c mask → wY_multipliers_16 post xv xmf xmb xml xfo xbo xol xst yon yod (nI c) fu 0 (nI (mask + 1)) xco xbf xbk xbv xbl yke yrw ypt ypi ywe ymu := by
      intro ypi ywe hb
      refine ih (mask + 1) fu ypi ywe (by omega) (by omega) (fun k hk => ?_)
      by_cases z : k = mask
      · rw [z]; exact hb
      · exact h k (by omega)
    have hle := rh_nle (rn_sel c mask) (c + 3)
    by_cases h4 : rh_n (rn_sel c mask) (c + 3) = 4
    · obtain ⟨q, hq⟩ := yn_qex h4
      have hq2 : ∀ t, t < 4 → q t < c + 3 ∧ ypi t = nI (q t) := by
        intro t ht
        obtain ⟨a, b, d⟩ := hq t ht
        have := hp (q t) a b (by omega)
        rw [d] at this
        exact ⟨a, this⟩
      have MB : ∀ t, t < 4 → zA (yn_M (fun t => R (q t)) t) 48000 := by
        intro t ht
        have b := fun t ht => (hS.2 (q t) (hq2 t ht).1).1
        have cs : t = 0 ∨ t = 1 ∨ t = 2 ∨ t = 3 := by omega
        rcases cs with rfl | rfl | rfl | rfl
        · exact rb_detb (b 1 (by omega)) (b 2 (by omega)) (b 3 (by omega))
        · exact rb_detb (b 0 (by omega)) (b 2 (by omega)) (b 3 (by omega))
        · exact rb_detb (b 0 (by omega)) (b 1 (by omega)) (b 3 (by omega))
        · exact rb_detb (b 0 (by omega)) (b 1 (by omega)) (b 2 (by omega))
      rw [h4]
      refine ⟨5, yw_mu96 (R := R) (q := q) hS hW hq2 (fun ywe hw => ?_) 4 0 5 _ (by omega) (by omega) (fun s hs => absurd hs (by omega))⟩
      by_cases hz : ∀ t, t < 4 → yn_M (fun t => R (q t)) t = 0
      · rw [rn_gz 4 hz]
        refine step _ _ (fun q' _ hq' t ht => ?_)
        have eq : ∀ s, s < 4 → q' s = q s := by
          intro s hs
          obtain ⟨a, b, d⟩ := hq s hs
          obtain ⟨a', b', d'⟩ := hq' s hs
          exact rh_ninj b' b (d'.trans d.symm)
        have := hz t ht
        unfold yn_M at *
        dsimp only at *
        rw [eq 0 (by omega), eq 1 (by omega), eq 2 (by omega), eq 3 (by omega)]
        exact this
      · have gp : 0 < rn_g (yn_M (fun t => R (q t))) 4 := by
          refine rn_gpos 4 ?_
          by_cases w : ∃ j, j < 4 ∧ yn_M (fun t => R (q t)) j ≠ 0
          · exact w
          · exfalso
            apply hz
            intro t ht
            by_cases y : yn_M (fun t => R (q t)) t = 0
            · exact y
            · exact absurd ⟨t, ht, y⟩ w
        have gl := rn_gle (z := yn_M (fun t => R (q t))) (c := 48000) 4 MB
        obtain ⟨fv, hfv⟩ := K mask q ypi ywe (by omega) h4 hq gp gl (fun t ht => ⟨hw t ht, MB t ht⟩)
        obtain ⟨fu, rfl⟩ : ∃ n', fu = n' + 1 := ⟨fu - 1, by omega⟩
        by_cases m8 : mask + 1 = 8
        · refine br_t (nI_le (a := 8) (by omega) (by omega)) ⟨fv, hfv⟩
        · refine br_f (nI_ge (b := 8) (by omega) (by decide)) (br_f ?_ ⟨fv, hfv⟩)
          rw [show (0 : Int64) = zL 0 from rfl, zL_eq (by unfold zB; omega) zB_0]
          omega
    · refine ⟨1, br_f (by decide) (br_f ?_ (nm_r (nI_1 mask) (step _ _ (fun q z _ => absurd z h4))))⟩
      rw [show (4 : Int32) = nI 4 from rfl, nI_eq (by omega) (by omega)]
      exact h4
end
end
section
/-! the reference's multipliers, counts, total, shift -/
section
variable {n nf v : Nat} {p : Nat → Bool} {z : Nat → Int}
variable {xv xmf xmb xml xfo xol xst yrs : Int32} {yon yod : Int64} {xco xbf xbk xbv xbl yke ypi : Nat → Int32} {yrw ypt ywe ymu : Nat → Int64}
theorem yw_mu212 {post : SY → Prop} {g : Nat} (hn : n ≤ 10) (hp : ∀ j, j < n → (p j = true ↔ yke j ≠ 0)) (hc4 : rh_n p n ≤ 4) (hg : 0 < g) (hg2 : g ≤ 48000) (hw : ∀ j, j < n → p j = true → ywe (rh_n p j) = zL ((g : Int) * z j) ∧ zA ((g : Int) * z j) 48000) (hz0 : ∀ j, j < n → p j ≠ true → z j = 0)
    (K : ∀ ymu, (∀ j, j < n → ymu j = zL (z j)) → post (xv, xmf, xmb, xml, xfo, nI n, xol, xst, yon, yod, yrs, xco, xbf, xbk, xbv, xbl, yke, yrw, ypt, ypi, ywe, ymu)) :
    ∀ d j fu ymu, j + d = n → d < fu → (∀ i, i < j → ymu i = zL (z i)) → wY_multipliers_212 post (zL (g : Int)) xv xmf xmb xml xfo (nI n) xol xst yon yod yrs fu (nI (rh_n p j)) (nI j) xco xbf xbk xbv xbl yke yrw ypt ypi ywe ymu := by
  have gB : zB (g : Int) := by unfold zB; omega
  intro d
  induction d with
  | zero =>
    intro j fu ymu hj hf h
    obtain ⟨fu, rfl⟩ : ∃ n', fu = n' + 1 := ⟨fu - 1, by omega⟩
    have e : j = n := by omega
    subst e
    exact br_t (nI_le (by omega) (by omega)) (K _ h)
  | succ d ih =>
    intro j fu ymu hj hf h
    obtain ⟨fu, rfl⟩ : ∃ n', fu = n' + 1 := ⟨fu - 1, by omega⟩
    have hx : vp_in (nI j) 10 := vp_in_nI (by omega) (by omega)
    refine br_f (nI_ge (by omega) (by omega)) (And.intro hx ?_)
    rw [nI_clamp (show j < 2 ^ 31 by omega)]
    refine nm_e (And.intro hx (br_c (fun h1 => nm_r (nI_1 j) ?_) (fun h1 => ?_)))
    · have c : ¬ p j = true := fun q => (hp j (by omega)).mp q h1
      have := ih (j + 1) fu (vp_updL ymu j 0) (by omega) (by omega)
      rw [rh_nN c] at this
      refine this (fun i hi => ?_)
      by_cases e : i = j
      · rw [e, pk_uLs, hz0 j (by omega) c]; rfl
      · rw [pk_uLn e]; exact h i (by omega)
    · have c : p j = true := (hp j (by omega)).mpr h1
      have lt := rh_nlt (show j < n by omega) c
      obtain ⟨w1, w2⟩ := hw j (by omega) c
      have nz : ¬ zL (g : Int) = 0 := by rw [show (0 : Int64) = zL 0 from rfl, zL_eq gB zB_0]; omega
      refine br_f (nI_ge (b := 4) (by omega) (by decide)) (br_f nz (And.intro (vp_in_nI (by omega) (by omega)) (And.intro nz (And.intro hx ?_))))
      rw [nI_clamp (show rh_n p j < 2 ^ 31 by omega), w1, zL_div (q := z j) (zA_B w2 (by omega)) gB (by omega) (Int.mul_comm _ _)]
      refine nm_e (nm_r (nI_1 _) (nm_r (nI_1 j) ?_))
      have := ih (j + 1) fu (vp_updL (vp_updL ymu j 0) j (zL (z j))) (by omega) (by omega)
      rw [rh_nS c] at this
      refine this (fun i hi => ?_)
      by_cases e : i = j
      · rw [e, pk_uLs]
      · rw [pk_uLn e, pk_uLn e]; exact h i (by omega)
theorem rn_c0 {C F K W : Nat → Int32} (hM : rn_M n C F K W p z) : 0 < rh_n p n := by
  by_cases c : rh_n p n = 0
  · exfalso
    have : rn_g z n = 0 := by
      refine rn_gz n (fun j hj => ?_)
      by_cases q : p j = true
      · have := rh_nlt hj q; omega
      · exact hM.2.2.1 j hj q
    have h1 := hM.2.2.2.2.1
    omega
  · omega
theorem yw_mul {post : SY → Prop} (hC : rh_C v nf xco) (hB : rh_B nf n xbf xbk xbv) (hM : rn_M n xco xbf xbk xbv (rm_co n xco xbf xbk xbv n) z)
    (K : ∀ yrs yke yrw ypt ypi ywe ymu, (∀ j, j < n → ymu j = zL (z j)) → post (xv, xmf, xmb, xml, xfo, nI n, xol, xst, yon, yod, yrs, xco, xbf, xbk, xbv, xbl, yke, yrw, ypt, ypi, ywe, ymu)) : wpY_multipliers post (xv, xmf, xmb, xml, xfo, nI n, xol, xst, yon, yod, yrs, xco, xbf, xbk, xbv, xbl, yke, yrw, ypt, ypi, ywe, ymu) := by
  have hn := hB.1
  have hle := rh_nle (rm_co n xco xbf xbk xbv n) n
  unfold wpY_multipliers
  refine yw_core hC hB (fun yrs yke yrw ypt hk => ?_)
  refine yw_lo (p := rm_co n xco xbf xbk xbv n) hC hB hk (fun A V Q yrw hW hL => ?_)
  refine yw_pl (m := rh_n (rm_co n xco xbf xbk xbv n) n) (by omega) hW (fun yrw hW2 => ?_)
  have hbd := rs_bS (by omega) (rs_bL hC hB hL)
  obtain ⟨A', V', Q', hL', mask, hm8, h4, q0, q1, q2, h01, h12, h2c, s0, s1, s2, hD⟩ := hM.2.2.2.2.2
  have eV : ∀ r, rn_V A' (rh_n (rm_co n xco xbf xbk xbv n) n) r = rn_V A (rh_n (rm_co n xco xbf xbk xbv n) n) r := by
    intro r
    unfold rn_V
    by_cases c : r < rh_n (rm_co n xco xbf xbk xbv n) n
    · rw [if_pos c, if_pos c, (rs_same hL' hL r c).1]
    · rw [if_neg c, if_neg c]
  rw [eV, eV, eV] at hD
  refine ⟨9, yw_mu16 (c := rh_n (rm_co n xco xbf xbk xbv n) n) (R := yq_RP (rh_n (rm_co n xco xbf xbk xbv n) n) A V Q) (by omega) hbd hW2 ⟨mask, hm8, fun bad => ?_⟩ (fun mask q ypi ywe m8 h4 hq gp gl hw => ?_) 8 0 9 _ _ (by omega) (by omega) (fun k hk => absurd hk (by omega))⟩
  · obtain ⟨q, hq⟩ := yn_qex h4
    obtain ⟨t, ht, hne⟩ := yn_nz (R := yq_RP (rh_n (rm_co n xco xbf xbk xbv n) n) A V Q) (A := A) (fun a b d => rfl) h4 hq h01 h12 h2c s0 s1 s2 hD
    exact hne (bad q h4 hq t ht)
  · have hc4 := (yn_qc h4 hq).1
    have sm := rn_same (R := yq_RP (rh_n (rm_co n xco xbf xbk xbv n) n) A V Q) hM hL (fun r hr l hl => by rw [yq_RPr hr]; exact if_pos hl) (rn_c0 hM) h4 hq
    refine ⟨n + 1, yw_mu212 (p := rm_co n xco xbf xbk xbv n) (z := z) hn hk hc4 gp gl (fun j hj c => ?_) hM.2.2.1 (fun ymu hz => K _ _ _ _ _ _ ymu hz) n 0 (n + 1) _ (by omega) (by omega) (fun i hi => absurd hi (by omega))⟩
    have lt := rh_nlt hj c
    obtain ⟨w1, w2⟩ := hw (rh_n (rm_co n xco xbf xbk xbv n) j) (by omega)
    rw [← sm j hj c]
    refine ⟨w1, ?_⟩
    have h1 := w2.1
    have h2 := w2.2
    unfold zA rf_ab
    split <;> omega
theorem yw_ct18 {post : Int64 → SY → Prop} (hB : rh_B nf n xbf xbk xbv) (hz : ∀ j, j < n → ymu j = zL (z j)) (K : post (zL (rf_sm (fun j => z j * rh_bV xbk xbv j) n)) (xv, xmf, xmb, xml, xfo, nI n, xol, xst, yon, yod, yrs, xco, xbf, xbk, xbv, xbl, yke, yrw, ypt, ypi, ywe, ymu)) :
    ∀ d j fu, j + d = n → d < fu → wY_contradiction_18 post xv xmf xmb xml xfo (nI n) xol xst yon yod yrs xco xbf xbk xbv xbl yke yrw ypt ypi ywe ymu fu (zL (rf_sm (fun j => z j * rh_bV xbk xbv j) j)) (nI j) := by
  have hn := hB.1
  intro d
  induction d with
  | zero =>
    intro j fu hj hf
    obtain ⟨fu, rfl⟩ : ∃ n', fu = n' + 1 := ⟨fu - 1, by omega⟩
    have e : j = n := by omega
    subst e
    exact br_t (nI_le (by omega) (by omega)) K
  | succ d ih =>
    intro j fu hj hf
    obtain ⟨fu, rfl⟩ : ∃ n', fu = n' + 1 := ⟨fu - 1, by omega⟩
    obtain ⟨f1, f2, k1, k2, w1⟩ := hB.2 j (by omega)
    have hx : vp_in (nI j) 10 := vp_in_nI (by omega) (by omega)
    have ih' := ih (j + 1) fu (by omega) (by omega)
    have go : ∀ s : Int32, s.toInt64 = zL (rh_s (rh_N xbk j)) → wY_contradiction_41 post (wY_contradiction_18 post xv xmf xmb xml xfo (nI n) xol xst yon yod yrs xco xbf xbk xbv xbl yke yrw ypt ypi ywe ymu fu) (zL (rf_sm (fun j => z j * rh_bV xbk xbv j) j)) (nI j) s xv xmf xmb xml xfo (nI n) xol xst yon yod yrs xco xbf xbk xbv xbl yke yrw ypt ypi ywe ymu := by
      intro s es
      unfold wY_contradiction_41
      refine And.intro hx (And.intro hx ?_)
      rw [nI_clamp (show j < 2 ^ 31 by omega), hz j (by omega), es, zI_of (xbv j), zI_L (zA_b w1 (by omega)), zL_mul, zL_mul, zL_add, Int.mul_assoc]
      exact nm_e (nm_r (nI_1 j) ih')
    refine br_f (nI_ge (by omega) (by omega)) (And.intro hx ?_)
    rw [nI_clamp (show j < 2 ^ 31 by omega), k1]
    by_cases h : 1 < rh_N xbk j
    · refine br_t (nI_lt (a := 1) h (by omega)) (go _ ?_)
      rw [show rh_s (rh_N xbk j) = -1 from if_neg (by omega)]; rfl
    · refine br_f (nI_nlt (a := 1) (by omega) (by omega)) (go _ ?_)
      rw [show rh_s (rh_N xbk j) = 1 from if_pos (by omega)]; rfl
theorem yw_cs20 {post : Int32 → SY → Prop} (hn : n ≤ 10) (hp : ∀ j, j < n → (p j = true ↔ yke j ≠ 0)) (K : post (nI (rh_n p n)) (xv, xmf, xmb, xml, xfo, nI n, xol, xst, yon, yod, yrs, xco, xbf, xbk, xbv, xbl, yke, yrw, ypt, ypi, ywe, ymu)) :
    ∀ d j fu, j + d = n → d < fu → wY_coreSize_20 post xv xmf xmb xml xfo (nI n) xol xst yon yod yrs xco xbf xbk xbv xbl yke yrw ypt ypi ywe ymu fu (nI (rh_n p j)) (nI j) := by
  intro d
  induction d with
  | zero =>
    intro j fu hj hf
    obtain ⟨fu, rfl⟩ : ∃ n', fu = n' + 1 := ⟨fu - 1, by omega⟩
    have e : j = n := by omega
    subst e
    exact br_t (nI_le (by omega) (by omega)) K
  | succ d ih =>
    intro j fu hj hf
    obtain ⟨fu, rfl⟩ : ∃ n', fu = n' + 1 := ⟨fu - 1, by omega⟩
    have hx : vp_in (nI j) 10 := vp_in_nI (by omega) (by omega)
    have ih' := ih (j + 1) fu (by omega) (by omega)
    refine br_f (nI_ge (by omega) (by omega)) (And.intro hx ?_)
    rw [nI_clamp (show j < 2 ^ 31 by omega)]
    refine br_c (fun h => nm_r (nI_1 j) ?_) (fun h => nm_r (nI_1 _) (nm_r (nI_1 j) ?_))
    · rw [rh_nN (fun q => (hp j (by omega)).mp q h)] at ih'; exact ih'
    · rw [rh_nS ((hp j (by omega)).mpr h)] at ih'; exact ih'
end
section
variable {m N : Nat} {R : Nat → Nat → Int} {PV PQ : Nat → Int} {D : Int}
variable {xv xmf xmb xml xfo xbo xol xst : Int32} {yon yod : Int64} {xco xbf xbk xbv xbl yke ypi : Nat → Int32} {yrw ypt ywe ymu : Nat → Int64}
def yq_ex (R : Nat → Nat → Int) (PV PQ : Nat → Int) (D t : Int) (r : Nat) : Int := R r 3 * D * t - rb_dot (R r) PV * t - rb_dot (R r) PQ
def yq_hold (m : Nat) (R : Nat → Nat → Int) (PV PQ : Nat → Int) (D t : Int) : Prop := ∀ r, r < m → 0 ≤ yq_ex R PV PQ D t r ∧ (yq_ex R PV PQ D t r = 0 → R r 4 = 0)
theorem yw_ho2 {post : Int32 → Prop} {t : Int} (hmN : m ≤ N) (hS : yq_S N R) (hW : yq_W N R yrw) (hb : yq_b PV PQ D) (ha : yq_at 7 PV PQ D ypt) (ht : 1 ≤ t ∧ t ≤ 131072) (K1 : yq_hold m R PV PQ D t → post 1) (K0 : ¬ yq_hold m R PV PQ D t → post 0) :
    ∀ d i fu, i + d = m → d < fu → (∀ r, r < i → 0 ≤ yq_ex R PV PQ D t r ∧ (yq_ex R PV PQ D t r = 0 → R r 4 = 0)) → wY_holds_2 post (zL t) xv xmf xmb xml xfo xbo xol xst yon yod (nI m) xco xbf xbk xbv xbl yke yrw ypt ypi ywe ymu fu (nI i) := by
  have hN := hS.1
  have hD : zA D 48000 := by have := hb.2; unfold zA; omega
  have hT : zA t 131072 := by unfold zA; omega
  intro d
  induction d with
  | zero =>
    intro i fu hi hf h
    obtain ⟨fu, rfl⟩ : ∃ n', fu = n' + 1 := ⟨fu - 1, by omega⟩
    have e : i = m := by omega
    subst e
    exact br_t (nI_le (by omega) (by omega)) (K1 h)
  | succ d ih =>
    intro i fu hi hf h
    obtain ⟨fu, rfl⟩ : ∃ n', fu = n' + 1 := ⟨fu - 1, by omega⟩
    obtain ⟨b1, b2, b3⟩ := hS.2 i (by omega)
    have hx3 : vp_in (5 * nI i + 3) 80 := yw_in (i := 3) (by omega) (by omega)
    have hc3 : (5 * nI i + 3).toNatClampNeg = 5 * i + 3 := yw_cl (i := 3) (by omega)
    have hx4 : vp_in (5 * nI i + 4) 80 := yw_in (i := 4) (by omega) (by omega)
    have hc4 : (5 * nI i + 4).toNatClampNeg = 5 * i + 4 := yw_cl (i := 4) (by omega)
    have e13 : ypt 13 = zL D := ha.2
    have dV : zA (rb_dot (R i) PV) 144000000 := zA_w (zA_add (zA_add (zA_mul (b1 0 (by omega)) (hb.1 0 (by omega)).1) (zA_mul (b1 1 (by omega)) (hb.1 1 (by omega)).1)) (zA_mul (b1 2 (by omega)) (hb.1 2 (by omega)).1)) (by omega)
    have dQ : zA (rb_dot (R i) PQ) 144000 := zA_w (zA_add (zA_add (zA_mul (b1 0 (by omega)) (hb.1 0 (by omega)).2) (zA_mul (b1 1 (by omega)) (hb.1 1 (by omega)).2)) (zA_mul (b1 2 (by omega)) (hb.1 2 (by omega)).2)) (by omega)
    have bE : zA (yq_ex R PV PQ D t i) 100000000000000 := zA_w (zA_sub (zA_sub (zA_mul (zA_mul b2 hD) hT) (zA_mul dV hT)) dQ) (by omega)
    refine br_f (nI_ge (by omega) (by omega)) (And.intro hx3 ?_)
    refine yw_rdL (o := 7) (P := PV) hN hW (by omega) (by omega) (fun l hl => (ha.1 l hl).1) ?_
    refine yw_rdL (o := 10) (P := PQ) hN hW (by omega) (by omega) (fun l hl => (ha.1 l hl).2) ?_
    rw [hc3, hW i 3 (by omega) (by omega), e13, zL_mul, zL_mul, zL_mul, zL_sub, zL_sub]
    refine nm_e ?_
    rw [show (0 : Int64) = zL 0 from rfl, show R i 3 * D * t - rb_dot (R i) PV * t - rb_dot (R i) PQ = yq_ex R PV PQ D t i from rfl, zL_lt (zA_B bE (by omega)) zB_0, zL_eq (zA_B bE (by omega)) zB_0]
    have yes : (0 ≤ yq_ex R PV PQ D t i ∧ (yq_ex R PV PQ D t i = 0 → R i 4 = 0)) → wY_holds_2 post (zL t) xv xmf xmb xml xfo xbo xol xst yon yod (nI m) xco xbf xbk xbv xbl yke yrw ypt ypi ywe ymu fu (nI (i + 1)) := by
      intro q
      refine ih (i + 1) fu (by omega) (by omega) (fun r hr => ?_)
      by_cases e : r = i
      · rw [e]; exact q
      · exact h r (by omega)
    refine br_c (fun h1 => K0 (fun q => by have := (q i (by omega)).1; omega)) (fun h1 => br_c (fun h2 => And.intro hx4 ?_) (fun h2 => nm_r (nI_1 i) (yes ⟨by omega, fun q => absurd q h2⟩)))
    rw [hc4, hW i 4 (by omega) (by omega), zL_eq (zA_B b3 (by omega)) zB_0]
    exact br_c (fun h3 => nm_r (nI_1 i) (yes ⟨by omega, fun _ => h3⟩)) (fun h3 => K0 (fun q => h3 ((q i (by omega)).2 h2)))
theorem yw_lsh {post : Int32 → Prop} (hmN : m ≤ N) (hS : yq_S N R) (hW : yq_W N R yrw) (hb : yq_b PV PQ D) (ha : yq_at 7 PV PQ D ypt) (K : ∀ k, rh_ls (fun k => yq_hold m R PV PQ D (rh_t k)) k → post (nI k)) : wpY_leastShift post (xv, xmf, xmb, xml, xfo, xbo, xol, xst, yon, yod, nI m, xco, xbf, xbk, xbv, xbl, yke, yrw, ypt, ypi, ywe, ymu) := by
  have go : ∀ d k fu, k + d = 17 → d < fu → (∀ i, i < k → ¬ yq_hold m R PV PQ D (rh_t i)) → wY_leastShift_2 post xv xmf xmb xml xfo xbo xol xst yon yod (nI m) xco xbf xbk xbv xbl yke yrw ypt ypi ywe ymu fu (nI k) := by
    intro d
    induction d with
    | zero =>
      intro k fu hk hf h
      obtain ⟨fu, rfl⟩ : ∃ n', fu = n' + 1 := ⟨fu - 1, by omega⟩
      have e : k = 17 := by omega
      subst e
      exact br_t (by decide) (K 17 ⟨by omega, h, fun z => absurd z (by omega)⟩)
    | succ d ih =>
      intro k fu hk hf h
      obtain ⟨fu, rfl⟩ : ∃ n', fu = n' + 1 := ⟨fu - 1, by omega⟩
      refine br_f (nI_ge (b := 17) (by omega) (by decide)) ?_
      rw [rh_shl (by omega)]
      refine ⟨m + 1, yw_ho2 hmN hS hW hb ha (rh_tb (by omega)) (fun h1 => br_f (by decide) (K k ⟨by omega, h, fun _ => h1⟩)) (fun h0 => br_t rfl (nm_r (nI_1 k) (ih (k + 1) fu (by omega) (by omega) (fun i hi => ?_)))) m 0 (m + 1) (by omega) (by omega) (fun r hr => absurd hr (by omega))⟩
      by_cases e : i = k
      · rw [e]; exact h0
      · exact h i (by omega)
  exact ⟨18, go 17 0 18 (by omega) (by omega) (fun i hi => absurd hi (by omega))⟩
end
/-- the rows hold just when the bounds do -/
theorem yq_holdL {p : Nat → Bool} {n : Nat} {C F K W : Nat → Int32} {A : Nat → Nat → Int} {V Q : Nat → Int} {PV PQ : Nat → Int} {D t : Int} (hp : ∀ j, j < n → p j = true) (hL : rh_L p n C F K W A V Q) : yq_hold (rh_n p n) (yq_RP (rh_n p n) A V Q) PV PQ D t ↔ rh_hold n C F K W PV PQ D t := by
  have e : ∀ j, j < n → yq_ex (yq_RP (rh_n p n) A V Q) PV PQ D t (rh_n p j) = rh_ex C F K W PV PQ D t j ∧ yq_RP (rh_n p n) A V Q (rh_n p j) 4 = rh_bQ K j := by
    intro j hj
    obtain ⟨a1, a2, a3⟩ := hL j hj (hp j hj)
    unfold yq_ex rh_ex
    rw [yq_RPr (rh_nlt hj (hp j hj)), yq_rd, yq_rd, ← a1, ← a2, ← a3]
    exact ⟨rfl, rfl⟩
  constructor
  · intro h j hj
    have := h (rh_n p j) (rh_nlt hj (hp j hj))
    rw [(e j hj).1, (e j hj).2] at this
    exact this
  · intro h r hr
    obtain ⟨j, hj, _, rfl⟩ := rh_nE p n r hr
    rw [(e j hj).1, (e j hj).2]
    exact h j hj
end
section
/-! the relation of the two states -/
/-- the stored point: a corner inside, nearest to zero -/
def rz_p (n : Nat) (C F K W : Nat → Int32) (PV PQ : Nat → Int) (D : Int) : Prop :=
  ∃ A V Q, rh_L (fun _ => true) n C F K W A V Q ∧ (∃ nb, rf_cor (rf_G A) (rf_L (rg_b V Q)) (3 + rh_n (fun _ => true) n) nb (rh_x PV PQ) D) ∧ rf_in (rh_n (fun _ => true) n) A (rg_b V Q) (rh_x PV PQ) D ∧ ∀ y e, rf_in (rh_n (fun _ => true) n) A (rg_b V Q) y e → ¬ rf_bt (rh_x PV PQ) D y e → ∀ i, i < 3 → rh_x PV PQ i * e = y i * D
def rz_1 (n : Nat) (C F K W : Nat → Int32) (xps : Int32) (xpd : Int64) (xpp xpq : Nat → Int64) : Prop :=
  ∃ (PV PQ : Nat → Int) (D : Int) (k : Nat), rh_pa PV PQ D xpd xpp xpq ∧ rz_p n C F K W PV PQ D ∧ xps = nI k ∧ rh_ls (fun k => rh_hold n C F K W PV PQ D (rh_t k)) k
def rz_2 (n : Nat) (C F K W : Nat → Int32) (xcc : Int32) (xto : Int64) (xmu : Nat → Int64) : Prop :=
  ∃ z, rn_M n C F K W (rm_co n C F K W n) z ∧ (∀ j, j < n → xmu j = zL (z j)) ∧ xcc = nI (rh_n (rm_co n C F K W n) n) ∧ xto = zL (rf_sm (fun j => z j * rh_bV K W j) n)
def rz_F (v nf n mf mb ml ol of : Nat) (σ : Int) (xst xps xcc xho : Int32) (xpd xto xon xod yon yod : Int64) (xco xbf xbk xbv : Nat → Int32) (xpp xpq xmu : Nat → Int64) : Prop :=
  rh_C v nf xco ∧ rh_U v xco ∧ rh_B nf n xbf xbk xbv ∧ (mf ≤ 6 ∧ nf ≤ v + mf ∧ mb ≤ 10 ∧ n ≤ mb ∧ ml ≤ 8 ∧ ol ≤ ml ∧ of < nf ∧ zA σ 1) ∧
  (xst = 0 ∨ (xst = 1 ∧ rz_1 n xco xbf xbk xbv xps xpd xpp xpq) ∨ (xst = 2 ∧ rz_2 n xco xbf xbk xbv xcc xto xmu)) ∧
  ((xho = 0 ∧ yon = 0 ∧ yod = 0) ∨ (xho = 1 ∧ yon = xon ∧ yod = xod))

def i_Rel (_ : Nat) (u : SX) (w : SY) : Prop := ∃ (v : Nat) (nf : Nat) (n : Nat) (mf : Nat) (mb : Nat) (ml : Nat) (ol : Nat) (of : Nat) (σ : Int) (xst : Int32) (xpd : Int64) (xps : Int32) (xcc : Int32) (xto : Int64) (xho : Int32) (xon : Int64) (xod : Int64) (xrc : Int32) (xde : Int64) (xcr : Int32) (xsp : Int64) (xsq : Int64) (xlp : Int64) (xlq : Int64) (xpn : Int64) (xpe : Int64) (xco : Nat → Int32) (xbf : Nat → Int32) (xbk : Nat → Int32) (xbv : Nat → Int32) (xbl : Nat → Int32) (xpp : Nat → Int64) (xpq : Nat → Int64) (xmu : Nat → Int64) (xke : Nat → Int32) (xcf : Nat → Int64) (xrv : Nat → Int64) (xrd : Nat → Int64) (xro : Nat → Int32) (xta : Nat → Int64) (xba : Nat → Int32) (xnb : Nat → Int32) (yon : Int64) (yod : Int64) (yrs : Int32) (yke : Nat → Int32) (yrw : Nat → Int64) (ypt : Nat → Int64) (ypi : Nat → Int32) (ywe : Nat → Int64) (ymu : Nat → Int64), u = (nI v, nI mf, nI mb, nI ml, nI nf, nI n, nI ol, xst, xpd, xps, xcc, xto, xho, xon, xod, xrc, nI of, zI σ, xde, xcr, xsp, xsq, xlp, xlq, xpn, xpe, xco, xbf, xbk, xbv, xbl, xpp, xpq, xmu, xke, xcf, xrv, xrd, xro, xta, xba, xnb) ∧ w = (nI v, nI mf, nI mb, nI ml, nI nf, nI n, nI ol, xst, yon, yod, yrs, xco, xbf, xbk, xbv, xbl, yke, yrw, ypt, ypi, ywe, ymu) ∧ rz_F v nf n mf mb ml ol of σ xst xps xcc xho xpd xto xon xod yon yod xco xbf xbk xbv xpp xpq xmu
theorem i_up {k : Nat} {u : SX} {v : SY} (h : i_Rel k u v) : i_Rel (k + 4) u v := h
theorem zz_el {k : Nat} {u : SX} {w : SY} {P : SX → SY → Prop} (I : i_Rel k u w) (h : ∀ (v : Nat) (nf : Nat) (n : Nat) (mf : Nat) (mb : Nat) (ml : Nat) (ol : Nat) (of : Nat) (σ : Int) (xst : Int32) (xpd : Int64) (xps : Int32) (xcc : Int32) (xto : Int64) (xho : Int32) (xon : Int64) (xod : Int64) (xrc : Int32) (xde : Int64) (xcr : Int32) (xsp : Int64) (xsq : Int64) (xlp : Int64) (xlq : Int64) (xpn : Int64) (xpe : Int64) (xco : Nat → Int32) (xbf : Nat → Int32) (xbk : Nat → Int32) (xbv : Nat → Int32) (xbl : Nat → Int32) (xpp : Nat → Int64) (xpq : Nat → Int64) (xmu : Nat → Int64) (xke : Nat → Int32) (xcf : Nat → Int64) (xrv : Nat → Int64) (xrd : Nat → Int64) (xro : Nat → Int32) (xta : Nat → Int64) (xba : Nat → Int32) (xnb : Nat → Int32) (yon : Int64) (yod : Int64) (yrs : Int32) (yke : Nat → Int32) (yrw : Nat → Int64) (ypt : Nat → Int64) (ypi : Nat → Int32) (ywe : Nat → Int64) (ymu : Nat → Int64), rz_F v nf n mf mb ml ol of σ xst xps xcc xho xpd xto xon xod yon yod xco xbf xbk xbv xpp xpq xmu → P (nI v, nI mf, nI mb, nI ml, nI nf, nI n, nI ol, xst, xpd, xps, xcc, xto, xho, xon, xod, xrc, nI of, zI σ, xde, xcr, xsp, xsq, xlp, xlq, xpn, xpe, xco, xbf, xbk, xbv, xbl, xpp, xpq, xmu, xke, xcf, xrv, xrd, xro, xta, xba, xnb) (nI v, nI mf, nI mb, nI ml, nI nf, nI n, nI ol, xst, yon, yod, yrs, xco, xbf, xbk, xbv, xbl, yke, yrw, ypt, ypi, ywe, ymu)) : P u w :=
  I.elim fun v I => I.elim fun nf I => I.elim fun n I => I.elim fun mf I => I.elim fun mb I => I.elim fun ml I => I.elim fun ol I => I.elim fun of I => I.elim fun σ I => I.elim fun xst I => I.elim fun xpd I => I.elim fun xps I => I.elim fun xcc I => I.elim fun xto I => I.elim fun xho I => I.elim fun xon I => I.elim fun xod I => I.elim fun xrc I => I.elim fun xde I => I.elim fun xcr I => I.elim fun xsp I => I.elim fun xsq I => I.elim fun xlp I => I.elim fun xlq I => I.elim fun xpn I => I.elim fun xpe I => I.elim fun xco I => I.elim fun xbf I => I.elim fun xbk I => I.elim fun xbv I => I.elim fun xbl I => I.elim fun xpp I => I.elim fun xpq I => I.elim fun xmu I => I.elim fun xke I => I.elim fun xcf I => I.elim fun xrv I => I.elim fun xrd I => I.elim fun xro I => I.elim fun xta I => I.elim fun xba I => I.elim fun xnb I => I.elim fun yon I => I.elim fun yod I => I.elim fun yrs I => I.elim fun yke I => I.elim fun yrw I => I.elim fun ypt I => I.elim fun ypi I => I.elim fun ywe I => I.elim fun ymu I => by
    obtain ⟨rfl, rfl, q⟩ := I
    exact h v nf n mf mb ml ol of σ xst xpd xps xcc xto xho xon xod xrc xde xcr xsp xsq xlp xlq xpn xpe xco xbf xbk xbv xbl xpp xpq xmu xke xcf xrv xrd xro xta xba xnb yon yod yrs yke yrw ypt ypi ywe ymu q
theorem zz_in {k : Nat} {v : Nat} {nf : Nat} {n : Nat} {mf : Nat} {mb : Nat} {ml : Nat} {ol : Nat} {of : Nat} {σ : Int} {xst : Int32} {xpd : Int64} {xps : Int32} {xcc : Int32} {xto : Int64} {xho : Int32} {xon : Int64} {xod : Int64} {xrc : Int32} {xde : Int64} {xcr : Int32} {xsp : Int64} {xsq : Int64} {xlp : Int64} {xlq : Int64} {xpn : Int64} {xpe : Int64} {xco : Nat → Int32} {xbf : Nat → Int32} {xbk : Nat → Int32} {xbv : Nat → Int32} {xbl : Nat → Int32} {xpp : Nat → Int64} {xpq : Nat → Int64} {xmu : Nat → Int64} {xke : Nat → Int32} {xcf : Nat → Int64} {xrv : Nat → Int64} {xrd : Nat → Int64} {xro : Nat → Int32} {xta : Nat → Int64} {xba : Nat → Int32} {xnb : Nat → Int32} {yon : Int64} {yod : Int64} {yrs : Int32} {yke : Nat → Int32} {yrw : Nat → Int64} {ypt : Nat → Int64} {ypi : Nat → Int32} {ywe : Nat → Int64} {ymu : Nat → Int64} (q : rz_F v nf n mf mb ml ol of σ xst xps xcc xho xpd xto xon xod yon yod xco xbf xbk xbv xpp xpq xmu) : i_Rel k (nI v, nI mf, nI mb, nI ml, nI nf, nI n, nI ol, xst, xpd, xps, xcc, xto, xho, xon, xod, xrc, nI of, zI σ, xde, xcr, xsp, xsq, xlp, xlq, xpn, xpe, xco, xbf, xbk, xbv, xbl, xpp, xpq, xmu, xke, xcf, xrv, xrd, xro, xta, xba, xnb) (nI v, nI mf, nI mb, nI ml, nI nf, nI n, nI ol, xst, yon, yod, yrs, xco, xbf, xbk, xbv, xbl, yke, yrw, ypt, ypi, ywe, ymu) :=
  ⟨v, nf, n, mf, mb, ml, ol, of, σ, xst, xpd, xps, xcc, xto, xho, xon, xod, xrc, xde, xcr, xsp, xsq, xlp, xlq, xpn, xpe, xco, xbf, xbk, xbv, xbl, xpp, xpq, xmu, xke, xcf, xrv, xrd, xro, xta, xba, xnb, yon, yod, yrs, yke, yrw, ypt, ypi, ywe, ymu, rfl, rfl, q⟩
end
section
/-! the small methods -/
def rz_cl (p a b : Int32) : Int32 := if a ≤ p then (if p ≤ b then p else b) else a
theorem rz_clN (p : Int32) {a b : Nat} (hab : a ≤ b) (hb : b < 2 ^ 31) : ∃ c, a ≤ c ∧ c ≤ b ∧ rz_cl p (nI a) (nI b) = nI c := by
  unfold rz_cl
  by_cases h1 : nI a ≤ p
  · rw [if_pos h1]
    by_cases h2 : p ≤ nI b
    · rw [if_pos h2]
      have h0 : ¬ p < 0 := by
        intro z
        have e1 := Int32.le_iff_toInt_le.mp h1
        have e2 := Int32.lt_iff_toInt_lt.mp z
        rw [nI_toInt (by omega)] at e1
        rw [show (0 : Int32).toInt = 0 from by decide] at e2
        omega
      obtain ⟨c, hc, rfl⟩ := nI_of h0
      rw [nI_leI (by omega) hc] at h1
      rw [nI_leI hc (by omega)] at h2
      exact ⟨c, h1, h2, rfl⟩
    · rw [if_neg h2]; exact ⟨b, hab, Nat.le_refl b, rfl⟩
  · rw [if_neg h1]; exact ⟨a, Nat.le_refl a, hab, rfl⟩
theorem xw_clamp {post : Int32 → Prop} {u : SX} {p a b : Int32} (K : post (rz_cl p a b)) : wpX_clamp post u p a b := by
  unfold rz_cl at K
  unfold wpX_clamp
  refine br_c (fun h => br_c (fun h2 => ?_) (fun h2 => ?_)) (fun h => ?_)
  · rw [if_pos h, if_pos h2] at K; exact K
  · rw [if_pos h, if_neg h2] at K; exact K
  · rw [if_neg h] at K; exact K
theorem yw_clamp {post : Int32 → Prop} {u : SY} {p a b : Int32} (K : post (rz_cl p a b)) : wpY_clamp post u p a b := by
  unfold rz_cl at K
  unfold wpY_clamp
  refine br_c (fun h => br_c (fun h2 => ?_) (fun h2 => ?_)) (fun h => ?_)
  · rw [if_pos h, if_pos h2] at K; exact K
  · rw [if_pos h, if_neg h2] at K; exact K
  · rw [if_neg h] at K; exact K
def rz_c : Nat → (Nat → Int32)
  | 0 => fun _ => 0
  | i + 1 => upd (rz_c i) (3 * i + i) 1
theorem rz_cT : ∀ v : Fin 4, ∀ f : Fin 3, ∀ i : Fin 3, f.val < v.val → (rz_c v.val (3 * f.val + i.val)).toInt = rb_e f.val i.val := by decide +kernel
theorem rz_cC {v : Nat} (h1 : 1 ≤ v) (h3 : v ≤ 3) : rh_C v v (rz_c v) ∧ rh_U v (rz_c v) := by
  have key : ∀ f, f < v → ∀ i, i < 3 → (rz_c v (3 * f + i)).toInt = rb_e f i := fun f hf i hi => rz_cT ⟨v, by omega⟩ ⟨f, by omega⟩ ⟨i, hi⟩ hf
  refine ⟨⟨h1, h3, Nat.le_refl v, by omega, fun f hf i hi => ⟨?_, fun hv => ?_⟩⟩, key⟩
  · rw [key f hf i hi]; exact rg_eb f i hi
  · rw [key f hf i hi]; exact if_neg (by omega)
section
variable {v : Nat}
theorem xw_in195 {xmf xmb xml xfo xbo xol xst xps xcc xho xrc xof xos xcr : Int32} {xpd xto xon xod xde xsp xsq xlp xlq xpn xpe : Int64} {xbf xbk xbv xbl xke xro xba xnb : Nat → Int32} {xpp xpq xmu xcf xrv xrd xta : Nat → Int64} {post : SX → Prop} (hv : v ≤ 3) (K : post (nI v, xmf, xmb, xml, nI v, xbo, xol, 0, xpd, xps, xcc, xto, xho, xon, xod, xrc, xof, xos, xde, xcr, xsp, xsq, xlp, xlq, xpn, xpe, rz_c v, xbf, xbk, xbv, xbl, xpp, xpq, xmu, xke, xcf, xrv, xrd, xro, xta, xba, xnb)) : ∀ d i n, i + d = v → d < n → wX_init_195 post (nI v) xmf xmb xml xfo xbo xol xst xpd xps xcc xto xho xon xod xrc xof xos xde xcr xsp xsq xlp xlq xpn xpe n (nI i) (rz_c i) xbf xbk xbv xbl xpp xpq xmu xke xcf xrv xrd xro xta xba xnb := by
  intro d
  induction d with
  | zero =>
    intro i n hi hn
    obtain ⟨n, rfl⟩ : ∃ n', n = n' + 1 := ⟨n - 1, by omega⟩
    have e : i = v := by omega
    subst e
    exact br_t (nI_le (by omega) (by omega)) K
  | succ d ih =>
    intro i n hi hn
    obtain ⟨n, rfl⟩ : ∃ n', n = n' + 1 := ⟨n - 1, by omega⟩
    refine br_f (nI_ge (by omega) (by omega)) (And.intro (xw_in (by omega) (by omega)) ?_)
    rw [xw_cl (by omega)]
    exact nm_e (nm_r (nI_1 i) (ih (i + 1) n (by omega) (by omega)))
theorem yw_in149 {xmf xmb xml xfo xbo xol xst yrs : Int32} {yon yod : Int64} {xbf xbk xbv xbl yke ypi : Nat → Int32} {yrw ypt ywe ymu : Nat → Int64} {post : SY → Prop} (hv : v ≤ 3) (K : post (nI v, xmf, xmb, xml, xfo, xbo, xol, xst, yon, yod, yrs, rz_c v, xbf, xbk, xbv, xbl, yke, yrw, ypt, ypi, ywe, ymu)) : ∀ d i n, i + d = v → d < n → wY_init_149 post (nI v) xmf xmb xml xfo xbo xol xst yon yod yrs n (nI i) (rz_c i) xbf xbk xbv xbl yke yrw ypt ypi ywe ymu := by
  intro d
  induction d with
  | zero =>
    intro i n hi hn
    obtain ⟨n, rfl⟩ : ∃ n', n = n' + 1 := ⟨n - 1, by omega⟩
    have e : i = v := by omega
    subst e
    exact br_t (nI_le (by omega) (by omega)) K
  | succ d ih =>
    intro i n hi hn
    obtain ⟨n, rfl⟩ : ∃ n', n = n' + 1 := ⟨n - 1, by omega⟩
    refine br_f (nI_ge (by omega) (by omega)) (And.intro (xw_in (by omega) (by omega)) ?_)
    rw [xw_cl (by omega)]
    exact nm_e (nm_r (nI_1 i) (ih (i + 1) n (by omega) (by omega)))
end
theorem i_vc0 (k0 : Int32) (k1 : Int32) (k2 : Int32) (k3 : Int32) : wpX_init (fun u => wpY_init (fun v => i_Rel 4 u v) k0 k1 k2 k3) k0 k1 k2 k3 := by
  obtain ⟨v, v1, v3, ev⟩ := rz_clN k0 (a := 1) (b := 3) (by omega) (by omega)
  obtain ⟨mf, f1, f6, ef⟩ := rz_clN k1 (a := 1) (b := 6) (by omega) (by omega)
  obtain ⟨mb, b2, b10, eb⟩ := rz_clN k2 (a := 2) (b := 10) (by omega) (by omega)
  obtain ⟨ml, l1, l8, el⟩ := rz_clN k3 (a := 1) (b := 8) (by omega) (by omega)
  have ev' : rz_cl k0 1 3 = nI v := ev
  have ef' : rz_cl k1 1 6 = nI mf := ef
  have eb' : rz_cl k2 2 10 = nI mb := eb
  have el' : rz_cl k3 1 8 = nI ml := el
  unfold wpX_init
  refine xw_clamp ?_
  rw [ev']
  refine xw_clamp ?_
  rw [ef']
  refine xw_clamp ?_
  rw [eb']
  refine xw_clamp ?_
  rw [el']
  refine ⟨v + 1, xw_in195 v3 ?_ v 0 (v + 1) (by omega) (by omega)⟩
  unfold wpY_init
  refine yw_clamp ?_
  rw [ev']
  refine yw_clamp ?_
  rw [ef']
  refine yw_clamp ?_
  rw [eb']
  refine yw_clamp ?_
  rw [el']
  refine ⟨v + 1, yw_in149 v3 ?_ v 0 (v + 1) (by omega) (by omega)⟩
  exact zz_in (v := v) (nf := v) (n := 0) (mf := mf) (mb := mb) (ml := ml) (ol := 0) (of := 0) (σ := 0) ⟨(rz_cC v1 v3).1, (rz_cC v1 v3).2, ⟨by omega, fun j hj => absurd hj (by omega)⟩, ⟨by omega, by omega, by omega, by omega, by omega, by omega, by omega, zA_0 (by omega)⟩, Or.inl rfl, Or.inl ⟨rfl, rfl, rfl⟩⟩
end
section
/-! the methods that only read, and those of forms, bounds and levels -/
theorem i_vc_formCount {k : Nat} {u : SX} {v : SY} (I : i_Rel k u v) (hk : k + 4 ≤ 2052) : wpX_formCount (fun r => wpY_formCount (fun r' => r' = r ∧ i_Rel (k + 4) u v) v) u := by
  refine zz_el (P := fun u v => wpX_formCount (fun r => wpY_formCount (fun r' => r' = r ∧ i_Rel (k + 4) u v) v) u) I ?_
  intro v nf n mf mb ml ol of σ xst xpd xps xcc xto xho xon xod xrc xde xcr xsp xsq xlp xlq xpn xpe xco xbf xbk xbv xbl xpp xpq xmu xke xcf xrv xrd xro xta xba xnb yon yod yrs yke yrw ypt ypi ywe ymu q
  exact ⟨rfl, zz_in q⟩
theorem i_vc_boundCount {k : Nat} {u : SX} {v : SY} (I : i_Rel k u v) (hk : k + 4 ≤ 2052) : wpX_boundCount (fun r => wpY_boundCount (fun r' => r' = r ∧ i_Rel (k + 4) u v) v) u := by
  refine zz_el (P := fun u v => wpX_boundCount (fun r => wpY_boundCount (fun r' => r' = r ∧ i_Rel (k + 4) u v) v) u) I ?_
  intro v nf n mf mb ml ol of σ xst xpd xps xcc xto xho xon xod xrc xde xcr xsp xsq xlp xlq xpn xpe xco xbf xbk xbv xbl xpp xpq xmu xke xcf xrv xrd xro xta xba xnb yon yod yrs yke yrw ypt ypi ywe ymu q
  exact ⟨rfl, zz_in q⟩
theorem i_vc_level {k : Nat} {u : SX} {v : SY} (I : i_Rel k u v) (hk : k + 4 ≤ 2052) : wpX_level (fun r => wpY_level (fun r' => r' = r ∧ i_Rel (k + 4) u v) v) u := by
  refine zz_el (P := fun u v => wpX_level (fun r => wpY_level (fun r' => r' = r ∧ i_Rel (k + 4) u v) v) u) I ?_
  intro v nf n mf mb ml ol of σ xst xpd xps xcc xto xho xon xod xrc xde xcr xsp xsq xlp xlq xpn xpe xco xbf xbk xbv xbl xpp xpq xmu xke xcf xrv xrd xro xta xba xnb yon yod yrs yke yrw ypt ypi ywe ymu q
  exact ⟨rfl, zz_in q⟩
theorem i_vc_status {k : Nat} {u : SX} {v : SY} (I : i_Rel k u v) (hk : k + 4 ≤ 2052) : wpX_status (fun r => wpY_status (fun r' => r' = r ∧ i_Rel (k + 4) u v) v) u := by
  refine zz_el (P := fun u v => wpX_status (fun r => wpY_status (fun r' => r' = r ∧ i_Rel (k + 4) u v) v) u) I ?_
  intro v nf n mf mb ml ol of σ xst xpd xps xcc xto xho xon xod xrc xde xcr xsp xsq xlp xlq xpn xpe xco xbf xbk xbv xbl xpp xpq xmu xke xcf xrv xrd xro xta xba xnb yon yod yrs yke yrw ypt ypi ywe ymu q
  exact ⟨rfl, zz_in q⟩
theorem i_vc_optimumNumerator {k : Nat} {u : SX} {v : SY} (I : i_Rel k u v) (hk : k + 4 ≤ 2052) : wpX_optimumNumerator (fun r => wpY_optimumNumerator (fun r' => r' = r ∧ i_Rel (k + 4) u v) v) u := by
  refine zz_el (P := fun u v => wpX_optimumNumerator (fun r => wpY_optimumNumerator (fun r' => r' = r ∧ i_Rel (k + 4) u v) v) u) I ?_
  intro v nf n mf mb ml ol of σ xst xpd xps xcc xto xho xon xod xrc xde xcr xsp xsq xlp xlq xpn xpe xco xbf xbk xbv xbl xpp xpq xmu xke xcf xrv xrd xro xta xba xnb yon yod yrs yke yrw ypt ypi ywe ymu q
  rcases q.2.2.2.2.2 with ⟨h1, h2, h3⟩ | ⟨h1, h2, h3⟩
  · exact br_t h1 ⟨h2, zz_in q⟩
  · exact br_f (by rw [h1]; decide) ⟨h2, zz_in q⟩
theorem i_vc_optimumDenominator {k : Nat} {u : SX} {v : SY} (I : i_Rel k u v) (hk : k + 4 ≤ 2052) : wpX_optimumDenominator (fun r => wpY_optimumDenominator (fun r' => r' = r ∧ i_Rel (k + 4) u v) v) u := by
  refine zz_el (P := fun u v => wpX_optimumDenominator (fun r => wpY_optimumDenominator (fun r' => r' = r ∧ i_Rel (k + 4) u v) v) u) I ?_
  intro v nf n mf mb ml ol of σ xst xpd xps xcc xto xho xon xod xrc xde xcr xsp xsq xlp xlq xpn xpe xco xbf xbk xbv xbl xpp xpq xmu xke xcf xrv xrd xro xta xba xnb yon yod yrs yke yrw ypt ypi ywe ymu q
  rcases q.2.2.2.2.2 with ⟨h1, h2, h3⟩ | ⟨h1, h2, h3⟩
  · exact br_t h1 ⟨h3, zz_in q⟩
  · exact br_f (by rw [h1]; decide) ⟨h3, zz_in q⟩
section
variable {nf : Nat}
variable {xv xmf xmb xml xbo xol xst xps xcc xho xrc xof xos xcr : Int32} {xpd xto xon xod xde xsp xsq xlp xlq xpn xpe : Int64} {xco xbf xbk xbv xbl xke xro xba xnb : Nat → Int32} {xpp xpq xmu xcf xrv xrd xta : Nat → Int64}
theorem xw_fxN {post : Int32 → Prop} {p : Int32} (h : p < 0 ∨ nI nf ≤ p) (K : post 0) : wpX_formExists post (xv, xmf, xmb, xml, nI nf, xbo, xol, xst, xpd, xps, xcc, xto, xho, xon, xod, xrc, xof, xos, xde, xcr, xsp, xsq, xlp, xlq, xpn, xpe, xco, xbf, xbk, xbv, xbl, xpp, xpq, xmu, xke, xcf, xrv, xrd, xro, xta, xba, xnb) p :=
  br_c (fun _ => K) (fun n => br_t (h.resolve_left n) K)
theorem xw_fxY {post : Int32 → Prop} {f : Nat} (hn : nf ≤ 9) (h : f < nf) (K : post 1) : wpX_formExists post (xv, xmf, xmb, xml, nI nf, xbo, xol, xst, xpd, xps, xcc, xto, xho, xon, xod, xrc, xof, xos, xde, xcr, xsp, xsq, xlp, xlq, xpn, xpe, xco, xbf, xbk, xbv, xbl, xpp, xpq, xmu, xke, xcf, xrv, xrd, xro, xta, xba, xnb) (nI f) :=
  br_f (nI_pos (by omega)) (br_f (nI_ge h (by omega)) K)
end
theorem rz_a1 (p : Int32) {n : Nat} (hn : n < 2 ^ 31) : (p < 0 ∨ nI n ≤ p) ∨ ∃ j, j < n ∧ p = nI j := by
  rcases pk_ix p hn with h | h | h
  · exact Or.inl (Or.inl h)
  · exact Or.inl (Or.inr h)
  · exact Or.inr h
theorem rz_nl {p : Int32} {n : Nat} (h : nI n ≤ p) : ¬ p < nI n := Int32.not_lt.mpr h
theorem i_vc_coefficient {k : Nat} {u : SX} {v : SY} (I : i_Rel k u v) (hk : k + 4 ≤ 2052) (v1 : Int32) (v2 : Int32) : wpX_coefficient (fun r => wpY_coefficient (fun r' => r' = r ∧ i_Rel (k + 4) u v) v v1 v2) u v1 v2 := by
  refine zz_el (P := fun u v => wpX_coefficient (fun r => wpY_coefficient (fun r' => r' = r ∧ i_Rel (k + 4) u v) v v1 v2) u v1 v2) I ?_
  intro v nf n mf mb ml ol of σ xst xpd xps xcc xto xho xon xod xrc xde xcr xsp xsq xlp xlq xpn xpe xco xbf xbk xbv xbl xpp xpq xmu xke xcf xrv xrd xro xta xba xnb yon yod yrs yke yrw ypt ypi ywe ymu q
  have R := zz_in (k := k + 4) (xrc := xrc) (xde := xde) (xcr := xcr) (xsp := xsp) (xsq := xsq) (xlp := xlp) (xlq := xlq) (xpn := xpn) (xpe := xpe) (xbl := xbl) (xke := xke) (xcf := xcf) (xrv := xrv) (xrd := xrd) (xro := xro) (xta := xta) (xba := xba) (xnb := xnb) (yrs := yrs) (yke := yke) (yrw := yrw) (ypt := ypt) (ypi := ypi) (ywe := ywe) (ymu := ymu) q
  have h9 := q.1.2.2.2.1
  have h3 := q.1.2.1
  unfold wpX_coefficient
  rcases rz_a1 v1 (n := nf) (by omega) with h | ⟨f, hf, rfl⟩
  · refine xw_fxN h (br_t rfl ?_)
    exact br_c (fun _ => ⟨rfl, R⟩) (fun n => br_f (rz_nl (h.resolve_left n)) ⟨rfl, R⟩)
  · refine xw_fxY h9 hf (br_f (by decide) ?_)
    rcases rz_a1 v2 (n := v) (by omega) with h | ⟨i, hi, rfl⟩
    · refine br_c (fun hh => ?_) (fun n => br_f (rz_nl (h.resolve_left n)) ?_)
      · exact br_f (nI_pos (by omega)) (br_t (nI_lt hf (by omega)) (br_t hh ⟨rfl, R⟩))
      · exact br_f (nI_pos (by omega)) (br_t (nI_lt hf (by omega)) (br_f n (br_f (rz_nl (h.resolve_left n)) ⟨rfl, R⟩)))
    · have hx : vp_in (3 * nI f + nI i) 27 := xw_in (by omega) (by omega)
      exact br_f (nI_pos (by omega)) (br_t (nI_lt hi (by omega)) (And.intro hx (br_f (nI_pos (by omega)) (br_t (nI_lt hf (by omega)) (br_f (nI_pos (by omega)) (br_t (nI_lt hi (by omega)) (And.intro hx ⟨rfl, R⟩)))))))
theorem i_vc_boundField {k : Nat} {u : SX} {v : SY} (I : i_Rel k u v) (hk : k + 4 ≤ 2052) (v1 : Int32) (v2 : Int32) : wpX_boundField (fun r => wpY_boundField (fun r' => r' = r ∧ i_Rel (k + 4) u v) v v1 v2) u v1 v2 := by
  refine zz_el (P := fun u v => wpX_boundField (fun r => wpY_boundField (fun r' => r' = r ∧ i_Rel (k + 4) u v) v v1 v2) u v1 v2) I ?_
  intro v nf n mf mb ml ol of σ xst xpd xps xcc xto xho xon xod xrc xde xcr xsp xsq xlp xlq xpn xpe xco xbf xbk xbv xbl xpp xpq xmu xke xcf xrv xrd xro xta xba xnb yon yod yrs yke yrw ypt ypi ywe ymu q
  have R := zz_in (k := k + 4) (xrc := xrc) (xde := xde) (xcr := xcr) (xsp := xsp) (xsq := xsq) (xlp := xlp) (xlq := xlq) (xpn := xpn) (xpe := xpe) (xbl := xbl) (xke := xke) (xcf := xcf) (xrv := xrv) (xrd := xrd) (xro := xro) (xta := xta) (xba := xba) (xnb := xnb) (yrs := yrs) (yke := yke) (yrw := yrw) (ypt := ypt) (ypi := ypi) (ywe := ywe) (ymu := ymu) q
  have hn := q.2.2.1.1
  rcases rz_a1 v1 (n := n) (by omega) with h | ⟨j, hj, rfl⟩
  · refine br_c (fun hh => ?_) (fun nn => br_f (rz_nl (h.resolve_left nn)) ?_)
    · exact br_t hh ⟨rfl, R⟩
    · exact br_f nn (br_f (rz_nl (h.resolve_left nn)) ⟨rfl, R⟩)
  · have hx : vp_in (nI j) 10 := vp_in_nI (by omega) (by omega)
    have n0 := nI_pos (show j < 2 ^ 31 by omega)
    have lt := nI_lt hj (show n < 2 ^ 31 by omega)
    refine br_f n0 (br_t lt (br_c (fun h => And.intro hx ?_) (fun h => br_c (fun h2 => And.intro hx ?_) (fun h2 => br_c (fun h3 => And.intro hx ?_) (fun h3 => br_c (fun h4 => And.intro hx ?_) (fun h4 => ?_))))))
    · exact br_f n0 (br_t lt (br_t h (And.intro hx ⟨rfl, R⟩)))
    · exact br_f n0 (br_t lt (br_f h (br_t h2 (And.intro hx ⟨rfl, R⟩))))
    · exact br_f n0 (br_t lt (br_f h (br_f h2 (br_t h3 (And.intro hx ⟨rfl, R⟩)))))
    · exact br_f n0 (br_t lt (br_f h (br_f h2 (br_f h3 (br_t h4 (And.intro hx ⟨rfl, R⟩))))))
    · exact br_f n0 (br_t lt (br_f h (br_f h2 (br_f h3 (br_f h4 ⟨rfl, R⟩)))))
theorem i_vc_push {k : Nat} {u : SX} {v : SY} (I : i_Rel k u v) (hk : k + 4 ≤ 2052) : wpX_push (fun r u' => wpY_push (fun r' v' => r' = r ∧ i_Rel (k + 4) u' v') v) u := by
  refine zz_el (P := fun u v => wpX_push (fun r u' => wpY_push (fun r' v' => r' = r ∧ i_Rel (k + 4) u' v') v) u) I ?_
  intro v nf n mf mb ml ol of σ xst xpd xps xcc xto xho xon xod xrc xde xcr xsp xsq xlp xlq xpn xpe xco xbf xbk xbv xbl xpp xpq xmu xke xcf xrv xrd xro xta xba xnb yon yod yrs yke yrw ypt ypi ywe ymu q
  obtain ⟨q1, q2, q3, ⟨a1, a2, a3, a4, a5, a6, a7, a8⟩, q5, q6⟩ := q
  by_cases h : ol < ml
  · refine br_t (nI_lt h (by omega)) (nm_r (nI_1 ol) (br_t (nI_lt h (by omega)) (nm_r (nI_1 ol) ⟨rfl, zz_in ⟨q1, q2, q3, ⟨a1, a2, a3, a4, a5, by omega, a7, a8⟩, q5, q6⟩⟩)))
  · exact br_f (nI_nlt (by omega) (by omega)) (br_f (nI_nlt (by omega) (by omega)) ⟨rfl, zz_in ⟨q1, q2, q3, ⟨a1, a2, a3, a4, a5, a6, a7, a8⟩, q5, q6⟩⟩)
/-! pop -/
def rz_sv (xbl : Nat → Int32) (ol : Nat) : Nat → Bool := fun j => decide (¬ nI ol < xbl j)
section
variable {n ol : Nat}
variable {xv xmf xmb xml xfo xst xps xcc xho xrc xof xos xcr : Int32} {xpd xto xon xod xde xsp xsq xlp xlq xpn xpe : Int64} {xco xbf xbk xbv xbl xke xro xba xnb : Nat → Int32} {xpp xpq xmu xcf xrv xrd xta : Nat → Int64}
theorem xw_pop31 {post : Int32 → SX → Prop} (hn : n ≤ 10) (K : wpX_reopen (fun u => match u with | (xv, xmf, xmb, xml, xfo, xbo, xol, xst, xpd, xps, xcc, xto, xho, xon, xod, xrc, xof, xos, xde, xcr, xsp, xsq, xlp, xlq, xpn, xpe, xco, xbf, xbk, xbv, xbl, xpp, xpq, xmu, xke, xcf, xrv, xrd, xro, xta, xba, xnb) => post xol (xv, xmf, xmb, xml, xfo, xbo, xol, xst, xpd, xps, xcc, xto, xho, xon, xod, xrc, xof, xos, xde, xcr, xsp, xsq, xlp, xlq, xpn, xpe, xco, xbf, xbk, xbv, xbl, xpp, xpq, xmu, xke, xcf, xrv, xrd, xro, xta, xba, xnb)) (xv, xmf, xmb, xml, xfo, nI (rh_n (rz_sv xbl ol) n), nI ol, xst, xpd, xps, xcc, xto, xho, xon, xod, xrc, xof, xos, xde, xcr, xsp, xsq, xlp, xlq, xpn, xpe, xco, xbf, xbk, xbv, xbl, xpp, xpq, xmu, xke, xcf, xrv, xrd, xro, xta, xba, xnb)) : ∀ d j fu, j + d = n → d < fu → wX_pop_31 post xv xmf xmb xml xfo (nI n) (nI ol) xst xpd xps xcc xto xho xon xod xrc xof xos xde xcr xsp xsq xlp xlq xpn xpe xco xbf xbk xbv xbl xpp xpq xmu xke xcf xrv xrd xro xta xba xnb fu (nI (rh_n (rz_sv xbl ol) j)) (nI j) := by
  intro d
  induction d with
  | zero =>
    intro j fu hj hf
    obtain ⟨fu, rfl⟩ : ∃ n', fu = n' + 1 := ⟨fu - 1, by omega⟩
    have e : j = n := by omega
    subst e
    exact br_t (nI_le (by omega) (by omega)) K
  | succ d ih =>
    intro j fu hj hf
    obtain ⟨fu, rfl⟩ : ∃ n', fu = n' + 1 := ⟨fu - 1, by omega⟩
    have ih' := ih (j + 1) fu (by omega) (by omega)
    refine br_f (nI_ge (by omega) (by omega)) (And.intro (vp_in_nI (by omega) (by omega)) ?_)
    rw [nI_clamp (show j < 2 ^ 31 by omega)]
    refine br_c (fun h => nm_r (nI_1 j) ?_) (fun h => nm_r (nI_1 _) (nm_r (nI_1 j) ?_))
    · rw [rh_nN (by unfold rz_sv; simp [h])] at ih'; exact ih'
    · rw [rh_nS (by unfold rz_sv; simp [h])] at ih'; exact ih'
end
section
variable {n ol : Nat}
variable {xv xmf xmb xml xfo xst yrs : Int32} {yon yod : Int64} {xco xbf xbk xbv xbl yke ypi : Nat → Int32} {yrw ypt ywe ymu : Nat → Int64}
theorem yw_pop31 {post : Int32 → SY → Prop} (hn : n ≤ 10) (K : wpY_reopen (fun u => match u with | (xv, xmf, xmb, xml, xfo, xbo, xol, xst, yon, yod, yrs, xco, xbf, xbk, xbv, xbl, yke, yrw, ypt, ypi, ywe, ymu) => post xol (xv, xmf, xmb, xml, xfo, xbo, xol, xst, yon, yod, yrs, xco, xbf, xbk, xbv, xbl, yke, yrw, ypt, ypi, ywe, ymu)) (xv, xmf, xmb, xml, xfo, nI (rh_n (rz_sv xbl ol) n), nI ol, xst, yon, yod, yrs, xco, xbf, xbk, xbv, xbl, yke, yrw, ypt, ypi, ywe, ymu)) : ∀ d j fu, j + d = n → d < fu → wY_pop_31 post xv xmf xmb xml xfo (nI n) (nI ol) xst yon yod yrs xco xbf xbk xbv xbl yke yrw ypt ypi ywe ymu fu (nI (rh_n (rz_sv xbl ol) j)) (nI j) := by
  intro d
  induction d with
  | zero =>
    intro j fu hj hf
    obtain ⟨fu, rfl⟩ : ∃ n', fu = n' + 1 := ⟨fu - 1, by omega⟩
    have e : j = n := by omega
    subst e
    exact br_t (nI_le (by omega) (by omega)) K
  | succ d ih =>
    intro j fu hj hf
    obtain ⟨fu, rfl⟩ : ∃ n', fu = n' + 1 := ⟨fu - 1, by omega⟩
    have ih' := ih (j + 1) fu (by omega) (by omega)
    refine br_f (nI_ge (by omega) (by omega)) (And.intro (vp_in_nI (by omega) (by omega)) ?_)
    rw [nI_clamp (show j < 2 ^ 31 by omega)]
    refine br_c (fun h => nm_r (nI_1 j) ?_) (fun h => nm_r (nI_1 _) (nm_r (nI_1 j) ?_))
    · rw [rh_nN (by unfold rz_sv; simp [h])] at ih'; exact ih'
    · rw [rh_nS (by unfold rz_sv; simp [h])] at ih'; exact ih'
end
theorem rh_Bm {nf n n' : Nat} {F K W : Nat → Int32} (h : rh_B nf n F K W) (hn : n' ≤ n) : rh_B nf n' F K W := ⟨by have := h.1; omega, fun j hj => h.2 j (by omega)⟩
theorem i_vc_pop {k : Nat} {u : SX} {v : SY} (I : i_Rel k u v) (hk : k + 4 ≤ 2052) (v1 : Int32) : wpX_pop (fun r u' => wpY_pop (fun r' v' => r' = r ∧ i_Rel (k + 4) u' v') v v1) u v1 := by
  refine zz_el (P := fun u v => wpX_pop (fun r u' => wpY_pop (fun r' v' => r' = r ∧ i_Rel (k + 4) u' v') v v1) u v1) I ?_
  intro v nf n mf mb ml ol of σ xst xpd xps xcc xto xho xon xod xrc xde xcr xsp xsq xlp xlq xpn xpe xco xbf xbk xbv xbl xpp xpq xmu xke xcf xrv xrd xro xta xba xnb yon yod yrs yke yrw ypt ypi ywe ymu q
  obtain ⟨q1, q2, q3, ⟨a1, a2, a3, a4, a5, a6, a7, a8⟩, q5, q6⟩ := q
  have hn := q3.1
  by_cases h1 : v1 < 1
  · exact br_t h1 (br_t h1 ⟨rfl, zz_in ⟨q1, q2, q3, ⟨a1, a2, a3, a4, a5, a6, a7, a8⟩, q5, q6⟩⟩)
  · by_cases h2 : v1 ≤ nI ol
    · have h0 : ¬ v1 < 0 := by
        intro z
        exact h1 (Int32.lt_trans z (by decide))
      obtain ⟨c, hc, rfl⟩ := nI_of h0
      have c1 : 1 ≤ c := by
        by_cases z : 1 ≤ c
        · exact z
        · exact absurd (nI_lt (b := 1) (by omega) (by omega)) h1
      have c2 : c ≤ ol := (nI_leI hc (by omega)).mp h2
      have hle := rh_nle (rz_sv xbl (ol - c)) n
      refine br_f h1 (br_t h2 (nm_r (pk_sub c2) ⟨n + 1, xw_pop31 hn ?_ n 0 (n + 1) (by omega) (by omega)⟩))
      refine br_f h1 (br_t h2 (nm_r (pk_sub c2) ⟨n + 1, yw_pop31 hn ?_ n 0 (n + 1) (by omega) (by omega)⟩))
      exact ⟨rfl, zz_in ⟨q1, q2, rh_Bm q3 hle, ⟨a1, a2, a3, by omega, a5, by omega, a7, a8⟩, Or.inl rfl, Or.inl ⟨rfl, rfl, rfl⟩⟩⟩
    · exact br_f h1 (br_f h2 (br_f h1 (br_f h2 ⟨rfl, zz_in ⟨q1, q2, q3, ⟨a1, a2, a3, a4, a5, a6, a7, a8⟩, q5, q6⟩⟩)))
end
section
/-! assertBound, defineForm -/
theorem rz_irY {A B : Prop} {p a b : Int32} (h : p < a ∨ b < p) (ha : A) : (p < a → A) ∧ (¬ p < a → ((b < p → A) ∧ (¬ b < p → B))) := br_c (fun _ => ha) (fun n => br_t (h.resolve_left n) ha)
theorem rz_irL {A B : Prop} {p a b : Int32} (h : p < a ∨ b < p) (ha : A) : (p < a → A) ∧ (¬ p < a → ((p ≤ b → B) ∧ (¬ p ≤ b → A))) := br_c (fun _ => ha) (fun n => br_f (Int32.not_le.mpr (h.resolve_left n)) ha)
theorem rz_irT {A B : Prop} {p a b : Int32} (h1 : ¬ p < a) (h2 : ¬ b < p) (hb : B) : (p < a → A) ∧ (¬ p < a → ((p ≤ b → B) ∧ (¬ p ≤ b → A))) := br_f h1 (br_t (Int32.not_lt.mp h2) hb)
theorem xw_ir {post : Int32 → Prop} {u : SX} {p a b : Int32} (K0 : (p < a ∨ b < p) → post 0) (K1 : ¬ p < a → ¬ b < p → post 1) : wpX_inRange post u p a b := br_c (fun h => K0 (Or.inl h)) (fun h => br_c (fun h2 => K0 (Or.inr h2)) (fun h2 => K1 h h2))
/-- an int within bounds -/
theorem rz_val {p : Int32} {c : Int} (lo hi : Int32) (el : lo.toInt = -c) (eh : hi.toInt = c) (h1 : ¬ p < lo) (h2 : ¬ hi < p) : zA p.toInt c := by
  have a := Int32.le_iff_toInt_le.mp (Int32.not_lt.mp h1)
  have b := Int32.le_iff_toInt_le.mp (Int32.not_lt.mp h2)
  exact ⟨by omega, by omega⟩
theorem rz_1000 {p : Int32} (h1 : ¬ p < -1000) (h2 : ¬ 1000 < p) : zA p.toInt 1000 := rz_val (-1000) 1000 (by decide) (by decide) h1 h2
theorem rz_20 {p : Int32} (h1 : ¬ p < -20) (h2 : ¬ 20 < p) : zA p.toInt 20 := rz_val (-20) 20 (by decide) (by decide) h1 h2
theorem rz_k4 {p : Int32} (h1 : ¬ p < 0) (h2 : ¬ 3 < p) : ∃ κ, κ < 4 ∧ p = nI κ := by
  obtain ⟨c, hc, rfl⟩ := nI_of h1
  refine ⟨c, ?_, rfl⟩
  have := (nI_leI (b := 3) hc (by omega)).mp (Int32.not_lt.mp h2)
  omega
/-- what the arguments of a bound may be -/
theorem rz_tb (v1 v2 v3 : Int32) {nf : Nat} (hn : nf ≤ 9) : (v1 < 0 ∨ nI nf ≤ v1) ∨ ∃ f, f < nf ∧ v1 = nI f ∧ ((v2 < 0 ∨ 3 < v2) ∨ ∃ κ, κ < 4 ∧ v2 = nI κ ∧ ((v3 < -1000 ∨ 1000 < v3) ∨ zA v3.toInt 1000)) := by
  rcases rz_a1 v1 (n := nf) (by omega) with h | ⟨f, hf, e⟩
  · exact Or.inl h
  · refine Or.inr ⟨f, hf, e, ?_⟩
    by_cases h1 : v2 < 0
    · exact Or.inl (Or.inl h1)
    · by_cases h2 : 3 < v2
      · exact Or.inl (Or.inr h2)
      · obtain ⟨κ, hκ, e2⟩ := rz_k4 h1 h2
        refine Or.inr ⟨κ, hκ, e2, ?_⟩
        by_cases h3 : v3 < -1000
        · exact Or.inl (Or.inl h3)
        · by_cases h4 : 1000 < v3
          · exact Or.inl (Or.inr h4)
          · exact Or.inr (rz_1000 h3 h4)
theorem rz_n1000 {p : Int32} (h : zA p.toInt 1000) : ¬ p < -1000 ∧ ¬ 1000 < p := by
  have h1 := h.1
  have h2 := h.2
  rw [Int32.lt_iff_toInt_lt, Int32.lt_iff_toInt_lt, show (-1000 : Int32).toInt = -1000 from by decide, show (1000 : Int32).toInt = 1000 from by decide]
  omega
theorem rz_nk {κ : Nat} (h : κ < 4) : ¬ nI κ < 0 ∧ ¬ (3 : Int32) < nI κ := ⟨nI_pos (by omega), nI_nlt (a := 3) (by omega) (by omega)⟩
section
variable {nf : Nat}
variable {xv xmf xmb xml xbo xol xst xps xcc xho xrc xof xos xcr : Int32} {xpd xto xon xod xde xsp xsq xlp xlq xpn xpe : Int64} {xco xbf xbk xbv xbl xke xro xba xnb : Nat → Int32} {xpp xpq xmu xcf xrv xrd xta : Nat → Int64}
theorem xw_tb1 {post : Int32 → Prop} {v1 v2 v3 : Int32} (h : v1 < 0 ∨ nI nf ≤ v1) (K : post (-10001)) : wpX_testBound post (xv, xmf, xmb, xml, nI nf, xbo, xol, xst, xpd, xps, xcc, xto, xho, xon, xod, xrc, xof, xos, xde, xcr, xsp, xsq, xlp, xlq, xpn, xpe, xco, xbf, xbk, xbv, xbl, xpp, xpq, xmu, xke, xcf, xrv, xrd, xro, xta, xba, xnb) v1 v2 v3 := by
  unfold wpX_testBound
  exact xw_fxN h (br_t rfl K)
theorem xw_tb2 {post : Int32 → Prop} {f : Nat} {v2 v3 : Int32} (hn : nf ≤ 9) (hf : f < nf) (h : v2 < 0 ∨ 3 < v2) (K : post (-10002)) : wpX_testBound post (xv, xmf, xmb, xml, nI nf, xbo, xol, xst, xpd, xps, xcc, xto, xho, xon, xod, xrc, xof, xos, xde, xcr, xsp, xsq, xlp, xlq, xpn, xpe, xco, xbf, xbk, xbv, xbl, xpp, xpq, xmu, xke, xcf, xrv, xrd, xro, xta, xba, xnb) (nI f) v2 v3 := by
  unfold wpX_testBound
  exact xw_fxY hn hf (br_f (by decide) (xw_ir (fun _ => br_t rfl K) (fun a b => absurd h (fun z => z.elim a b))))
theorem xw_tb3 {post : Int32 → Prop} {f κ : Nat} {v3 : Int32} (hn : nf ≤ 9) (hf : f < nf) (hκ : κ < 4) (h : v3 < -1000 ∨ 1000 < v3) (K : post (-10003)) : wpX_testBound post (xv, xmf, xmb, xml, nI nf, xbo, xol, xst, xpd, xps, xcc, xto, xho, xon, xod, xrc, xof, xos, xde, xcr, xsp, xsq, xlp, xlq, xpn, xpe, xco, xbf, xbk, xbv, xbl, xpp, xpq, xmu, xke, xcf, xrv, xrd, xro, xta, xba, xnb) (nI f) (nI κ) v3 := by
  unfold wpX_testBound
  refine xw_fxY hn hf (br_f (by decide) (xw_ir (fun z => absurd z (fun w => w.elim (rz_nk hκ).1 (rz_nk hκ).2)) (fun _ _ => br_f (by decide) (xw_ir (fun _ => br_t rfl K) (fun a b => absurd h (fun z => z.elim a b))))))
theorem xw_tb4 {post : Int32 → Prop} {f κ : Nat} {v3 : Int32} (hn : nf ≤ 9) (hf : f < nf) (hκ : κ < 4) (h : zA v3.toInt 1000) (K : post 0) : wpX_testBound post (xv, xmf, xmb, xml, nI nf, xbo, xol, xst, xpd, xps, xcc, xto, xho, xon, xod, xrc, xof, xos, xde, xcr, xsp, xsq, xlp, xlq, xpn, xpe, xco, xbf, xbk, xbv, xbl, xpp, xpq, xmu, xke, xcf, xrv, xrd, xro, xta, xba, xnb) (nI f) (nI κ) v3 := by
  unfold wpX_testBound
  refine xw_fxY hn hf (br_f (by decide) (xw_ir (fun z => absurd z (fun w => w.elim (rz_nk hκ).1 (rz_nk hκ).2)) (fun _ _ => br_f (by decide) (xw_ir (fun z => absurd z (fun w => w.elim (rz_n1000 h).1 (rz_n1000 h).2)) (fun _ _ => br_f (by decide) K)))))
end
/-- the same tests in the reference -/
theorem yw_tb1 {P1 B : Prop} {p0 : Int32} {nf : Nat} (h : p0 < 0 ∨ nI nf ≤ p0) (K : P1) : (p0 < 0 → P1) ∧ (¬ p0 < 0 → ((p0 < nI nf → B) ∧ (¬ p0 < nI nf → P1))) := br_c (fun _ => K) (fun n => br_f (rz_nl (h.resolve_left n)) K)
theorem yw_tb2 {P1 B : Prop} {f nf : Nat} (hn : nf ≤ 9) (hf : f < nf) (K : B) : (nI f < 0 → P1) ∧ (¬ nI f < 0 → ((nI f < nI nf → B) ∧ (¬ nI f < nI nf → P1))) := br_f (nI_pos (by omega)) (br_t (nI_lt hf (by omega)) K)
theorem rh_B1 {nf n f κ : Nat} {F K W : Nat → Int32} {z : Int32} (h : rh_B nf n F K W) (hn : n < 10) (hf : f < nf) (h9 : nf ≤ 9) (hκ : κ < 4) (hz : zA z.toInt 1000) : rh_B nf (n + 1) (upd F n (nI f)) (upd K n (nI κ)) (upd W n z) := by
  refine ⟨by omega, fun j hj => ?_⟩
  unfold rh_N
  by_cases e : j = n
  · subst e
    rw [pk_us, pk_us, pk_us, nI_clamp (by omega), nI_clamp (by omega)]
    exact ⟨rfl, hf, rfl, hκ, hz⟩
  · rw [pk_un e, pk_un e, pk_un e]
    exact h.2 j (by omega)
theorem i_vc_assertBound {k : Nat} {u : SX} {v : SY} (I : i_Rel k u v) (hk : k + 4 ≤ 2052) (v1 : Int32) (v2 : Int32) (v3 : Int32) : wpX_assertBound (fun r u' => wpY_assertBound (fun r' v' => r' = r ∧ i_Rel (k + 4) u' v') v v1 v2 v3) u v1 v2 v3 := by
  refine zz_el (P := fun u v => wpX_assertBound (fun r u' => wpY_assertBound (fun r' v' => r' = r ∧ i_Rel (k + 4) u' v') v v1 v2 v3) u v1 v2 v3) I ?_
  intro v nf n mf mb ml ol of σ xst xpd xps xcc xto xho xon xod xrc xde xcr xsp xsq xlp xlq xpn xpe xco xbf xbk xbv xbl xpp xpq xmu xke xcf xrv xrd xro xta xba xnb yon yod yrs yke yrw ypt ypi ywe ymu q
  have R := zz_in (k := k + 4) (xrc := xrc) (xde := xde) (xcr := xcr) (xsp := xsp) (xsq := xsq) (xlp := xlp) (xlq := xlq) (xpn := xpn) (xpe := xpe) (xbl := xbl) (xke := xke) (xcf := xcf) (xrv := xrv) (xrd := xrd) (xro := xro) (xta := xta) (xba := xba) (xnb := xnb) (yrs := yrs) (yke := yke) (yrw := yrw) (ypt := ypt) (ypi := ypi) (ywe := ywe) (ymu := ymu) q
  obtain ⟨q1, q2, q3, ⟨a1, a2, a3, a4, a5, a6, a7, a8⟩, q5, q6⟩ := q
  have h9 := q1.2.2.2.1
  unfold wpX_assertBound
  rcases rz_tb v1 v2 v3 h9 with h | ⟨f, hf, rfl, h | ⟨κ, hκ, rfl, h | h⟩⟩
  · exact xw_tb1 h (br_f (by decide) (yw_tb1 h ⟨rfl, R⟩))
  · exact xw_tb2 h9 hf h (br_f (by decide) (yw_tb2 h9 hf (rz_irL h ⟨rfl, R⟩)))
  · exact xw_tb3 h9 hf hκ h (br_f (by decide) (yw_tb2 h9 hf (rz_irT (rz_nk hκ).1 (rz_nk hκ).2 (rz_irL h ⟨rfl, R⟩))))
  · refine xw_tb4 h9 hf hκ h (br_t rfl ?_)
    by_cases hb : n < mb
    · have hx : vp_in (nI n) 10 := vp_in_nI (by omega) (by omega)
      refine br_t (nI_lt hb (by omega)) (And.intro hx ?_)
      rw [nI_clamp (show n < 2 ^ 31 by omega)]
      refine nm_e (And.intro hx (nm_e (And.intro hx (nm_e (And.intro hx (nm_e (nm_r (nI_1 n) ?_)))))))
      refine yw_tb2 h9 hf (rz_irT (rz_nk hκ).1 (rz_nk hκ).2 (rz_irT (rz_n1000 h).1 (rz_n1000 h).2 (br_t (nI_lt hb (by omega)) (And.intro hx ?_))))
      rw [nI_clamp (show n < 2 ^ 31 by omega)]
      refine nm_e (And.intro hx (nm_e (And.intro hx (nm_e (And.intro hx (nm_e (nm_r (nI_1 n) ?_)))))))
      exact ⟨nI_pred n, zz_in ⟨q1, q2, rh_B1 q3 (by omega) hf h9 hκ h, ⟨a1, a2, a3, by omega, a5, a6, a7, a8⟩, Or.inl rfl, Or.inl ⟨rfl, rfl, rfl⟩⟩⟩
    · refine br_f (nI_nlt (by omega) (by omega)) ?_
      exact yw_tb2 h9 hf (rz_irT (rz_nk hκ).1 (rz_nk hκ).2 (rz_irT (rz_n1000 h).1 (rz_n1000 h).2 (br_f (nI_nlt (by omega) (by omega)) ⟨rfl, R⟩)))
/-! a new form leaves the bounds as they are -/
def rz_ag (nf : Nat) (C C' : Nat → Int32) : Prop := ∀ f, f < nf → ∀ i, i < 3 → C' (3 * f + i) = C (3 * f + i)
section
variable {nf n : Nat} {C C' F K W : Nat → Int32}
theorem rz_bA (h : rz_ag nf C C') (hB : rh_B nf n F K W) {j : Nat} (hj : j < n) : rh_bA C' F K j = rh_bA C F K j := by
  unfold rh_bA
  funext i
  unfold rh_a
  by_cases c : i < 3
  · rw [if_pos c, if_pos c, h _ (hB.2 j hj).2.1 i c]
  · rw [if_neg c, if_neg c]
theorem rz_ft (h : rz_ag nf C C') (hB : rh_B nf n F K W) (p : Nat → Bool) : rm_ft n C' F K W p ↔ rm_ft n C F K W p := by
  constructor
  · rintro ⟨x, d, h1, h2⟩
    exact ⟨x, d, h1, fun j hj hp => by have := h2 j hj hp; rwa [rz_bA h hB hj] at this⟩
  · rintro ⟨x, d, h1, h2⟩
    exact ⟨x, d, h1, fun j hj hp => by rw [rz_bA h hB hj]; exact h2 j hj hp⟩
theorem rz_co (h : rz_ag nf C C') (hB : rh_B nf n F K W) : ∀ d, rm_co n C' F K W d = rm_co n C F K W d := by
  intro d
  induction d with
  | zero => rfl
  | succ d ih =>
    by_cases c : rm_ft n C F K W (rm_rm (rm_co n C F K W d) (n - 1 - d))
    · rw [rm_coT c, rm_coT (by rw [ih, rz_ft h hB]; exact c), ih]
    · rw [rm_coF c, rm_coF (by rw [ih, rz_ft h hB]; exact c), ih]
theorem rz_L (h : rz_ag nf C C') (hB : rh_B nf n F K W) {p : Nat → Bool} {A : Nat → Nat → Int} {V Q : Nat → Int} (hL : rh_L p n C F K W A V Q) : rh_L p n C' F K W A V Q := by
  intro j hj hp
  rw [rz_bA h hB hj]
  exact hL j hj hp
theorem rz_M (h : rz_ag nf C C') (hB : rh_B nf n F K W) {p : Nat → Bool} {z : Nat → Int} (hM : rn_M n C F K W p z) : rn_M n C' F K W p z := by
  obtain ⟨m1, m2, m3, m4, m5, A, V, Q, m6, m7⟩ := hM
  refine ⟨m1, m2, m3, fun l hl => ?_, m5, A, V, Q, rz_L h hB m6, m7⟩
  refine Eq.trans (rf_smC n (fun j hj => ?_)) (m4 l hl)
  rw [rz_bA h hB hj]
theorem rz_hold (h : rz_ag nf C C') (hB : rh_B nf n F K W) {PV PQ : Nat → Int} {D t : Int} : rh_hold n C' F K W PV PQ D t ↔ rh_hold n C F K W PV PQ D t := by
  have e : ∀ j, j < n → rh_ex C' F K W PV PQ D t j = rh_ex C F K W PV PQ D t j := by
    intro j hj
    unfold rh_ex
    rw [rz_bA h hB hj]
  constructor
  · intro q j hj
    rw [← e j hj]; exact q j hj
  · intro q j hj
    rw [e j hj]; exact q j hj
theorem rz_st1 (h : rz_ag nf C C') (hB : rh_B nf n F K W) {xps : Int32} {xpd : Int64} {xpp xpq : Nat → Int64} (q : rz_1 n C F K W xps xpd xpp xpq) : rz_1 n C' F K W xps xpd xpp xpq := by
  obtain ⟨PV, PQ, D, k, h1, ⟨A, V, Q, h2, h3⟩, h4, h5⟩ := q
  refine ⟨PV, PQ, D, k, h1, ⟨A, V, Q, rz_L h hB h2, h3⟩, h4, h5.1, fun i hi => ?_, fun hk => ?_⟩
  · show ¬ rh_hold n C' F K W PV PQ D (rh_t i)
    rw [rz_hold h hB]; exact h5.2.1 i hi
  · show rh_hold n C' F K W PV PQ D (rh_t k)
    rw [rz_hold h hB]; exact h5.2.2 hk
theorem rz_st2 (h : rz_ag nf C C') (hB : rh_B nf n F K W) {xcc : Int32} {xto : Int64} {xmu : Nat → Int64} (q : rz_2 n C F K W xcc xto xmu) : rz_2 n C' F K W xcc xto xmu := by
  obtain ⟨z, h1, h2, h3, h4⟩ := q
  refine ⟨z, ?_, h2, ?_, h4⟩
  · rw [rz_co h hB]; exact rz_M h hB h1
  · rw [rz_co h hB]; exact h3
theorem rz_nw {v : Nat} {v1 v2 v3 : Int32} (hC : rh_C v nf C) (hU : rh_U v C) (h9 : nf < 9) (b1 : zA v1.toInt 20) (b2 : zA v2.toInt 20) (b3 : zA v3.toInt 20) (z2 : v < 2 → v2 = 0) (z3 : v < 3 → v3 = 0) :
    rz_ag nf C (upd (upd (upd C (3 * nf) v1) (3 * nf + 1) v2) (3 * nf + 2) v3) ∧ rh_C v (nf + 1) (upd (upd (upd C (3 * nf) v1) (3 * nf + 1) v2) (3 * nf + 2) v3) ∧ rh_U v (upd (upd (upd C (3 * nf) v1) (3 * nf + 1) v2) (3 * nf + 2) v3) := by
  have ag : rz_ag nf C (upd (upd (upd C (3 * nf) v1) (3 * nf + 1) v2) (3 * nf + 2) v3) := by
    intro f hf i hi
    rw [pk_un (by omega), pk_un (by omega), pk_un (by omega)]
  refine ⟨ag, ⟨hC.1, hC.2.1, by have := hC.2.2.1; omega, by omega, fun f hf i hi => ?_⟩, fun i hi l hl => ?_⟩
  · by_cases e : f = nf
    · subst e
      rcases rb_lt3 hi with rfl | rfl | rfl
      · rw [pk_un (by omega), pk_un (by omega), show 3 * f + 0 = 3 * f from rfl, pk_us]
        exact ⟨b1, fun z => by have := hC.1; omega⟩
      · rw [pk_un (by omega), pk_us]
        exact ⟨b2, fun z => by rw [z2 (by omega)]; rfl⟩
      · rw [pk_us]
        exact ⟨b3, fun z => by rw [z3 (by omega)]; rfl⟩
    · rw [ag f (by omega) i hi]
      exact hC.2.2.2.2 f (by omega) i hi
  · rw [ag i (by have := hC.2.2.1; omega) l hl]
    exact hU i hi l hl
end
theorem i_vc_defineForm {k : Nat} {u : SX} {v : SY} (I : i_Rel k u v) (hk : k + 4 ≤ 2052) (v1 : Int32) (v2 : Int32) (v3 : Int32) : wpX_defineForm (fun r u' => wpY_defineForm (fun r' v' => r' = r ∧ i_Rel (k + 4) u' v') v v1 v2 v3) u v1 v2 v3 := by
  refine zz_el (P := fun u v => wpX_defineForm (fun r u' => wpY_defineForm (fun r' v' => r' = r ∧ i_Rel (k + 4) u' v') v v1 v2 v3) u v1 v2 v3) I ?_
  intro v nf n mf mb ml ol of σ xst xpd xps xcc xto xho xon xod xrc xde xcr xsp xsq xlp xlq xpn xpe xco xbf xbk xbv xbl xpp xpq xmu xke xcf xrv xrd xro xta xba xnb yon yod yrs yke yrw ypt ypi ywe ymu q
  have R := zz_in (k := k + 4) (xrc := xrc) (xde := xde) (xcr := xcr) (xsp := xsp) (xsq := xsq) (xlp := xlp) (xlq := xlq) (xpn := xpn) (xpe := xpe) (xbl := xbl) (xke := xke) (xcf := xcf) (xrv := xrv) (xrd := xrd) (xro := xro) (xta := xta) (xba := xba) (xnb := xnb) (yrs := yrs) (yke := yke) (yrw := yrw) (ypt := ypt) (ypi := ypi) (ywe := ywe) (ymu := ymu) q
  obtain ⟨q1, q2, q3, ⟨a1, a2, a3, a4, a5, a6, a7, a8⟩, q5, q6⟩ := q
  have h9 := q1.2.2.2.1
  have hv := q1.2.1
  have hvn := q1.2.2.1
  unfold wpX_defineForm
  refine xw_ir (fun h => br_t rfl (rz_irY h ⟨rfl, R⟩)) (fun h1 h2 => br_f (by decide) ?_)
  refine xw_ir (fun h => br_t rfl (br_f h1 (br_f h2 (rz_irY h ⟨rfl, R⟩)))) (fun h3 h4 => br_f (by decide) ?_)
  refine xw_ir (fun h => br_t rfl (br_f h1 (br_f h2 (br_f h3 (br_f h4 (rz_irL h ⟨rfl, R⟩)))))) (fun h5 h6 => br_f (by decide) ?_)
  have pre : ∀ {A B : Prop}, B → (v1 < -20 → A) ∧ (¬ v1 < -20 → ((20 < v1 → A) ∧ (¬ 20 < v1 → ((v2 < -20 → A) ∧ (¬ v2 < -20 → ((20 < v2 → A) ∧ (¬ 20 < v2 → ((v3 < -20 → A) ∧ (¬ v3 < -20 → ((v3 ≤ 20 → B) ∧ (¬ v3 ≤ 20 → A))))))))))) := fun b => br_f h1 (br_f h2 (br_f h3 (br_f h4 (rz_irT h5 h6 b))))
  have last : (v < 2 → v2 = 0) → (v < 3 → v3 = 0) → wX_defineForm_72 (fun r u' => wpY_defineForm (fun r' v' => r' = r ∧ i_Rel (k + 4) u' v') (nI v, nI mf, nI mb, nI ml, nI nf, nI n, nI ol, xst, yon, yod, yrs, xco, xbf, xbk, xbv, xbl, yke, yrw, ypt, ypi, ywe, ymu) v1 v2 v3) v1 v2 v3 (nI v) (nI mf) (nI mb) (nI ml) (nI nf) (nI n) (nI ol) xst xpd xps xcc xto xho xon xod xrc (nI of) (zI σ) xde xcr xsp xsq xlp xlq xpn xpe xco xbf xbk xbv xbl xpp xpq xmu xke xcf xrv xrd xro xta xba xnb := by
    intro z2 z3
    have yv : wY_defineForm_72 (fun r' v' => True) v1 v2 v3 (nI v) (nI mf) (nI mb) (nI ml) (nI nf) (nI n) (nI ol) xst yon yod yrs xco xbf xbk xbv xbl yke yrw ypt ypi ywe ymu → True := fun _ => trivial
    have yto : ∀ post : Int32 → SY → Prop, wY_defineForm_72 post v1 v2 v3 (nI v) (nI mf) (nI mb) (nI ml) (nI nf) (nI n) (nI ol) xst yon yod yrs xco xbf xbk xbv xbl yke yrw ypt ypi ywe ymu → wpY_defineForm post (nI v, nI mf, nI mb, nI ml, nI nf, nI n, nI ol, xst, yon, yod, yrs, xco, xbf, xbk, xbv, xbl, yke, yrw, ypt, ypi, ywe, ymu) v1 v2 v3 := by
      intro post K
      have s2 : wY_defineForm_56 post v1 v2 v3 (nI v) (nI mf) (nI mb) (nI ml) (nI nf) (nI n) (nI ol) xst yon yod yrs xco xbf xbk xbv xbl yke yrw ypt ypi ywe ymu := by
        unfold wY_defineForm_56
        by_cases w : 3 ≤ v
        · exact br_t (nI_le (a := 3) w (by omega)) K
        · exact br_f (nI_ge (b := 3) (by omega) (by omega)) (br_t (z3 (by omega)) K)
      refine pre ?_
      by_cases w : 2 ≤ v
      · exact br_t (nI_le (a := 2) w (by omega)) s2
      · exact br_f (nI_ge (b := 2) (by omega) (by omega)) (br_t (z2 (by omega)) s2)
    have fin : wX_defineForm_88 (fun r u' => wY_defineForm_88 (fun r' v' => r' = r ∧ i_Rel (k + 4) u' v') v1 v2 v3 (nI v) (nI mf) (nI mb) (nI ml) (nI nf) (nI n) (nI ol) xst yon yod yrs xco xbf xbk xbv xbl yke yrw ypt ypi ywe ymu) v1 v2 v3 (nI v) (nI mf) (nI mb) (nI ml) (nI nf) (nI n) (nI ol) xst xpd xps xcc xto xho xon xod xrc (nI of) (zI σ) xde xcr xsp xsq xlp xlq xpn xpe xco xbf xbk xbv xbl xpp xpq xmu xke xcf xrv xrd xro xta xba xnb := by
      unfold wX_defineForm_88 wY_defineForm_88
      rw [pk_sub hvn]
      by_cases w : nf - v < mf
      · have i0 : vp_in (3 * nI nf) 27 := by
          rw [show (3 : Int32) = nI 3 from rfl, pk_mul]; exact vp_in_nI (by omega) (by omega)
        have c0 : (3 * nI nf).toNatClampNeg = 3 * nf := by
          rw [show (3 : Int32) = nI 3 from rfl, pk_mul]; exact nI_clamp (by omega)
        have i1 : vp_in (3 * nI nf + 1) 27 := xw_in (i := 1) (by omega) (by omega)
        have c1 : (3 * nI nf + 1).toNatClampNeg = 3 * nf + 1 := xw_cl (i := 1) (by omega)
        have i2 : vp_in (3 * nI nf + 2) 27 := xw_in (i := 2) (by omega) (by omega)
        have c2 : (3 * nI nf + 2).toNatClampNeg = 3 * nf + 2 := xw_cl (i := 2) (by omega)
        rw [c0, c1, c2]
        obtain ⟨ag, nC, nU⟩ := rz_nw q1 q2 (by omega) (rz_20 h1 h2) (rz_20 h3 h4) (rz_20 h5 h6) z2 z3
        refine br_t (nI_lt w (by omega)) (And.intro i0 (nm_e (And.intro i1 (nm_e (And.intro i2 (nm_e (nm_r (nI_1 nf) ?_)))))))
        refine br_t (nI_lt w (by omega)) (And.intro i0 (nm_e (And.intro i1 (nm_e (And.intro i2 (nm_e (nm_r (nI_1 nf) ?_)))))))
        refine ⟨nI_pred nf, zz_in ⟨nC, nU, ⟨q3.1, fun j hj => ?_⟩, ⟨a1, by omega, a3, a4, a5, a6, by omega, a8⟩, ?_, q6⟩⟩
        · obtain ⟨b1, b2, b3, b4, b5⟩ := q3.2 j hj
          exact ⟨b1, by omega, b3, b4, b5⟩
        · rcases q5 with s | ⟨s, s1⟩ | ⟨s, s1⟩
          · exact Or.inl s
          · exact Or.inr (Or.inl ⟨s, rz_st1 ag q3 s1⟩)
          · exact Or.inr (Or.inr ⟨s, rz_st2 ag q3 s1⟩)
      · exact br_f (nI_nlt (by omega) (by omega)) (br_f (nI_nlt (by omega) (by omega)) ⟨rfl, R⟩)
    unfold wX_defineForm_72
    have mono : ∀ {Pa Pb : Int32 → SX → Prop}, (∀ r u', Pa r u' → Pb r u') → wX_defineForm_88 Pa v1 v2 v3 (nI v) (nI mf) (nI mb) (nI ml) (nI nf) (nI n) (nI ol) xst xpd xps xcc xto xho xon xod xrc (nI of) (zI σ) xde xcr xsp xsq xlp xlq xpn xpe xco xbf xbk xbv xbl xpp xpq xmu xke xcf xrv xrd xro xta xba xnb → wX_defineForm_88 Pb v1 v2 v3 (nI v) (nI mf) (nI mb) (nI ml) (nI nf) (nI n) (nI ol) xst xpd xps xcc xto xho xon xod xrc (nI of) (zI σ) xde xcr xsp xsq xlp xlq xpn xpe xco xbf xbk xbv xbl xpp xpq xmu xke xcf xrv xrd xro xta xba xnb := by
      intro Pa Pb h z
      unfold wX_defineForm_88 at *
      refine ⟨fun c => ?_, fun c => h _ _ (z.2 c)⟩
      obtain ⟨y0, y1⟩ := z.1 c
      refine ⟨y0, fun a ea => ?_⟩
      obtain ⟨y2, y3⟩ := y1 a ea
      refine ⟨y2, fun b eb => ?_⟩
      obtain ⟨y4, y5⟩ := y3 b eb
      exact ⟨y4, fun d ed f ef => h _ _ (y5 d ed f ef)⟩
    by_cases e1 : v1 = 0
    · by_cases e2 : v2 = 0
      · by_cases e3 : v3 = 0
        · exact br_t e1 (br_t e2 (br_t e3 (yto _ (br_t e1 (br_t e2 (br_t e3 ⟨rfl, R⟩))))))
        · exact br_t e1 (br_t e2 (br_f e3 (mono (fun r u' h => yto _ (br_t e1 (br_t e2 (br_f e3 h)))) fin)))
      · exact br_t e1 (br_f e2 (mono (fun r u' h => yto _ (br_t e1 (br_f e2 h))) fin))
    · exact br_f e1 (mono (fun r u' h => yto _ (br_f e1 h)) fin)
  have mid : (v < 2 → v2 = 0) → wX_defineForm_56 (fun r u' => wpY_defineForm (fun r' v' => r' = r ∧ i_Rel (k + 4) u' v') (nI v, nI mf, nI mb, nI ml, nI nf, nI n, nI ol, xst, yon, yod, yrs, xco, xbf, xbk, xbv, xbl, yke, yrw, ypt, ypi, ywe, ymu) v1 v2 v3) v1 v2 v3 (nI v) (nI mf) (nI mb) (nI ml) (nI nf) (nI n) (nI ol) xst xpd xps xcc xto xho xon xod xrc (nI of) (zI σ) xde xcr xsp xsq xlp xlq xpn xpe xco xbf xbk xbv xbl xpp xpq xmu xke xcf xrv xrd xro xta xba xnb := by
    intro z2
    unfold wX_defineForm_56
    by_cases w : 3 ≤ v
    · exact br_t (nI_le (a := 3) w (by omega)) (last z2 (fun z => by omega))
    · refine br_f (nI_ge (b := 3) (by omega) (by omega)) (br_c (fun e3 => last z2 (fun _ => e3)) (fun e3 => ?_))
      have bad : wY_defineForm_56 (fun r' v' => r' = (-10003 : Int32) ∧ i_Rel (k + 4) (nI v, nI mf, nI mb, nI ml, nI nf, nI n, nI ol, xst, xpd, xps, xcc, xto, xho, xon, xod, xrc, nI of, zI σ, xde, xcr, xsp, xsq, xlp, xlq, xpn, xpe, xco, xbf, xbk, xbv, xbl, xpp, xpq, xmu, xke, xcf, xrv, xrd, xro, xta, xba, xnb) v') v1 v2 v3 (nI v) (nI mf) (nI mb) (nI ml) (nI nf) (nI n) (nI ol) xst yon yod yrs xco xbf xbk xbv xbl yke yrw ypt ypi ywe ymu := br_f (nI_ge (b := 3) (by omega) (by omega)) (br_f e3 ⟨rfl, R⟩)
      refine pre ?_
      by_cases w2 : 2 ≤ v
      · exact br_t (nI_le (a := 2) w2 (by omega)) bad
      · exact br_f (nI_ge (b := 2) (by omega) (by omega)) (br_t (z2 (by omega)) bad)
  by_cases w : 2 ≤ v
  · exact br_t (nI_le (a := 2) w (by omega)) (mid (fun z => by omega))
  · refine br_f (nI_ge (b := 2) (by omega) (by omega)) (br_c (fun e2 => mid (fun _ => e2)) (fun e2 => ?_))
    exact pre (br_f (nI_ge (b := 2) (by omega) (by omega)) (br_f e2 ⟨rfl, R⟩))
end
section
/-! check -/
theorem rz_m1 {j : Nat} (h : j < 2 ^ 31) : nI j ≠ -1 := by
  intro e
  have : nI j < 0 := by rw [e]; decide
  exact nI_pos h this
theorem i_vc_check {k : Nat} {u : SX} {v : SY} (I : i_Rel k u v) (hk : k + 4 ≤ 2052) : wpX_check (fun r u' => wpY_check (fun r' v' => r' = r ∧ i_Rel (k + 4) u' v') v) u := by
  refine zz_el (P := fun u v => wpX_check (fun r u' => wpY_check (fun r' v' => r' = r ∧ i_Rel (k + 4) u' v') v) u) I ?_
  intro v nf n mf mb ml ol of σ xst xpd xps xcc xto xho xon xod xrc xde xcr xsp xsq xlp xlq xpn xpe xco xbf xbk xbv xbl xpp xpq xmu xke xcf xrv xrd xro xta xba xnb yon yod yrs yke yrw ypt ypi ywe ymu q
  have R := zz_in (k := k + 4) (xrc := xrc) (xde := xde) (xcr := xcr) (xsp := xsp) (xsq := xsq) (xlp := xlp) (xlq := xlq) (xpn := xpn) (xpe := xpe) (xbl := xbl) (xke := xke) (xcf := xcf) (xrv := xrv) (xrd := xrd) (xro := xro) (xta := xta) (xba := xba) (xnb := xnb) (yrs := yrs) (yke := yke) (yrw := yrw) (ypt := ypt) (ypi := ypi) (ywe := ywe) (ymu := ymu) q
  obtain ⟨hC, hU, hB, ⟨a1, a2, a3, a4, a5, a6, a7, a8⟩, q5, q6⟩ := q
  have hn := hB.1
  rcases q5 with s | ⟨s, s1⟩ | ⟨s, s1⟩
  · subst s
    have hle := rh_nle (fun _ => true) n
    unfold wpX_check
    refine br_t rfl (xw_la (p := fun _ => true) hC hB (fun j hj => ⟨fun _ => rz_m1 (by omega), fun _ => rfl⟩) (fun A V Q xke xcf xrv xrd xro hk1 hLd hL hO => ?_))
    refine xw_ffk (p := fun _ => true) hC a7 a8 hLd hL (fun nb bs xde xta xba xnb xsp xsq xlp xlq hT hF hft => br_f (by decide) ?_) (fun nb bs xde xta xba xnb xsp xsq xlp xlq r hT hX hnf => br_t rfl ?_)
    · have hf : ∃ x d, rf_in (rh_n (fun _ => true) n) A (rg_b V Q) x d := by
        obtain ⟨x, d, h⟩ := hft
        exact ⟨x, d, (rm_feL hL x d).mpr h⟩
      refine xw_lp hC hU hLd (by omega) hf a7 a8 (fun m' of' σ' xde xcr xsp xsq xlp xlq xpd xpp xpq xcf xrv xrd xro xta xba xnb hof hσ hP => ?_)
      obtain ⟨PV, PQ, D, p1, p2, p3, p4, p5, p6, p7⟩ := hP
      have hpa : rh_pa PV PQ D xpd xpp xpq := ⟨p1, p2, p3, p4⟩
      refine xw_fs hC hB hpa (fun kk hls => ?_)
      refine br_t rfl (yw_pt hC hB (fun A' V' Q' yke yrw ypt PV' PQ' D' _ _ _ _ _ => br_f (by decide) ?_) (fun yke yrw ypt h => absurd hft h))
      exact ⟨rfl, zz_in ⟨hC, hU, hB, ⟨a1, a2, a3, a4, a5, a6, hof, hσ⟩, Or.inr (Or.inl ⟨rfl, PV, PQ, D, kk, hpa, ⟨A, V, Q, hL, p5, p6, p7⟩, rfl, hls⟩), q6⟩⟩
    · refine xw_ec hC hB a7 a8 hnf (fun z xrc xde xcr xsp xsq xlp xlq xmu xke xcf xrv xrd xro xta xba xnb hM hz => ?_)
      refine br_t rfl (yw_pt hC hB (fun A' V' Q' yke yrw ypt PV' PQ' D' h _ _ _ _ => absurd h hnf) (fun yke yrw ypt h => br_t rfl ?_))
      exact ⟨rfl, zz_in ⟨hC, hU, hB, ⟨a1, a2, a3, a4, a5, a6, a7, a8⟩, Or.inr (Or.inr ⟨rfl, z, hM, hz, rfl, rfl⟩), q6⟩⟩
  · subst s
    exact br_f (by decide) (br_f (by decide) ⟨rfl, R⟩)
  · subst s
    exact br_f (by decide) (br_f (by decide) ⟨rfl, R⟩)
end
section
/-! the two sides hold the same point -/
theorem rz_eq {n : Nat} {C F K W : Nat → Int32} {PV PQ PV' PQ' : Nat → Int} {D D' : Int} {A' : Nat → Nat → Int} {V' Q' : Nat → Int} (hm : rh_n (fun _ => true) n ≤ 13) (hx : rz_p n C F K W PV PQ D) (hb : ∀ i, i < 3 → zA (PV i) 144000000 ∧ zA (PQ i) 144000) (hD : 0 < D ∧ D ≤ 48000) (hL' : rh_L (fun _ => true) n C F K W A' V' Q') (hbb : yq_b PV' PQ' D') (hbest : rs_best (rh_n (fun _ => true) n) (yq_RP (rh_n (fun _ => true) n) A' V' Q') rf_bt PV' PQ' D') :
    ∀ i, i < 3 → PV i * D' = PV' i * D ∧ PQ i * D' = PQ' i * D := by
  obtain ⟨A, V, Q, hL, ⟨nb, cor⟩, hin, canon⟩ := hx
  obtain ⟨a, b, c, ok, e1, e2, e3, nb2⟩ := hbest
  have same := rs_same hL hL'
  have cor' : rf_cor (rf_G A') (rf_L (rg_b V' Q')) (3 + rh_n (fun _ => true) n) nb (rh_x PV PQ) D := by
    refine rs_corT (fun r hr => ⟨(same r hr).1, ?_⟩) cor
    unfold rg_b
    rw [(same r hr).2.1, (same r hr).2.2]
  have hin' : rf_in (rh_n (fun _ => true) n) A' (rg_b V' Q') (rh_x PV PQ) D := (rm_feL hL' _ _).mpr ((rm_feL hL _ _).mp hin)
  obtain ⟨i, j, k, ok2, key⟩ := yq_of cor' hin'
  have d2 : 0 < yq_D (yq_RP (rh_n (fun _ => true) n) A' V' Q') i j k := rb_sgp ok2.2.2.2.1
  have dp : 0 < D' := hbb.2.1
  have nbt : ¬ rf_bt (rh_x PV PQ) D (rh_x PV' PQ') D' := by
    intro z
    refine nb2 i j k ok2 (rf_btS hD.1 d2 dp (fun l hl => ?_) z)
    have := key (rb_e l)
    rw [rb_dote hl, rb_dote hl] at this
    rw [Int.mul_comm, this, Int.mul_comm]
  have hy : rf_in (rh_n (fun _ => true) n) A (rg_b V Q) (rh_x PV' PQ') D' := by
    have := yq_in ok
    rw [e1, e2, e3]
    exact (rm_feL hL _ _).mpr ((rm_feL hL' _ _).mp this)
  have eq := canon _ _ hy nbt
  intro l hl
  have e := eq l hl
  obtain ⟨b1, b2⟩ := hb l hl
  obtain ⟨b3, b4⟩ := hbb.1 l hl
  have zD : zA D 48000 := by unfold zA; omega
  have zD' : zA D' 48000 := by have := hbb.2; unfold zA; omega
  have bQ := zA_w (d := 1000000000000000) (zA_sub (zA_mul b2 zD') (zA_mul b4 zD)) (by omega)
  have k2 : (PV l * D' - PV' l * D) * zM + (PQ l * D' - PQ' l * D) = 0 := by
    unfold rh_x at e
    grind
  obtain ⟨r1, r2⟩ := (zM_eq bQ).mp k2
  exact ⟨by omega, by omega⟩
theorem rz_dot {P P' : Nat → Int} {D D' : Int} (g : Nat → Int) (h : ∀ i, i < 3 → P i * D' = P' i * D) : rb_dot g P * D' = rb_dot g P' * D := by
  have h0 := h 0 (by omega)
  have h1 := h 1 (by omega)
  have h2 := h 2 (by omega)
  unfold rb_dot
  grind
theorem rz_sgn {a b D D' : Int} (hD : 0 < D) (hD' : 0 < D') (h : a * D' = b * D) : (0 ≤ a ↔ 0 ≤ b) ∧ (a = 0 ↔ b = 0) := by
  constructor
  · constructor
    · intro z
      have := Int.mul_nonneg z (Int.le_of_lt hD')
      by_cases q : 0 ≤ b
      · exact q
      · have := Int.mul_neg_of_neg_of_pos (show b < 0 by omega) hD; omega
    · intro z
      have := Int.mul_nonneg z (Int.le_of_lt hD)
      by_cases q : 0 ≤ a
      · exact q
      · have := Int.mul_neg_of_neg_of_pos (show a < 0 by omega) hD'; omega
  · constructor
    · intro z
      rw [z, Int.zero_mul] at h
      rcases Int.mul_eq_zero.mp h.symm with q | q
      · exact q
      · omega
    · intro z
      rw [z, Int.zero_mul] at h
      rcases Int.mul_eq_zero.mp h with q | q
      · exact q
      · omega
theorem rz_hs {n : Nat} {C F K W : Nat → Int32} {PV PQ PV' PQ' : Nat → Int} {D D' : Int} (hD : 0 < D) (hD' : 0 < D') (h : ∀ i, i < 3 → PV i * D' = PV' i * D ∧ PQ i * D' = PQ' i * D) (t : Int) : rh_hold n C F K W PV PQ D t ↔ rh_hold n C F K W PV' PQ' D' t := by
  have e : ∀ j, rh_ex C F K W PV PQ D t j * D' = rh_ex C F K W PV' PQ' D' t j * D := by
    intro j
    have e1 := rz_dot (rh_bA C F K j) (fun i hi => (h i hi).1)
    have e2 := rz_dot (rh_bA C F K j) (fun i hi => (h i hi).2)
    unfold rh_ex
    grind
  constructor
  · intro q j hj
    obtain ⟨s1, s2⟩ := rz_sgn hD hD' (e j)
    exact ⟨s1.mp (q j hj).1, fun z => (q j hj).2 (s2.mpr z)⟩
  · intro q j hj
    obtain ⟨s1, s2⟩ := rz_sgn hD hD' (e j)
    exact ⟨s1.mpr (q j hj).1, fun z => (q j hj).2 (s2.mp z)⟩
theorem rz_lsE {H H' : Nat → Prop} {k k' : Nat} (h : ∀ i, H i ↔ H' i) (a : rh_ls H k) (b : rh_ls H' k') : k = k' := by
  refine rh_ls1 a ⟨b.1, fun i hi z => b.2.1 i hi ((h i).mp z), fun z => (h k').mpr (b.2.2 z)⟩
/-! parts of a value at the point -/
def rz_pn (pt : Nat) (cf PV PQ : Nat → Int) (t : Int) : Int := if pt = 0 then rb_dot cf PV * t + rb_dot cf PQ else if pt = 1 then rb_dot cf PV else rb_dot cf PQ
def rz_pd (pt : Nat) (D t : Int) : Int := if pt = 0 then D * t else D
theorem rz_frE {cf PV PQ PV' PQ' : Nat → Int} {D D' t : Int} (pt : Nat) (h : ∀ i, i < 3 → PV i * D' = PV' i * D ∧ PQ i * D' = PQ' i * D) : rz_pn pt cf PV PQ t * rz_pd pt D' t = rz_pn pt cf PV' PQ' t * rz_pd pt D t := by
  have e1 := rz_dot cf (fun i hi => (h i hi).1)
  have e2 := rz_dot cf (fun i hi => (h i hi).2)
  unfold rz_pn rz_pd
  by_cases c : pt = 0
  · rw [if_pos c, if_pos c, if_pos c, if_pos c]; grind
  · rw [if_neg c, if_neg c, if_neg c, if_neg c]
    by_cases d : pt = 1
    · rw [if_pos d, if_pos d]; exact e1
    · rw [if_neg d, if_neg d]; exact e2
theorem rz_pb {cf PV PQ : Nat → Int} {D t : Int} (pt : Nat) (hc : rb_bd cf 20) (hb : ∀ i, i < 3 → zA (PV i) 144000000 ∧ zA (PQ i) 144000) (hD : 0 < D ∧ D ≤ 48000) (ht : 1 ≤ t ∧ t ≤ 131072) : zA (rz_pn pt cf PV PQ t) 1200000000000000 ∧ 0 < rz_pd pt D t ∧ rz_pd pt D t ≤ 6300000000 ∧ (rz_pn pt cf PV PQ t).natAbs * (rz_pd pt D t).natAbs < 2 ^ 97 := by
  have dV : zA (rb_dot cf PV) 8640000000 := zA_w (zA_add (zA_add (zA_mul (hc 0 (by omega)) (hb 0 (by omega)).1) (zA_mul (hc 1 (by omega)) (hb 1 (by omega)).1)) (zA_mul (hc 2 (by omega)) (hb 2 (by omega)).1)) (by omega)
  have dQ : zA (rb_dot cf PQ) 8640000 := zA_w (zA_add (zA_add (zA_mul (hc 0 (by omega)) (hb 0 (by omega)).2) (zA_mul (hc 1 (by omega)) (hb 1 (by omega)).2)) (zA_mul (hc 2 (by omega)) (hb 2 (by omega)).2)) (by omega)
  have hT : zA t 131072 := by unfold zA; omega
  have zD : zA D 48000 := by unfold zA; omega
  have n1 : zA (rz_pn pt cf PV PQ t) 1200000000000000 := by
    unfold rz_pn
    by_cases c : pt = 0
    · rw [if_pos c]; exact zA_w (zA_add (zA_mul dV hT) dQ) (by omega)
    · rw [if_neg c]
      by_cases d : pt = 1
      · rw [if_pos d]; exact zA_w dV (by omega)
      · rw [if_neg d]; exact zA_w dQ (by omega)
  have d1 : 0 < rz_pd pt D t ∧ rz_pd pt D t ≤ 6300000000 := by
    unfold rz_pd
    by_cases c : pt = 0
    · rw [if_pos c]
      have a := Int.mul_pos hD.1 (show 0 < t by omega)
      have b := (zA_mul zD hT).2
      exact ⟨a, by omega⟩
    · rw [if_neg c]; exact ⟨hD.1, by omega⟩
  refine ⟨n1, d1.1, d1.2, ?_⟩
  have h1 := n1.1
  have h2 := n1.2
  have : (rz_pn pt cf PV PQ t).natAbs * (rz_pd pt D t).natAbs ≤ 1200000000000000 * 6300000000 := Nat.mul_le_mul (by omega) (by omega)
  exact Nat.lt_of_le_of_lt this (by decide)
section
variable {v nf f k pt : Nat} {PV PQ : Nat → Int} {D : Int}
variable {xmf xmb xml xbo xol xcc xho xrc xof xos xcr : Int32} {xpd xto xon xod xde xsp xsq xlp xlq xpn xpe : Int64} {xco xbf xbk xbv xbl xke xro xba xnb : Nat → Int32} {xpp xpq xmu xcf xrv xrd xta : Nat → Int64}
theorem xw_lp42 {post : Int32 → SX → Prop} (hC : rh_C v nf xco) (hP : rh_pa PV PQ D xpd xpp xpq) (hf : f < nf) (hpt : pt < 3) (hk : k ≤ 17)
    (K : post 1 (nI v, xmf, xmb, xml, nI nf, xbo, xol, 1, xpd, nI k, xcc, xto, xho, xon, xod, xrc, xof, xos, xde, xcr, xsp, xsq, xlp, xlq, zL (rk_n (rz_pn pt (fun l => (xco (3 * f + l)).toInt) PV PQ (rh_t k)) (rz_pd pt D (rh_t k))), zL (rk_d (rz_pn pt (fun l => (xco (3 * f + l)).toInt) PV PQ (rh_t k)) (rz_pd pt D (rh_t k))), xco, xbf, xbk, xbv, xbl, xpp, xpq, xmu, xke, xcf, xrv, xrd, xro, xta, xba, xnb)) :
    ∀ d i fu, i + d = v → d < fu → wX_loadPart_42 post (nI f) (nI pt) (nI v) xmf xmb xml (nI nf) xbo xol 1 xpd (nI k) xcc xto xho xon xod xrc xof xos xde xcr xsp xsq xlp xlq xpn xpe xco xbf xbk xbv xbl xpp xpq xmu xke xcf xrv xrd xro xta xba xnb fu (zL (rf_sm (fun l => (xco (3 * f + l)).toInt * PV l) i)) (zL (rf_sm (fun l => (xco (3 * f + l)).toInt * PQ l) i)) (nI i) := by
  have hv := hC.2.1
  have h9 := hC.2.2.2.1
  obtain ⟨eD, hp, hD⟩ := hP
  subst eD
  have hcb : rb_bd (fun l => (xco (3 * f + l)).toInt) 20 := fun l hl => (hC.2.2.2.2 f hf l hl).1
  have pb := rz_pb (cf := fun l => (xco (3 * f + l)).toInt) (t := rh_t k) pt hcb (fun i hi => (hp i hi).2.2) hD (rh_tb hk)
  intro d
  induction d with
  | zero =>
    intro i fu hi hf2
    obtain ⟨fu, rfl⟩ : ∃ n', fu = n' + 1 := ⟨fu - 1, by omega⟩
    have e : i = v := by omega
    subst e
    rw [rf_sm3 hv (fun l l1 l2 => by rw [(hC.2.2.2.2 f hf l l2).2 l1, Int.zero_mul]), rf_sm3 hv (fun l l1 l2 => by rw [(hC.2.2.2.2 f hf l l2).2 l1, Int.zero_mul])]
    refine br_t (nI_le (by omega) (by omega)) ?_
    have cs : pt = 0 ∨ pt = 1 ∨ pt = 2 := by omega
    rcases cs with rfl | rfl | rfl
    · refine br_f (by decide) (br_f (by decide) ?_)
      refine nm_r (rh_shl hk) ?_
      rw [zL_mul, zL_mul, zL_add]
      exact (xw_reduce (n := rz_pn 0 (fun l => (xco (3 * f + l)).toInt) PV PQ (rh_t k)) (d := rz_pd 0 D (rh_t k)) (zA_B pb.1 (by omega)) (by have := pb.2; unfold zB; omega) pb.2.1 pb.2.2.2 K)
    · refine br_t rfl ?_
      exact xw_reduce (n := rz_pn 1 (fun l => (xco (3 * f + l)).toInt) PV PQ (rh_t k)) (d := rz_pd 1 D (rh_t k)) (zA_B pb.1 (by omega)) (by have := pb.2; unfold zB; omega) pb.2.1 pb.2.2.2 K
    · refine br_f (by decide) (br_t rfl ?_)
      exact xw_reduce (n := rz_pn 2 (fun l => (xco (3 * f + l)).toInt) PV PQ (rh_t k)) (d := rz_pd 2 D (rh_t k)) (zA_B pb.1 (by omega)) (by have := pb.2; unfold zB; omega) pb.2.1 pb.2.2.2 K
  | succ d ih =>
    intro i fu hi hf2
    obtain ⟨fu, rfl⟩ : ∃ n', fu = n' + 1 := ⟨fu - 1, by omega⟩
    have hx : vp_in (3 * nI f + nI i) 27 := xw_in (by omega) (by omega)
    have hx3 : vp_in (nI i) 3 := vp_in_nI (by omega) (by omega)
    obtain ⟨p1, p2, _⟩ := hp i (by omega)
    refine br_f (nI_ge (by omega) (by omega)) (And.intro hx (And.intro hx3 ?_))
    rw [xw_cl (show 3 * f + i < 2 ^ 31 by omega), nI_clamp (show i < 2 ^ 31 by omega), p1, p2, show (xco (3 * f + i)).toInt64 = zL (xco (3 * f + i)).toInt by rw [← zI_L (zA_b (hcb i (by omega)) (by omega)), ← zI_of], zL_mul, zL_mul, zL_add, zL_add]
    exact nm_e (And.intro hx (And.intro hx3 (nm_e (nm_r (nI_1 i) (ih (i + 1) fu (by omega) (by omega))))))
theorem xw_lpt {post : Int32 → SX → Prop} (hC : rh_C v nf xco) (hP : rh_pa PV PQ D xpd xpp xpq) (hf : f < nf) (hpt : pt < 3) (hk : k ≤ 17)
    (K : post 1 (nI v, xmf, xmb, xml, nI nf, xbo, xol, 1, xpd, nI k, xcc, xto, xho, xon, xod, xrc, xof, xos, xde, xcr, xsp, xsq, xlp, xlq, zL (rk_n (rz_pn pt (fun l => (xco (3 * f + l)).toInt) PV PQ (rh_t k)) (rz_pd pt D (rh_t k))), zL (rk_d (rz_pn pt (fun l => (xco (3 * f + l)).toInt) PV PQ (rh_t k)) (rz_pd pt D (rh_t k))), xco, xbf, xbk, xbv, xbl, xpp, xpq, xmu, xke, xcf, xrv, xrd, xro, xta, xba, xnb)) : wpX_loadPart post (nI v, xmf, xmb, xml, nI nf, xbo, xol, 1, xpd, nI k, xcc, xto, xho, xon, xod, xrc, xof, xos, xde, xcr, xsp, xsq, xlp, xlq, xpn, xpe, xco, xbf, xbk, xbv, xbl, xpp, xpq, xmu, xke, xcf, xrv, xrd, xro, xta, xba, xnb) (nI f) (nI pt) := by
  have go : ∃ fu, wX_loadPart_42 post (nI f) (nI pt) (nI v) xmf xmb xml (nI nf) xbo xol 1 xpd (nI k) xcc xto xho xon xod xrc xof xos xde xcr xsp xsq xlp xlq xpn xpe xco xbf xbk xbv xbl xpp xpq xmu xke xcf xrv xrd xro xta xba xnb fu 0 0 0 := ⟨v + 1, xw_lp42 hC hP hf hpt hk K v 0 (v + 1) (by omega) (by omega)⟩
  unfold wpX_loadPart
  refine br_t rfl (xw_fxY hC.2.2.2.1 hf (br_f (by decide) ?_))
  have cs : pt = 0 ∨ pt = 1 ∨ pt = 2 := by omega
  rcases cs with rfl | rfl | rfl
  · exact br_t rfl go
  · exact br_f (by decide) (br_t rfl go)
  · exact br_f (by decide) (br_f (by decide) (br_t rfl go))
end
section
variable {v nf n f pt : Nat}
variable {xv xmf xmb xml xol yrs : Int32} {yon yod : Int64} {xco xbf xbk xbv xbl yke ypi : Nat → Int32} {yrw ypt ywe ymu : Nat → Int64}
theorem yw_f103 {post : Int64 → SY → Prop} {x3 : Int32} {N Dn : Int} (hN : zA N 1200000000000000) (hD : 0 < Dn) (hD2 : Dn ≤ 6300000000) (hb : N.natAbs * Dn.natAbs < 2 ^ 97) (K0 : x3 = 0 → post (zL (rk_n N Dn)) (xv, xmf, xmb, xml, nI nf, nI n, xol, 1, yon, yod, yrs, xco, xbf, xbk, xbv, xbl, yke, yrw, ypt, ypi, ywe, ymu)) (K1 : ¬ x3 = 0 → post (zL (rk_d N Dn)) (xv, xmf, xmb, xml, nI nf, nI n, xol, 1, yon, yod, yrs, xco, xbf, xbk, xbv, xbl, yke, yrw, ypt, ypi, ywe, ymu)) : wY_fraction_103 post x3 (zL N) (zL Dn) xv xmf xmb xml (nI nf) (nI n) xol 1 yon yod yrs xco xbf xbk xbv xbl yke yrw ypt ypi ywe ymu := by
  have dB : zB Dn := by unfold zB; omega
  have nB := zA_B hN (by omega)
  have gp := rk_gp (n := N) hD
  have gB := rk_gB (n := N) hD dB
  have nd := rk_nd N Dn
  unfold wY_fraction_103
  refine yw_gcd nB dB hb ?_
  have nz : ¬ zL (Int.gcd N Dn : Int) = 0 := by rw [show (0 : Int64) = zL 0 from rfl, zL_eq gB zB_0]; omega
  refine br_f nz (br_c (fun h => And.intro nz ?_) (fun h => And.intro nz ?_))
  · rw [zL_div nB gB (by omega) nd.1]; exact K0 h
  · rw [zL_div dB gB (by omega) nd.2]; exact K1 h
theorem yw_fr {post : Int64 → SY → Prop} {x3 : Int32} (hC : rh_C v nf xco) (hB : rh_B nf n xbf xbk xbv) (hft : rm_ft n xco xbf xbk xbv (fun _ => true)) (hf : f < nf) (hpt : pt < 3)
    (K : ∀ A V Q PV PQ D kk yrs yke yrw ypt, rh_L (fun _ => true) n xco xbf xbk xbv A V Q → rs_best (rh_n (fun _ => true) n) (yq_RP (rh_n (fun _ => true) n) A V Q) rf_bt PV PQ D → yq_b PV PQ D → rh_ls (fun k => rh_hold n xco xbf xbk xbv PV PQ D (rh_t k)) kk → (x3 = 0 → post (zL (rk_n (rz_pn pt (fun l => (xco (3 * f + l)).toInt) PV PQ (rh_t kk)) (rz_pd pt D (rh_t kk)))) (xv, xmf, xmb, xml, nI nf, nI n, xol, 1, yon, yod, yrs, xco, xbf, xbk, xbv, xbl, yke, yrw, ypt, ypi, ywe, ymu)) ∧ (¬ x3 = 0 → post (zL (rk_d (rz_pn pt (fun l => (xco (3 * f + l)).toInt) PV PQ (rh_t kk)) (rz_pd pt D (rh_t kk)))) (xv, xmf, xmb, xml, nI nf, nI n, xol, 1, yon, yod, yrs, xco, xbf, xbk, xbv, xbl, yke, yrw, ypt, ypi, ywe, ymu))) : wpY_fraction post (xv, xmf, xmb, xml, nI nf, nI n, xol, 1, yon, yod, yrs, xco, xbf, xbk, xbv, xbl, yke, yrw, ypt, ypi, ywe, ymu) (nI f) (nI pt) x3 := by
  have h9 := hC.2.2.2.1
  have hn := hB.1
  have hle := rh_nle (fun _ => true) n
  have hcb : rb_bd (fun l => (xco (3 * f + l)).toInt) 20 := fun l hl => (hC.2.2.2.2 f hf l hl).1
  unfold wpY_fraction
  refine br_t rfl (br_f (nI_pos (by omega)) (br_f (nI_ge hf (by omega)) (br_f (nI_pos (by omega)) (br_t (nI_le (b := 2) (by omega) (by omega)) ?_))))
  refine yw_pt hC hB (fun A V Q yke yrw ypt PV PQ D _ hL hW hbest hat => ?_) (fun yke yrw ypt h => absurd hft h)
  have hbd := rs_bS (by omega) (rs_bL hC hB hL)
  have hbb := rs_bestb (by omega) (rs_bL hC hB hL) hbest
  have e13 : ypt 13 = zL D := hat.2
  have pb := fun (t : Int) (ht : 1 ≤ t ∧ t ≤ 131072) => rz_pb (cf := fun l => (xco (3 * f + l)).toInt) (PV := PV) (PQ := PQ) (t := t) pt hcb (fun i hi => ⟨zA_w (hbb.1 i hi).1 (by omega), zA_w (hbb.1 i hi).2 (by omega)⟩) hbb.2 ht
  have dot7 : ∀ {post : Int64 → Prop}, post (zL (rb_dot (fun l => (xco (3 * f + l)).toInt) PV)) → wpY_dot post (xv, xmf, xmb, xml, nI nf, nI n, xol, 1, yon, yod, nI (rh_n (fun _ => true) n), xco, xbf, xbk, xbv, xbl, yke, yrw, ypt, ypi, ywe, ymu) (nI f) 7 := fun h => yw_dot (o := 7) (P := PV) hC hf (by omega) (fun l hl => (hat.1 l hl).1) h
  have dot10 : ∀ {post : Int64 → Prop}, post (zL (rb_dot (fun l => (xco (3 * f + l)).toInt) PQ)) → wpY_dot post (xv, xmf, xmb, xml, nI nf, nI n, xol, 1, yon, yod, nI (rh_n (fun _ => true) n), xco, xbf, xbk, xbv, xbl, yke, yrw, ypt, ypi, ywe, ymu) (nI f) 10 := fun h => yw_dot (o := 10) (P := PQ) hC hf (by omega) (fun l hl => (hat.1 l hl).2) h
  have hex : ∃ kk, rh_ls (fun k => rh_hold n xco xbf xbk xbv PV PQ D (rh_t k)) kk := by
    by_cases c : ∃ k, k ≤ 16 ∧ rh_hold n xco xbf xbk xbv PV PQ D (rh_t k)
    · obtain ⟨k, ⟨h1, h2⟩, h3⟩ := pk_least _ c
      exact ⟨k, by omega, fun i hi z => h3 i hi ⟨by omega, z⟩, fun _ => h2⟩
    · exact ⟨17, by omega, fun i hi z => c ⟨i, by omega, z⟩, fun z => absurd z (by omega)⟩
  have cs : pt = 0 ∨ pt = 1 ∨ pt = 2 := by omega
  rcases cs with rfl | rfl | rfl
  · refine br_f (by decide) (dot7 ?_)
    unfold wY_fraction_58
    refine nm_r e13 (br_t rfl ?_)
    refine yw_lsh (m := rh_n (fun _ => true) n) (by omega) hbd hW hbb hat (fun kk hls => ?_)
    have hls' : rh_ls (fun k => rh_hold n xco xbf xbk xbv PV PQ D (rh_t k)) kk := ⟨hls.1, fun i hi z => hls.2.1 i hi ((yq_holdL (fun _ _ => rfl) hL).mpr z), fun z => (yq_holdL (fun _ _ => rfl) hL).mp (hls.2.2 z)⟩
    obtain ⟨r1, r2, r3, r4⟩ := pb (rh_t kk) (rh_tb hls.1)
    refine nm_r (rh_shl hls.1) (dot10 ?_)
    rw [zL_mul, zL_add]
    refine nm_e ?_
    rw [zL_mul]
    refine nm_e ?_
    have KK := K A V Q PV PQ D kk (nI (rh_n (fun _ => true) n)) yke yrw ypt hL hbest hbb hls'
    exact yw_f103 (N := rz_pn 0 (fun l => (xco (3 * f + l)).toInt) PV PQ (rh_t kk)) (Dn := rz_pd 0 D (rh_t kk)) r1 r2 r3 r4 KK.1 KK.2
  · obtain ⟨kk, hls⟩ := hex
    obtain ⟨r1, r2, r3, r4⟩ := pb (rh_t kk) (rh_tb hls.1)
    have KK := K A V Q PV PQ D kk (nI (rh_n (fun _ => true) n)) yke yrw ypt hL hbest hbb hls
    refine br_f (by decide) (dot7 ?_)
    unfold wY_fraction_58
    refine nm_r e13 (br_f (by decide) ?_)
    exact yw_f103 (N := rz_pn 1 (fun l => (xco (3 * f + l)).toInt) PV PQ (rh_t kk)) (Dn := rz_pd 1 D (rh_t kk)) r1 r2 r3 r4 KK.1 KK.2
  · obtain ⟨kk, hls⟩ := hex
    obtain ⟨r1, r2, r3, r4⟩ := pb (rh_t kk) (rh_tb hls.1)
    have KK := K A V Q PV PQ D kk (nI (rh_n (fun _ => true) n)) yke yrw ypt hL hbest hbb hls
    refine br_t rfl (dot10 ?_)
    unfold wY_fraction_58
    refine nm_r e13 (br_f (by decide) ?_)
    exact yw_f103 (N := rz_pn 2 (fun l => (xco (3 * f + l)).toInt) PV PQ (rh_t kk)) (Dn := rz_pd 2 D (rh_t kk)) r1 r2 r3 r4 KK.1 KK.2
end
end
section
/-! numerator, denominator, shift, coreSize, multiplier, contradiction -/
theorem i_vc_numerator {k : Nat} {u : SX} {v : SY} (I : i_Rel k u v) (hk : k + 4 ≤ 2052) (v1 : Int32) (v2 : Int32) : wpX_numerator (fun r u' => wpY_numerator (fun r' v' => r' = r ∧ i_Rel (k + 4) u' v') v v1 v2) u v1 v2 := by
  refine zz_el (P := fun u v => wpX_numerator (fun r u' => wpY_numerator (fun r' v' => r' = r ∧ i_Rel (k + 4) u' v') v v1 v2) u v1 v2) I ?_
  intro v nf n mf mb ml ol of σ xst xpd xps xcc xto xho xon xod xrc xde xcr xsp xsq xlp xlq xpn xpe xco xbf xbk xbv xbl xpp xpq xmu xke xcf xrv xrd xro xta xba xnb yon yod yrs yke yrw ypt ypi ywe ymu q
  have R := zz_in (k := k + 4) (xrc := xrc) (xde := xde) (xcr := xcr) (xsp := xsp) (xsq := xsq) (xlp := xlp) (xlq := xlq) (xpn := xpn) (xpe := xpe) (xbl := xbl) (xke := xke) (xcf := xcf) (xrv := xrv) (xrd := xrd) (xro := xro) (xta := xta) (xba := xba) (xnb := xnb) (yrs := yrs) (yke := yke) (yrw := yrw) (ypt := ypt) (ypi := ypi) (ywe := ywe) (ymu := ymu) q
  obtain ⟨hC, hU, hB, ⟨a1, a2, a3, a4, a5, a6, a7, a8⟩, q5, q6⟩ := q
  have h9 := hC.2.2.2.1
  have hn := hB.1
  unfold wpX_numerator
  rcases q5 with s | ⟨s, s1⟩ | ⟨s, s1⟩
  · subst s; exact br_f (by decide) (br_t rfl (br_f (by decide) ⟨rfl, R⟩))
  · subst s
    rcases rz_a1 v1 (n := nf) (by omega) with h | ⟨f, hf, rfl⟩
    · refine br_t rfl (xw_fxN h (br_t rfl (br_t rfl ?_)))
      exact br_t rfl (br_c (fun _ => ⟨rfl, R⟩) (fun nn => br_t (h.resolve_left nn) ⟨rfl, R⟩))
    · rcases rz_a1 v2 (n := 3) (by omega) with h | ⟨pt, hpt, rfl⟩
      · have n0 : ¬ v2 = 0 := by
          intro e
          rw [e] at h
          exact absurd h (by decide)
        have n1 : ¬ v2 = 1 := by
          intro e
          rw [e] at h
          exact absurd h (by decide)
        have n2 : ¬ v2 = 2 := by
          intro e
          rw [e] at h
          exact absurd h (by decide)
        refine br_t rfl (xw_fxY h9 hf (br_f (by decide) (br_f n0 (br_f n1 (br_f n2 (br_t rfl ?_))))))
        refine br_t rfl (br_f (nI_pos (by omega)) (br_f (nI_ge hf (by omega)) (br_c (fun _ => ⟨rfl, R⟩) (fun nn => br_f ?_ ⟨rfl, R⟩))))
        intro z
        have z3 := h.resolve_left nn
        have := Int32.le_trans z3 z
        exact absurd this (by decide)
      · obtain ⟨PV, PQ, D, kk, hpa, hp, rfl, hls⟩ := s1
        have hft : rm_ft n xco xbf xbk xbv (fun _ => true) := by
          obtain ⟨A, V, Q, g1, g2, g3, g4⟩ := hp
          exact ⟨_, _, (rm_feL g1 _ _).mp g3⟩
        have hle := rh_nle (fun _ => true) n
        refine xw_lpt hC hpa hf hpt hls.1 (br_f (by decide) ?_)
        unfold wpY_numerator
        refine yw_fr hC hB hft hf hpt (fun A V Q PV' PQ' D' kk' yrs yke yrw ypt hL hbest hbb hls' => ?_)
        have eq := rz_eq (by omega) hp (fun i hi => (hpa.2.1 i hi).2.2) hpa.2.2 hL hbb hbest
        have ek : kk = kk' := rz_lsE (fun i => rz_hs hpa.2.2.1 hbb.2.1 eq (rh_t i)) hls hls'
        subst ek
        have fe := rz_frE (cf := fun l => (xco (3 * f + l)).toInt) (t := rh_t kk) pt eq
        have tb := rh_tb hls.1
        have dp1 : 0 < rz_pd pt D (rh_t kk) := by
          unfold rz_pd
          by_cases c : pt = 0
          · rw [if_pos c]; exact Int.mul_pos hpa.2.2.1 (by omega)
          · rw [if_neg c]; exact hpa.2.2.1
        have dp2 : 0 < rz_pd pt D' (rh_t kk) := by
          unfold rz_pd
          by_cases c : pt = 0
          · rw [if_pos c]; exact Int.mul_pos hbb.2.1 (by omega)
          · rw [if_neg c]; exact hbb.2.1
        have re := rk_eq dp1 dp2 fe
        exact br_t rfl ⟨by rw [re.1], zz_in ⟨hC, hU, hB, ⟨a1, a2, a3, a4, a5, a6, a7, a8⟩, Or.inr (Or.inl ⟨rfl, PV, PQ, D, kk, hpa, hp, rfl, hls⟩), q6⟩⟩
  · subst s; exact br_f (by decide) (br_t rfl (br_f (by decide) ⟨rfl, R⟩))
theorem i_vc_denominator {k : Nat} {u : SX} {v : SY} (I : i_Rel k u v) (hk : k + 4 ≤ 2052) (v1 : Int32) (v2 : Int32) : wpX_denominator (fun r u' => wpY_denominator (fun r' v' => r' = r ∧ i_Rel (k + 4) u' v') v v1 v2) u v1 v2 := by
  refine zz_el (P := fun u v => wpX_denominator (fun r u' => wpY_denominator (fun r' v' => r' = r ∧ i_Rel (k + 4) u' v') v v1 v2) u v1 v2) I ?_
  intro v nf n mf mb ml ol of σ xst xpd xps xcc xto xho xon xod xrc xde xcr xsp xsq xlp xlq xpn xpe xco xbf xbk xbv xbl xpp xpq xmu xke xcf xrv xrd xro xta xba xnb yon yod yrs yke yrw ypt ypi ywe ymu q
  have R := zz_in (k := k + 4) (xrc := xrc) (xde := xde) (xcr := xcr) (xsp := xsp) (xsq := xsq) (xlp := xlp) (xlq := xlq) (xpn := xpn) (xpe := xpe) (xbl := xbl) (xke := xke) (xcf := xcf) (xrv := xrv) (xrd := xrd) (xro := xro) (xta := xta) (xba := xba) (xnb := xnb) (yrs := yrs) (yke := yke) (yrw := yrw) (ypt := ypt) (ypi := ypi) (ywe := ywe) (ymu := ymu) q
  obtain ⟨hC, hU, hB, ⟨a1, a2, a3, a4, a5, a6, a7, a8⟩, q5, q6⟩ := q
  have h9 := hC.2.2.2.1
  have hn := hB.1
  unfold wpX_denominator
  rcases q5 with s | ⟨s, s1⟩ | ⟨s, s1⟩
  · subst s; exact br_f (by decide) (br_t rfl (br_f (by decide) ⟨rfl, R⟩))
  · subst s
    rcases rz_a1 v1 (n := nf) (by omega) with h | ⟨f, hf, rfl⟩
    · refine br_t rfl (xw_fxN h (br_t rfl (br_t rfl ?_)))
      exact br_t rfl (br_c (fun _ => ⟨rfl, R⟩) (fun nn => br_t (h.resolve_left nn) ⟨rfl, R⟩))
    · rcases rz_a1 v2 (n := 3) (by omega) with h | ⟨pt, hpt, rfl⟩
      · have n0 : ¬ v2 = 0 := by
          intro e
          rw [e] at h
          exact absurd h (by decide)
        have n1 : ¬ v2 = 1 := by
          intro e
          rw [e] at h
          exact absurd h (by decide)
        have n2 : ¬ v2 = 2 := by
          intro e
          rw [e] at h
          exact absurd h (by decide)
        refine br_t rfl (xw_fxY h9 hf (br_f (by decide) (br_f n0 (br_f n1 (br_f n2 (br_t rfl ?_))))))
        refine br_t rfl (br_f (nI_pos (by omega)) (br_f (nI_ge hf (by omega)) (br_c (fun _ => ⟨rfl, R⟩) (fun nn => br_f ?_ ⟨rfl, R⟩))))
        intro z
        have z3 := h.resolve_left nn
        have := Int32.le_trans z3 z
        exact absurd this (by decide)
      · obtain ⟨PV, PQ, D, kk, hpa, hp, rfl, hls⟩ := s1
        have hft : rm_ft n xco xbf xbk xbv (fun _ => true) := by
          obtain ⟨A, V, Q, g1, g2, g3, g4⟩ := hp
          exact ⟨_, _, (rm_feL g1 _ _).mp g3⟩
        have hle := rh_nle (fun _ => true) n
        refine xw_lpt hC hpa hf hpt hls.1 (br_f (by decide) ?_)
        unfold wpY_denominator
        refine yw_fr hC hB hft hf hpt (fun A V Q PV' PQ' D' kk' yrs yke yrw ypt hL hbest hbb hls' => ?_)
        have eq := rz_eq (by omega) hp (fun i hi => (hpa.2.1 i hi).2.2) hpa.2.2 hL hbb hbest
        have ek : kk = kk' := rz_lsE (fun i => rz_hs hpa.2.2.1 hbb.2.1 eq (rh_t i)) hls hls'
        subst ek
        have fe := rz_frE (cf := fun l => (xco (3 * f + l)).toInt) (t := rh_t kk) pt eq
        have tb := rh_tb hls.1
        have dp1 : 0 < rz_pd pt D (rh_t kk) := by
          unfold rz_pd
          by_cases c : pt = 0
          · rw [if_pos c]; exact Int.mul_pos hpa.2.2.1 (by omega)
          · rw [if_neg c]; exact hpa.2.2.1
        have dp2 : 0 < rz_pd pt D' (rh_t kk) := by
          unfold rz_pd
          by_cases c : pt = 0
          · rw [if_pos c]; exact Int.mul_pos hbb.2.1 (by omega)
          · rw [if_neg c]; exact hbb.2.1
        have re := rk_eq dp1 dp2 fe
        exact br_f (by decide) ⟨by rw [re.2], zz_in ⟨hC, hU, hB, ⟨a1, a2, a3, a4, a5, a6, a7, a8⟩, Or.inr (Or.inl ⟨rfl, PV, PQ, D, kk, hpa, hp, rfl, hls⟩), q6⟩⟩
  · subst s; exact br_f (by decide) (br_t rfl (br_f (by decide) ⟨rfl, R⟩))
theorem i_vc_shift {k : Nat} {u : SX} {v : SY} (I : i_Rel k u v) (hk : k + 4 ≤ 2052) : wpX_shift (fun r => wpY_shift (fun r' v' => r' = r ∧ i_Rel (k + 4) u v') v) u := by
  refine zz_el (P := fun u v => wpX_shift (fun r => wpY_shift (fun r' v' => r' = r ∧ i_Rel (k + 4) u v') v) u) I ?_
  intro v nf n mf mb ml ol of σ xst xpd xps xcc xto xho xon xod xrc xde xcr xsp xsq xlp xlq xpn xpe xco xbf xbk xbv xbl xpp xpq xmu xke xcf xrv xrd xro xta xba xnb yon yod yrs yke yrw ypt ypi ywe ymu q
  have R := zz_in (k := k + 4) (xrc := xrc) (xde := xde) (xcr := xcr) (xsp := xsp) (xsq := xsq) (xlp := xlp) (xlq := xlq) (xpn := xpn) (xpe := xpe) (xbl := xbl) (xke := xke) (xcf := xcf) (xrv := xrv) (xrd := xrd) (xro := xro) (xta := xta) (xba := xba) (xnb := xnb) (yrs := yrs) (yke := yke) (yrw := yrw) (ypt := ypt) (ypi := ypi) (ywe := ywe) (ymu := ymu) q
  obtain ⟨hC, hU, hB, ⟨a1, a2, a3, a4, a5, a6, a7, a8⟩, q5, q6⟩ := q
  have hn := hB.1
  rcases q5 with s | ⟨s, s1⟩ | ⟨s, s1⟩
  · subst s; exact br_f (by decide) (br_f (by decide) ⟨rfl, R⟩)
  · subst s
    obtain ⟨PV, PQ, D, kk, hpa, hp, rfl, hls⟩ := s1
    have hft : rm_ft n xco xbf xbk xbv (fun _ => true) := by
      obtain ⟨A, V, Q, g1, g2, g3, g4⟩ := hp
      exact ⟨_, _, (rm_feL g1 _ _).mp g3⟩
    have hle := rh_nle (fun _ => true) n
    refine br_t rfl (br_t rfl (yw_pt hC hB (fun A V Q yke yrw ypt PV' PQ' D' _ hL hW hbest hat => ?_) (fun yke yrw ypt h => absurd hft h)))
    have hbd := rs_bS (by omega) (rs_bL hC hB hL)
    have hbb := rs_bestb (by omega) (rs_bL hC hB hL) hbest
    have eq := rz_eq (by omega) hp (fun i hi => (hpa.2.1 i hi).2.2) hpa.2.2 hL hbb hbest
    refine yw_lsh (m := rh_n (fun _ => true) n) (by omega) hbd hW hbb hat (fun kk' hls0 => ?_)
    have hls' : rh_ls (fun k => rh_hold n xco xbf xbk xbv PV' PQ' D' (rh_t k)) kk' := ⟨hls0.1, fun i hi z => hls0.2.1 i hi ((yq_holdL (fun _ _ => rfl) hL).mpr z), fun z => (yq_holdL (fun _ _ => rfl) hL).mp (hls0.2.2 z)⟩
    have ek : kk = kk' := rz_lsE (fun i => rz_hs hpa.2.2.1 hbb.2.1 eq (rh_t i)) hls hls'
    subst ek
    exact ⟨rfl, zz_in ⟨hC, hU, hB, ⟨a1, a2, a3, a4, a5, a6, a7, a8⟩, Or.inr (Or.inl ⟨rfl, PV, PQ, D, kk, hpa, hp, rfl, hls⟩), q6⟩⟩
  · subst s; exact br_f (by decide) (br_f (by decide) ⟨rfl, R⟩)
theorem i_vc_coreSize {k : Nat} {u : SX} {v : SY} (I : i_Rel k u v) (hk : k + 4 ≤ 2052) : wpX_coreSize (fun r => wpY_coreSize (fun r' v' => r' = r ∧ i_Rel (k + 4) u v') v) u := by
  refine zz_el (P := fun u v => wpX_coreSize (fun r => wpY_coreSize (fun r' v' => r' = r ∧ i_Rel (k + 4) u v') v) u) I ?_
  intro v nf n mf mb ml ol of σ xst xpd xps xcc xto xho xon xod xrc xde xcr xsp xsq xlp xlq xpn xpe xco xbf xbk xbv xbl xpp xpq xmu xke xcf xrv xrd xro xta xba xnb yon yod yrs yke yrw ypt ypi ywe ymu q
  have R := zz_in (k := k + 4) (xrc := xrc) (xde := xde) (xcr := xcr) (xsp := xsp) (xsq := xsq) (xlp := xlp) (xlq := xlq) (xpn := xpn) (xpe := xpe) (xbl := xbl) (xke := xke) (xcf := xcf) (xrv := xrv) (xrd := xrd) (xro := xro) (xta := xta) (xba := xba) (xnb := xnb) (yrs := yrs) (yke := yke) (yrw := yrw) (ypt := ypt) (ypi := ypi) (ywe := ywe) (ymu := ymu) q
  obtain ⟨hC, hU, hB, ⟨a1, a2, a3, a4, a5, a6, a7, a8⟩, q5, q6⟩ := q
  have hn := hB.1
  rcases q5 with s | ⟨s, s1⟩ | ⟨s, s1⟩
  · subst s; exact br_f (by decide) (br_f (by decide) ⟨rfl, R⟩)
  · subst s; exact br_f (by decide) (br_f (by decide) ⟨rfl, R⟩)
  · subst s
    obtain ⟨z, hM, hz, rfl, rfl⟩ := s1
    refine br_t rfl (br_t rfl (yw_core hC hB (fun yrs yke yrw ypt hk2 => ⟨n + 1, yw_cs20 (p := rm_co n xco xbf xbk xbv n) hn hk2 ?_ n 0 (n + 1) (by omega) (by omega)⟩)))
    exact ⟨rfl, zz_in ⟨hC, hU, hB, ⟨a1, a2, a3, a4, a5, a6, a7, a8⟩, Or.inr (Or.inr ⟨rfl, z, hM, hz, rfl, rfl⟩), q6⟩⟩
theorem i_vc_contradiction {k : Nat} {u : SX} {v : SY} (I : i_Rel k u v) (hk : k + 4 ≤ 2052) : wpX_contradiction (fun r => wpY_contradiction (fun r' v' => r' = r ∧ i_Rel (k + 4) u v') v) u := by
  refine zz_el (P := fun u v => wpX_contradiction (fun r => wpY_contradiction (fun r' v' => r' = r ∧ i_Rel (k + 4) u v') v) u) I ?_
  intro v nf n mf mb ml ol of σ xst xpd xps xcc xto xho xon xod xrc xde xcr xsp xsq xlp xlq xpn xpe xco xbf xbk xbv xbl xpp xpq xmu xke xcf xrv xrd xro xta xba xnb yon yod yrs yke yrw ypt ypi ywe ymu q
  have R := zz_in (k := k + 4) (xrc := xrc) (xde := xde) (xcr := xcr) (xsp := xsp) (xsq := xsq) (xlp := xlp) (xlq := xlq) (xpn := xpn) (xpe := xpe) (xbl := xbl) (xke := xke) (xcf := xcf) (xrv := xrv) (xrd := xrd) (xro := xro) (xta := xta) (xba := xba) (xnb := xnb) (yrs := yrs) (yke := yke) (yrw := yrw) (ypt := ypt) (ypi := ypi) (ywe := ywe) (ymu := ymu) q
  obtain ⟨hC, hU, hB, ⟨a1, a2, a3, a4, a5, a6, a7, a8⟩, q5, q6⟩ := q
  rcases q5 with s | ⟨s, s1⟩ | ⟨s, s1⟩
  · subst s; exact br_f (by decide) (br_f (by decide) ⟨rfl, R⟩)
  · subst s; exact br_f (by decide) (br_f (by decide) ⟨rfl, R⟩)
  · subst s
    obtain ⟨z, hM, hz, rfl, rfl⟩ := s1
    refine br_t rfl (br_t rfl (yw_mul hC hB hM (fun yrs yke yrw ypt ypi ywe ymu hz2 => ⟨n + 1, yw_ct18 hB hz2 ?_ n 0 (n + 1) (by omega) (by omega)⟩)))
    exact ⟨rfl, zz_in ⟨hC, hU, hB, ⟨a1, a2, a3, a4, a5, a6, a7, a8⟩, Or.inr (Or.inr ⟨rfl, z, hM, hz, rfl, rfl⟩), q6⟩⟩
theorem i_vc_multiplier {k : Nat} {u : SX} {v : SY} (I : i_Rel k u v) (hk : k + 4 ≤ 2052) (v1 : Int32) : wpX_multiplier (fun r => wpY_multiplier (fun r' v' => r' = r ∧ i_Rel (k + 4) u v') v v1) u v1 := by
  refine zz_el (P := fun u v => wpX_multiplier (fun r => wpY_multiplier (fun r' v' => r' = r ∧ i_Rel (k + 4) u v') v v1) u v1) I ?_
  intro v nf n mf mb ml ol of σ xst xpd xps xcc xto xho xon xod xrc xde xcr xsp xsq xlp xlq xpn xpe xco xbf xbk xbv xbl xpp xpq xmu xke xcf xrv xrd xro xta xba xnb yon yod yrs yke yrw ypt ypi ywe ymu q
  have R := zz_in (k := k + 4) (xrc := xrc) (xde := xde) (xcr := xcr) (xsp := xsp) (xsq := xsq) (xlp := xlp) (xlq := xlq) (xpn := xpn) (xpe := xpe) (xbl := xbl) (xke := xke) (xcf := xcf) (xrv := xrv) (xrd := xrd) (xro := xro) (xta := xta) (xba := xba) (xnb := xnb) (yrs := yrs) (yke := yke) (yrw := yrw) (ypt := ypt) (ypi := ypi) (ywe := ywe) (ymu := ymu) q
  obtain ⟨hC, hU, hB, ⟨a1, a2, a3, a4, a5, a6, a7, a8⟩, q5, q6⟩ := q
  have hn := hB.1
  rcases q5 with s | ⟨s, s1⟩ | ⟨s, s1⟩
  · subst s; exact br_f (by decide) (br_f (by decide) ⟨rfl, R⟩)
  · subst s; exact br_f (by decide) (br_f (by decide) ⟨rfl, R⟩)
  · subst s
    rcases rz_a1 v1 (n := n) (by omega) with h | ⟨j, hj, rfl⟩
    · refine br_t rfl (br_c (fun hh => ?_) (fun nn => br_f (rz_nl (h.resolve_left nn)) ?_))
      · exact br_t rfl (br_t hh ⟨rfl, R⟩)
      · exact br_t rfl (br_f nn (br_f (rz_nl (h.resolve_left nn)) ⟨rfl, R⟩))
    · have hx : vp_in (nI j) 10 := vp_in_nI (by omega) (by omega)
      have n0 := nI_pos (show j < 2 ^ 31 by omega)
      have lt := nI_lt hj (show n < 2 ^ 31 by omega)
      obtain ⟨z, hM, hz, rfl, rfl⟩ := s1
      refine br_t rfl (br_f n0 (br_t lt (And.intro hx (br_t rfl (br_f n0 (br_t lt ?_))))))
      refine yw_mul hC hB hM (fun yrs yke yrw ypt ypi ywe ymu hz2 => And.intro hx ⟨?_, zz_in ⟨hC, hU, hB, ⟨a1, a2, a3, a4, a5, a6, a7, a8⟩, Or.inr (Or.inr ⟨rfl, z, hM, hz, rfl, rfl⟩), q6⟩⟩)
      rw [nI_clamp (show j < 2 ^ 31 by omega), hz j hj, hz2 j hj]
end
section
/-! implied, redundant -/
def rz_x (n : Nat) (C F K W : Nat → Int32) (p : Nat → Bool) (a : Nat → Int) (b : Int) : Prop := ∃ x d, rm_fe n C F K W p x d ∧ rb_dot a x ≤ d * b
theorem rz_xI {n : Nat} {C F K W : Nat → Int32} {p : Nat → Bool} {A : Nat → Nat → Int} {V Q : Nat → Int} {a : Nat → Int} {z q : Int} (hL : rh_L p n C F K W A V Q) : (∃ x d, rf_in (rh_n p n + 1) (rg_p A (rh_n p n) a) (rg_b (rg_p V (rh_n p n) z) (rg_p Q (rh_n p n) q)) x d) ↔ rz_x n C F K W p a (z * zM + q) := by
  constructor
  · rintro ⟨x, d, h⟩
    rw [rg_bP, rf_inP, rm_feL hL] at h
    exact ⟨x, d, h⟩
  · rintro ⟨x, d, h⟩
    refine ⟨x, d, ?_⟩
    rw [rg_bP, rf_inP, rm_feL hL]
    exact h
section
variable {v n nf of f κ : Nat} {σ z : Int} {p : Nat → Bool} {A : Nat → Nat → Int} {V Q : Nat → Int}
variable {xmf xmb xml xfo xol xst xps xcc xho xrc xcr : Int32} {xpd xto xon xod xde xsp xsq xlp xlq xpn xpe : Int64} {xco xbf xbk xbv xbl xke xro xba xnb : Nat → Int32} {xpp xpq xmu xcf xrv xrd xta : Nat → Int64}
theorem xw_exc {post : Int32 → SX → Prop} (hC : rh_C v nf xco) (hn : n ≤ 10) (hof : of < nf) (hσ : zA σ 1) (hLd : rg_Ld v (rh_n p n) A V Q xcf xrv xrd) (hL : rh_L p n xco xbf xbk xbv A V Q) (hf : f < nf) (hκ : κ < 4) (hz : zA z 1000)
    (K1 : ∀ xrc xde xcr xsp xsq xlp xlq xcf xrv xrd xro xta xba xnb, rz_x n xco xbf xbk xbv p (rh_a xco f (3 - κ)) (rh_s (3 - κ) * z * zM + rh_q (3 - κ)) → post 0 (nI v, xmf, xmb, xml, xfo, nI n, xol, xst, xpd, xps, xcc, xto, xho, xon, xod, xrc, nI of, zI σ, xde, xcr, xsp, xsq, xlp, xlq, xpn, xpe, xco, xbf, xbk, xbv, xbl, xpp, xpq, xmu, xke, xcf, xrv, xrd, xro, xta, xba, xnb))
    (K0 : ∀ xrc xde xcr xsp xsq xlp xlq xcf xrv xrd xro xta xba xnb, ¬ rz_x n xco xbf xbk xbv p (rh_a xco f (3 - κ)) (rh_s (3 - κ) * z * zM + rh_q (3 - κ)) → post 1 (nI v, xmf, xmb, xml, xfo, nI n, xol, xst, xpd, xps, xcc, xto, xho, xon, xod, xrc, nI of, zI σ, xde, xcr, xsp, xsq, xlp, xlq, xpn, xpe, xco, xbf, xbk, xbv, xbl, xpp, xpq, xmu, xke, xcf, xrv, xrd, xro, xta, xba, xnb)) : wpX_excludesOpposite post (nI v, xmf, xmb, xml, xfo, nI n, xol, xst, xpd, xps, xcc, xto, xho, xon, xod, nI (rh_n p n), nI of, zI σ, xde, xcr, xsp, xsq, xlp, xlq, xpn, xpe, xco, xbf, xbk, xbv, xbl, xpp, xpq, xmu, xke, xcf, xrv, xrd, xro, xta, xba, xnb) (nI f) (nI κ) (zI z) := by
  have hle := rh_nle p n
  have hv := hC.2.1
  unfold wpX_excludesOpposite
  rw [show (3 : Int32) - nI κ = nI (3 - κ) from pk_sub (a := 3) (by omega)]
  refine xw_ab hLd (by omega) hC hf (by omega) hz (fun xcf xrv xrd hLd2 => ?_)
  refine xw_ff hLd2.1 hLd2.2.1 hLd2.2.2 (rh_Oc hC hof hσ) (fun nb bs xde xta xba xnb xsp xsq xlp xlq hT hF => br_f (by decide) (K1 _ _ _ _ _ _ _ _ _ _ _ _ _ _ ?_)) (fun nb bs xde xta xba xnb xsp xsq xlp xlq r hT hX => br_t rfl (K0 _ _ _ _ _ _ _ _ _ _ _ _ _ _ ?_))
  · exact (rz_xI hL).mp ⟨_, _, rf_feas hT.1 hF⟩
  · intro h
    obtain ⟨x, d, hx⟩ := (rz_xI hL).mpr h
    exact rf_conf hT.1 (rg_Nl hv hT.2.2.1) hX.2.1 (rg_okl hv (hT.2.2.2.1 r hX.1).2.1) hX.2.2.1 hX.2.2.2 hx
end
section
variable {v n nf f κ : Nat} {z : Int} {p : Nat → Bool} {A : Nat → Nat → Int} {V Q : Nat → Int}
variable {xv xmf xmb xml xfo xol xst yrs : Int32} {yon yod : Int64} {xco xbf xbk xbv xbl yke ypi : Nat → Int32} {yrw ypt ywe ymu : Nat → Int64}
theorem yw_exc {post : Int32 → SY → Prop} (hC : rh_C v nf xco) (hB : rh_B nf n xbf xbk xbv) (hW : yq_W (rh_n p n) (yq_R A V Q) yrw) (hL : rh_L p n xco xbf xbk xbv A V Q) (hf : f < nf) (hκ : κ < 4) (hz : zA z 1000)
    (K1 : ∀ yrs yrw ypt, rz_x n xco xbf xbk xbv p (rh_a xco f (3 - κ)) (rh_s (3 - κ) * z * zM + rh_q (3 - κ)) → post 0 (xv, xmf, xmb, xml, xfo, nI n, xol, xst, yon, yod, yrs, xco, xbf, xbk, xbv, xbl, yke, yrw, ypt, ypi, ywe, ymu))
    (K0 : ∀ yrs yrw ypt, ¬ rz_x n xco xbf xbk xbv p (rh_a xco f (3 - κ)) (rh_s (3 - κ) * z * zM + rh_q (3 - κ)) → post 1 (xv, xmf, xmb, xml, xfo, nI n, xol, xst, yon, yod, yrs, xco, xbf, xbk, xbv, xbl, yke, yrw, ypt, ypi, ywe, ymu)) : wpY_addRow (fun u => match u with | (xv, xmf, xmb, xml, xfo, xbo, xol, xst, yon, yod, yrs, xco, xbf, xbk, xbv, xbl, yke, yrw, ypt, ypi, ywe, ymu) => wpY_solve (fun r u => match u with | (xv, xmf, xmb, xml, xfo, xbo, xol, xst, yon, yod, yrs, xco, xbf, xbk, xbv, xbl, yke, yrw, ypt, ypi, ywe, ymu) => ((r = 0 → post 1 (xv, xmf, xmb, xml, xfo, xbo, xol, xst, yon, yod, yrs, xco, xbf, xbk, xbv, xbl, yke, yrw, ypt, ypi, ywe, ymu)) ∧ (¬ r = 0 → post 0 (xv, xmf, xmb, xml, xfo, xbo, xol, xst, yon, yod, yrs, xco, xbf, xbk, xbv, xbl, yke, yrw, ypt, ypi, ywe, ymu)))) (xv, xmf, xmb, xml, xfo, xbo, xol, xst, yon, yod, yrs, xco, xbf, xbk, xbv, xbl, yke, yrw, ypt, ypi, ywe, ymu) (-1) 0) (xv, xmf, xmb, xml, xfo, nI n, xol, xst, yon, yod, nI (rh_n p n), xco, xbf, xbk, xbv, xbl, yke, yrw, ypt, ypi, ywe, ymu) (nI f) (3 - nI κ) (zI z) := by
  have hle := rh_nle p n
  have hn := hB.1
  rw [show (3 : Int32) - nI κ = nI (3 - κ) from pk_sub (a := 3) (by omega)]
  refine yw_ar hC hf (by omega) (by omega) hz hW (fun yrw hW2 => ?_)
  rw [yq_Rp] at hW2
  refine yw_s0 (m := rh_n p n + 1) (by omega) (rs_bP (rs_bL hC hB hL) (rh_ab hC hf _).1 (rh_sb _ hz) (rh_qb _)) hW2 (fun yrw ypt PV PQ D hft _ _ _ => br_f (by decide) (K1 _ _ _ ((rz_xI hL).mp hft))) (fun yrw ypt hft => br_t rfl (K0 _ _ _ (fun h => hft ((rz_xI hL).mpr h))))
end
theorem i_vc_implied {k : Nat} {u : SX} {v : SY} (I : i_Rel k u v) (hk : k + 4 ≤ 2052) (v1 : Int32) (v2 : Int32) (v3 : Int32) : wpX_implied (fun r u' => wpY_implied (fun r' v' => r' = r ∧ i_Rel (k + 4) u' v') v v1 v2 v3) u v1 v2 v3 := by
  refine zz_el (P := fun u v => wpX_implied (fun r u' => wpY_implied (fun r' v' => r' = r ∧ i_Rel (k + 4) u' v') v v1 v2 v3) u v1 v2 v3) I ?_
  intro v nf n mf mb ml ol of σ xst xpd xps xcc xto xho xon xod xrc xde xcr xsp xsq xlp xlq xpn xpe xco xbf xbk xbv xbl xpp xpq xmu xke xcf xrv xrd xro xta xba xnb yon yod yrs yke yrw ypt ypi ywe ymu q
  have R := zz_in (k := k + 4) (xrc := xrc) (xde := xde) (xcr := xcr) (xsp := xsp) (xsq := xsq) (xlp := xlp) (xlq := xlq) (xpn := xpn) (xpe := xpe) (xbl := xbl) (xke := xke) (xcf := xcf) (xrv := xrv) (xrd := xrd) (xro := xro) (xta := xta) (xba := xba) (xnb := xnb) (yrs := yrs) (yke := yke) (yrw := yrw) (ypt := ypt) (ypi := ypi) (ywe := ywe) (ymu := ymu) q
  have q0 := q
  obtain ⟨hC, hU, hB, ⟨a1, a2, a3, a4, a5, a6, a7, a8⟩, q5, q6⟩ := q
  have h9 := hC.2.2.2.1
  have hn := hB.1
  unfold wpX_implied
  rcases rz_tb v1 v2 v3 h9 with h | ⟨f, hf, rfl, h | ⟨κ, hκ, rfl, h | h⟩⟩
  · exact xw_tb1 h (br_f (by decide) (yw_tb1 h ⟨rfl, R⟩))
  · exact xw_tb2 h9 hf h (br_f (by decide) (yw_tb2 h9 hf (rz_irL h ⟨rfl, R⟩)))
  · exact xw_tb3 h9 hf hκ h (br_f (by decide) (yw_tb2 h9 hf (rz_irT (rz_nk hκ).1 (rz_nk hκ).2 (rz_irL h ⟨rfl, R⟩))))
  · refine xw_tb4 h9 hf hκ h (br_t rfl ?_)
    obtain ⟨z, hz, e2⟩ : ∃ z, zA z 1000 ∧ v3 = zI z := ⟨v3.toInt, h, zI_of v3⟩
    subst e2
    have hy : ∀ {post : Int32 → SY → Prop}, (∀ yrs yke yrw ypt, rz_x n xco xbf xbk xbv (fun _ => true) (rh_a xco f (3 - κ)) (rh_s (3 - κ) * z * zM + rh_q (3 - κ)) → post 0 (nI v, nI mf, nI mb, nI ml, nI nf, nI n, nI ol, xst, yon, yod, yrs, xco, xbf, xbk, xbv, xbl, yke, yrw, ypt, ypi, ywe, ymu)) → (∀ yrs yke yrw ypt, ¬ rz_x n xco xbf xbk xbv (fun _ => true) (rh_a xco f (3 - κ)) (rh_s (3 - κ) * z * zM + rh_q (3 - κ)) → post 1 (nI v, nI mf, nI mb, nI ml, nI nf, nI n, nI ol, xst, yon, yod, yrs, xco, xbf, xbk, xbv, xbl, yke, yrw, ypt, ypi, ywe, ymu)) → wpY_implied post (nI v, nI mf, nI mb, nI ml, nI nf, nI n, nI ol, xst, yon, yod, yrs, xco, xbf, xbk, xbv, xbl, yke, yrw, ypt, ypi, ywe, ymu) (nI f) (nI κ) (zI z) := by
      intro post K1 K0
      refine yw_tb2 h9 hf (rz_irT (rz_nk hκ).1 (rz_nk hκ).2 (rz_irT (rz_n1000 h).1 (rz_n1000 h).2 ?_))
      refine yw_ka (fun yke hk1 => ?_)
      refine yw_lo (p := fun _ => true) hC hB (fun j hj => ?_) (fun A V Q yrw hW hL => ?_)
      · rw [hk1 j (by omega)]
        exact ⟨fun _ => by decide, fun _ => rfl⟩
      · exact yw_exc (p := fun _ => true) hC hB hW hL hf hκ hz (fun yrs yrw ypt => K1 yrs yke yrw ypt) (fun yrs yrw ypt => K0 yrs yke yrw ypt)
    refine xw_la (p := fun _ => true) hC hB (fun j hj => ⟨fun _ => rz_m1 (by omega), fun _ => rfl⟩) (fun A V Q xke xcf xrv xrd xro hk1 hLd hL hO => ?_)
    refine xw_exc (p := fun _ => true) hC hn a7 a8 hLd hL hf hκ hz (fun xrc xde xcr xsp xsq xlp xlq xcf xrv xrd xro xta xba xnb hx => ?_) (fun xrc xde xcr xsp xsq xlp xlq xcf xrv xrd xro xta xba xnb hx => ?_)
    · exact hy (fun yrs yke yrw ypt _ => ⟨rfl, zz_in q0⟩) (fun yrs yke yrw ypt h2 => absurd hx h2)
    · exact hy (fun yrs yke yrw ypt h2 => absurd h2 hx) (fun yrs yke yrw ypt _ => ⟨rfl, zz_in q0⟩)
theorem i_vc_redundant {k : Nat} {u : SX} {v : SY} (I : i_Rel k u v) (hk : k + 4 ≤ 2052) (v1 : Int32) : wpX_redundant (fun r u' => wpY_redundant (fun r' v' => r' = r ∧ i_Rel (k + 4) u' v') v v1) u v1 := by
  refine zz_el (P := fun u v => wpX_redundant (fun r u' => wpY_redundant (fun r' v' => r' = r ∧ i_Rel (k + 4) u' v') v v1) u v1) I ?_
  intro v nf n mf mb ml ol of σ xst xpd xps xcc xto xho xon xod xrc xde xcr xsp xsq xlp xlq xpn xpe xco xbf xbk xbv xbl xpp xpq xmu xke xcf xrv xrd xro xta xba xnb yon yod yrs yke yrw ypt ypi ywe ymu q
  have R := zz_in (k := k + 4) (xrc := xrc) (xde := xde) (xcr := xcr) (xsp := xsp) (xsq := xsq) (xlp := xlp) (xlq := xlq) (xpn := xpn) (xpe := xpe) (xbl := xbl) (xke := xke) (xcf := xcf) (xrv := xrv) (xrd := xrd) (xro := xro) (xta := xta) (xba := xba) (xnb := xnb) (yrs := yrs) (yke := yke) (yrw := yrw) (ypt := ypt) (ypi := ypi) (ywe := ywe) (ymu := ymu) q
  have q0 := q
  obtain ⟨hC, hU, hB, ⟨a1, a2, a3, a4, a5, a6, a7, a8⟩, q5, q6⟩ := q
  have h9 := hC.2.2.2.1
  have hn := hB.1
  rcases rz_a1 v1 (n := n) (by omega) with h | ⟨i, hi, rfl⟩
  · refine br_c (fun hh => ?_) (fun nn => br_f (rz_nl (h.resolve_left nn)) ?_)
    · exact br_t hh ⟨rfl, R⟩
    · exact br_f nn (br_f (rz_nl (h.resolve_left nn)) ⟨rfl, R⟩)
  · have hx : vp_in (nI i) 10 := vp_in_nI (by omega) (by omega)
    have n0 := nI_pos (show i < 2 ^ 31 by omega)
    have lt := nI_lt hi (show n < 2 ^ 31 by omega)
    obtain ⟨f1, f2, k1, k2, w1⟩ := hB.2 i hi
    have hy : ∀ {post : Int32 → SY → Prop}, (∀ yrs yke yrw ypt, rz_x n xco xbf xbk xbv (rm_rm (fun _ => true) i) (rh_a xco (rh_N xbf i) (3 - rh_N xbk i)) (rh_s (3 - rh_N xbk i) * (xbv i).toInt * zM + rh_q (3 - rh_N xbk i)) → post 0 (nI v, nI mf, nI mb, nI ml, nI nf, nI n, nI ol, xst, yon, yod, yrs, xco, xbf, xbk, xbv, xbl, yke, yrw, ypt, ypi, ywe, ymu)) → (∀ yrs yke yrw ypt, ¬ rz_x n xco xbf xbk xbv (rm_rm (fun _ => true) i) (rh_a xco (rh_N xbf i) (3 - rh_N xbk i)) (rh_s (3 - rh_N xbk i) * (xbv i).toInt * zM + rh_q (3 - rh_N xbk i)) → post 1 (nI v, nI mf, nI mb, nI ml, nI nf, nI n, nI ol, xst, yon, yod, yrs, xco, xbf, xbk, xbv, xbl, yke, yrw, ypt, ypi, ywe, ymu)) → wpY_redundant post (nI v, nI mf, nI mb, nI ml, nI nf, nI n, nI ol, xst, yon, yod, yrs, xco, xbf, xbk, xbv, xbl, yke, yrw, ypt, ypi, ywe, ymu) (nI i) := by
      intro post K1 K0
      refine br_f n0 (br_t lt (yw_ka (fun yke hk1 => And.intro hx ?_)))
      rw [nI_clamp (show i < 2 ^ 31 by omega)]
      refine nm_e (yw_lo (p := rm_rm (fun _ => true) i) hC hB (fun j hj => ?_) (fun A V Q yrw hW hL => And.intro hx (And.intro hx (And.intro hx ?_))))
      · rw [rm_rmT]
        by_cases e : j = i
        · rw [e, pk_us]
          exact ⟨fun w => absurd rfl w.2, fun w => absurd rfl w⟩
        · rw [pk_un e, hk1 j (by omega)]
          exact ⟨fun _ => by decide, fun _ => ⟨rfl, e⟩⟩
      · rw [f1, k1, zI_of (xbv i)]
        exact yw_exc (p := rm_rm (fun _ => true) i) hC hB hW hL f2 k2 w1 (fun yrs yrw ypt => K1 yrs _ yrw ypt) (fun yrs yrw ypt => K0 yrs _ yrw ypt)
    refine br_f n0 (br_t lt (xw_la (p := rm_rm (fun _ => true) i) hC hB (fun j hj => ?_) (fun A V Q xke xcf xrv xrd xro hk1 hLd hL hO => And.intro hx (And.intro hx (And.intro hx ?_)))))
    · rw [rm_rmT, Ne, Ne, nI_eq (by omega) (by omega)]
      exact ⟨fun w => w.2, fun w => ⟨rfl, w⟩⟩
    · rw [nI_clamp (show i < 2 ^ 31 by omega), f1, k1, zI_of (xbv i)]
      refine xw_exc (p := rm_rm (fun _ => true) i) hC hn a7 a8 hLd hL f2 k2 w1 (fun xrc xde xcr xsp xsq xlp xlq xcf xrv xrd xro xta xba xnb hx => ?_) (fun xrc xde xcr xsp xsq xlp xlq xcf xrv xrd xro xta xba xnb hx => ?_)
      · exact hy (fun yrs yke yrw ypt _ => ⟨rfl, zz_in q0⟩) (fun yrs yke yrw ypt h2 => absurd hx h2)
      · exact hy (fun yrs yke yrw ypt h2 => absurd h2 hx) (fun yrs yke yrw ypt _ => ⟨rfl, zz_in q0⟩)
end
section
/-! optimize: pure -/
def rz_cf (C : Nat → Int32) (f : Nat) : Nat → Int := fun l => (C (3 * f + l)).toInt
def rz_cs (C : Nat → Int32) (f : Nat) (s : Int) : Nat → Int := fun l => s * (C (3 * f + l)).toInt
/-- some direction keeps all bounds and moves the form -/
def rz_cone (n : Nat) (C F K W : Nat → Int32) (c : Nat → Int) : Prop := ∃ x d, 0 < d ∧ (∀ j, j < n → rb_dot (rh_bA C F K j) x ≤ 0) ∧ d * zM ≤ rb_dot c x
theorem rz_zMp : 0 < zM := by unfold zM; omega
theorem rz_csd (C : Nat → Int32) (f : Nat) (s : Int) (P : Nat → Int) : rb_dot (rz_cs C f s) P = s * rb_dot (rz_cf C f) P := by
  unfold rb_dot rz_cs rz_cf; grind
section
variable {n : Nat} {C F K W : Nat → Int32} {A : Nat → Nat → Int} {V Q : Nat → Int} {c : Nat → Int} {nb : Nat → Nat}
/-- an optimal basis: no such direction -/
theorem rz_c0 (hL : rh_L (fun _ => true) n C F K W A V Q) (g : rc_gd (rf_G A) nb) (hb : ∀ k, k < 3 → nb k < 3 + rh_n (fun _ => true) n) (hn : ∀ l, l < 3 → ¬ re_iu (rf_G A) nb c l) : ¬ rz_cone n C F K W c := by
  rintro ⟨x, d, hd, hx, hc⟩
  have hin : rf_in (rh_n (fun _ => true) n) A (fun _ => 0) x d := by
    refine ⟨hd, fun r hr => ?_⟩
    obtain ⟨j, hj, hp, rfl⟩ := rh_nE (fun _ => true) n r hr
    rw [(hL j hj hp).1, Int.mul_zero]
    exact hx j hj
  have o := (rf_opt hb hn hin).1
  have z : ∀ u, rf_L (fun _ => 0) u = 0 := by
    intro u
    unfold rf_L
    by_cases q : u < 3
    · rw [if_pos q]
    · rw [if_neg q]
  rw [rc_vl3, z, z, z, Int.mul_zero, Int.mul_zero, Int.mul_zero] at o
  have dp := rc_denp g
  have p1 := Int.mul_pos hd rz_zMp
  have p2 := Int.mul_pos dp (show 0 < rb_dot c x by omega)
  omega
/-- a ray: such a direction -/
theorem rz_c1 (hL : rh_L (fun _ => true) n C F K W A V Q) {k : Nat} (hY : rg_Y (rh_n (fun _ => true) n) A c nb k) : rz_cone n C F K W c := by
  obtain ⟨k3, hu, hw⟩ := hY
  have dp := re_dlp hu
  refine ⟨fun i => zM * rf_ray (rf_G A) nb k (re_dl (rf_G A) nb c k) i, 1, by omega, fun j hj => ?_, ?_⟩
  · have lt := rh_nlt (p := fun _ => true) hj rfl
    have := hw (3 + rh_n (fun _ => true) j) (by omega) (by omega)
    unfold re_rt at this
    rw [rf_Gr, (hL j hj rfl).1] at this
    rw [rb_ddot, rf_rayd k3]
    exact Int.mul_nonpos_of_nonneg_of_nonpos (Int.le_of_lt rz_zMp) this
  · rw [rb_ddot, rf_rayd k3, Int.one_mul]
    have := Int.mul_le_mul_of_nonneg_left (show 1 ≤ rc_tv (rf_G A) nb c k * re_dl (rf_G A) nb c k by omega) (Int.le_of_lt rz_zMp)
    rw [Int.mul_one] at this
    exact this
/-- the two optima are equal -/
theorem rz_oeq {A' : Nat → Nat → Int} {V' Q' : Nat → Int} {PV PQ : Nat → Int} {D : Int} (hL : rh_L (fun _ => true) n C F K W A V Q) (hL' : rh_L (fun _ => true) n C F K W A' V' Q') (g : rc_gd (rf_G A) nb) (hb : ∀ k, k < 3 → nb k < 3 + rh_n (fun _ => true) n) (hF : rg_F (rh_n (fun _ => true) n) A V Q nb) (hn : ∀ l, l < 3 → ¬ re_iu (rf_G A) nb c l) (hbest : rs_best (rh_n (fun _ => true) n) (yq_RP (rh_n (fun _ => true) n) A' V' Q') (yq_bf c) PV PQ D) (hD : 0 < D) :
    rc_vl (rf_G A) (rf_L (rg_b V Q)) nb c * D = rc_den (rf_G A) nb * rb_dot c (rh_x PV PQ) := by
  obtain ⟨a, b, d, ok, e1, e2, e3, nb2⟩ := hbest
  have hy : rf_in (rh_n (fun _ => true) n) A (rg_b V Q) (rh_x PV PQ) D := by
    have := yq_in ok
    rw [e1, e2, e3]
    exact (rm_feL hL _ _).mpr ((rm_feL hL' _ _).mp this)
  have up := (rf_opt hb hn hy).1
  have same := rs_same hL hL'
  have hin := rf_feas (b := rg_b V Q) g hF
  have cor := rf_corX (G := rf_G A) (L := rf_L (rg_b V Q)) g hb
  have cor' : rf_cor (rf_G A') (rf_L (rg_b V' Q')) (3 + rh_n (fun _ => true) n) nb (rc_pt (rf_G A) (rf_L (rg_b V Q)) nb) (rc_den (rf_G A) nb) := by
    refine rs_corT (fun r hr => ⟨(same r hr).1, ?_⟩) cor
    unfold rg_b
    rw [(same r hr).2.1, (same r hr).2.2]
  have hin' := (rm_feL hL' _ _).mpr ((rm_feL hL _ _).mp hin)
  obtain ⟨i, j, k, ok2, key⟩ := yq_of cor' hin'
  have d2 : 0 < yq_D (yq_RP (rh_n (fun _ => true) n) A' V' Q') i j k := rb_sgp ok2.2.2.2.1
  have nbt := nb2 i j k ok2
  unfold yq_bf at nbt
  have kc := key c
  rw [← rc_vld] at kc
  have dp := rc_denp g
  generalize rb_dot c (yq_x (yq_RP (rh_n (fun _ => true) n) A' V' Q') i j k) = X at *
  generalize yq_D (yq_RP (rh_n (fun _ => true) n) A' V' Q') i j k = E at *
  generalize rc_vl (rf_G A) (rf_L (rg_b V Q)) nb c = w at *
  generalize rc_den (rf_G A) nb = dn at *
  generalize rb_dot c (rh_x PV PQ) = y at *
  have l1 : X * D ≤ y * E := by omega
  have l2 := Int.mul_le_mul_of_nonneg_left l1 (Int.le_of_lt dp)
  have l3 : w * D * E ≤ dn * y * E := by
    have e4 : w * D * E = dn * (X * D) := by rw [← Int.mul_assoc, ← kc]; grind
    have e5 : dn * y * E = dn * (y * E) := Int.mul_assoc _ _ _
    omega
  have l4 := Int.le_of_mul_le_mul_right l3 d2
  have e6 : D * w = w * D := Int.mul_comm _ _
  omega
end
/-! optimize: the reference -/
section
variable {v n nf f : Nat} {s : Int} {dir : Int32}
variable {xv xmf xmb xml xol yrs : Int32} {yon yod : Int64} {xco xbf xbk xbv xbl yke ypi : Nat → Int32} {yrw ypt ywe ymu : Nat → Int64}
theorem yw_op198 {post : Int32 → SY → Prop} {PQ : Nat → Int} (hC : rh_C v nf xco) (hf : f < nf) (hP : ∀ l, l < 3 → ypt (10 + l) = zL (PQ l)) (hb : ∀ l, l < 3 → zA (PQ l) 2400) (K1 : rb_dot (rz_cf xco f) PQ = 0 → post 1 (xv, xmf, xmb, xml, nI nf, nI n, xol, 1, yon, yod, yrs, xco, xbf, xbk, xbv, xbl, yke, yrw, ypt, ypi, ywe, ymu)) (K2 : ¬ rb_dot (rz_cf xco f) PQ = 0 → post 2 (xv, xmf, xmb, xml, nI nf, nI n, xol, 1, yon, yod, yrs, xco, xbf, xbk, xbv, xbl, yke, yrw, ypt, ypi, ywe, ymu)) : wY_optimize_198 post (nI f) xv xmf xmb xml (nI nf) (nI n) xol 1 yon yod yrs xco xbf xbk xbv xbl yke yrw ypt ypi ywe ymu := by
  have cb := fun l hl => (hC.2.2.2.2 f hf l hl).1
  have dQ : zA (rb_dot (rz_cf xco f) PQ) 144000 := zA_w (zA_add (zA_add (zA_mul (cb 0 (by omega)) (hb 0 (by omega))) (zA_mul (cb 1 (by omega)) (hb 1 (by omega)))) (zA_mul (cb 2 (by omega)) (hb 2 (by omega)))) (by omega)
  unfold wY_optimize_198
  refine yw_dot (o := 10) (P := PQ) hC hf (by omega) hP ?_
  rw [show rb_dot (fun l => (xco (3 * f + l)).toInt) PQ = rb_dot (rz_cf xco f) PQ from rfl, show (0 : Int64) = zL 0 from rfl, zL_eq (zA_B dQ (by omega)) zB_0]
  exact br_c K1 K2
theorem yw_op144 {post : Int32 → SY → Prop} {A : Nat → Nat → Int} {V Q : Nat → Int} (hs : s = 1 ∨ s = -1) (hC : rh_C v nf xco) (hB : rh_B nf n xbf xbk xbv) (hf : f < nf) (hft : rm_ft n xco xbf xbk xbv (fun _ => true)) (hW : yq_W (rh_n (fun _ => true) n) (yq_R A V Q) yrw) (hL : rh_L (fun _ => true) n xco xbf xbk xbv A V Q)
    (K : ∀ PV PQ D yrw ypt, rs_best (rh_n (fun _ => true) n) (yq_RP (rh_n (fun _ => true) n) A V Q) (yq_bf (rz_cs xco f s)) PV PQ D → yq_b PV PQ D → (rb_dot (rz_cf xco f) PQ = 0 → post 1 (xv, xmf, xmb, xml, nI nf, nI n, xol, 1, zL (rk_n (rb_dot (rz_cf xco f) PV) D), zL (rk_d (rb_dot (rz_cf xco f) PV) D), nI (rh_n (fun _ => true) n), xco, xbf, xbk, xbv, xbl, yke, yrw, ypt, ypi, ywe, ymu)) ∧ (¬ rb_dot (rz_cf xco f) PQ = 0 → post 2 (xv, xmf, xmb, xml, nI nf, nI n, xol, 1, zL (rk_n (rb_dot (rz_cf xco f) PV) D), zL (rk_d (rb_dot (rz_cf xco f) PV) D), nI (rh_n (fun _ => true) n), xco, xbf, xbk, xbv, xbl, yke, yrw, ypt, ypi, ywe, ymu))) : wY_optimize_144 post (nI f) (zI s) (nI f) xv xmf xmb xml (nI nf) (nI n) xol 1 yon yod (nI (rh_n (fun _ => true) n)) xco xbf xbk xbv xbl yke yrw ypt ypi ywe ymu := by
  have hn := hB.1
  have hle := rh_nle (fun _ => true) n
  have hbL := rs_bL hC hB hL
  unfold wY_optimize_144
  refine yw_sol (Bt := yq_bf (rz_cs xco f s)) (by omega) (rs_bS (by omega) hbL) hW (yq_bfI _) (fun x y z D E F => yq_bfT _ x y z D E F) (fun post yrw ypt PV PQ D PV' PQ' E b1 b2 a1 a2 k1 k2 => yw_bf hs hC hf b1 b2 a1 a2 k1 k2) (fun x3 yrw ypt hW2 hI => ?_)
  rcases hI with ⟨e, h⟩ | ⟨e, a, b, c, h1, h2, h3⟩
  · exfalso
    obtain ⟨x, d, hx⟩ := hft
    obtain ⟨i, j, k, q⟩ := (yq_iff (V := V) (Q := Q) (show rh_n (fun _ => true) n ≤ 19 by omega)).mpr ⟨x, d, (rm_feL hL x d).mpr hx⟩
    exact h i j k q trivial
  · have hbest : rs_best (rh_n (fun _ => true) n) (yq_RP (rh_n (fun _ => true) n) A V Q) (yq_bf (rz_cs xco f s)) (yq_V (yq_RP (rh_n (fun _ => true) n) A V Q) a b c) (yq_Q (yq_RP (rh_n (fun _ => true) n) A V Q) a b c) (yq_D (yq_RP (rh_n (fun _ => true) n) A V Q) a b c) := ⟨a, b, c, h1, rfl, rfl, rfl, fun i j k q => h3 i j k q trivial⟩
    have hbb := rs_bestb (by omega) hbL hbest
    generalize yq_V (yq_RP (rh_n (fun _ => true) n) A V Q) a b c = PV at *
    generalize yq_Q (yq_RP (rh_n (fun _ => true) n) A V Q) a b c = PQ at *
    generalize yq_D (yq_RP (rh_n (fun _ => true) n) A V Q) a b c = D at *
    have KK := K PV PQ D yrw ypt hbest hbb
    have cb := fun l hl => (hC.2.2.2.2 f hf l hl).1
    have dV : zA (rb_dot (rz_cf xco f) PV) 144000000 := zA_w (zA_add (zA_add (zA_mul (cb 0 (by omega)) (hbb.1 0 (by omega)).1) (zA_mul (cb 1 (by omega)) (hbb.1 1 (by omega)).1)) (zA_mul (cb 2 (by omega)) (hbb.1 2 (by omega)).1)) (by omega)
    have nB := zA_B dV (by omega)
    have dB : zB D := by have := hbb.2; unfold zB; omega
    have gp := rk_gp (n := rb_dot (rz_cf xco f) PV) hbb.2.1
    have gB := rk_gB (n := rb_dot (rz_cf xco f) PV) hbb.2.1 dB
    have nd := rk_nd (rb_dot (rz_cf xco f) PV) D
    have e13 : ypt 13 = zL D := h2.2
    refine yw_dot (o := 7) (P := PV) hC hf (by omega) (fun l hl => (h2.1 l hl).1) (nm_r e13 ?_)
    refine yw_gcd (a := rb_dot (rz_cf xco f) PV) nB dB ?_ ?_
    · have q1 := dV.1
      have q2 := dV.2
      have q3 := hbb.2
      have : (rb_dot (rz_cf xco f) PV).natAbs * D.natAbs ≤ 144000000 * 48000 := Nat.mul_le_mul (by omega) (by omega)
      exact Nat.lt_of_le_of_lt this (by decide)
    · have nz : ¬ zL (Int.gcd (rb_dot (rz_cf xco f) PV) D : Int) = 0 := by rw [show (0 : Int64) = zL 0 from rfl, zL_eq gB zB_0]; omega
      refine br_f nz (And.intro nz ?_)
      rw [show rb_dot (fun l => (xco (3 * f + l)).toInt) PV = rb_dot (rz_cf xco f) PV from rfl, zL_div nB gB (by omega) nd.1, zL_div dB gB (by omega) nd.2]
      refine nm_e (And.intro nz (nm_e ?_))
      exact yw_op198 hC hf (fun l hl => (h2.1 l hl).2) (fun l hl => (hbb.1 l hl).2) KK.1 KK.2
end
end
section
/-! optimize -/
theorem rz_cI {n : Nat} {C F K W : Nat → Int32} {A : Nat → Nat → Int} {V Q : Nat → Int} {a c : Nat → Int} (hL : rh_L (fun _ => true) n C F K W A V Q) (ha : ∀ l, l < 3 → a l = -c l) : (∃ x d, rf_in (rh_n (fun _ => true) n + 1) (rg_p A (rh_n (fun _ => true) n) a) (rg_b (rg_p (fun _ => 0) (rh_n (fun _ => true) n) (-1)) (rg_p (fun _ => 0) (rh_n (fun _ => true) n) 0)) x d) ↔ rz_cone n C F K W c := by
  have ed : ∀ x, rb_dot a x = -rb_dot c x := by
    intro x
    unfold rb_dot
    rw [ha 0 (by omega), ha 1 (by omega), ha 2 (by omega)]
    grind
  have eb : ∀ r, rg_b (fun _ => 0) (fun _ => 0) r = 0 := by
    intro r
    unfold rg_b
    rw [Int.zero_mul]; rfl
  have em : ∀ d : Int, d * (-1 * zM + 0) = -(d * zM) := by
    intro d
    grind
  constructor
  · rintro ⟨x, d, h⟩
    rw [rg_bP, rf_inP, ed, em] at h
    obtain ⟨⟨h1, h2⟩, h3⟩ := h
    refine ⟨x, d, h1, fun j hj => ?_, by omega⟩
    have := h2 (rh_n (fun _ => true) j) (rh_nlt hj rfl)
    rw [(hL j hj rfl).1, eb, Int.mul_zero] at this
    exact this
  · rintro ⟨x, d, h1, h2, h3⟩
    refine ⟨x, d, ?_⟩
    rw [rg_bP, rf_inP, ed, em]
    refine ⟨⟨h1, fun r hr => ?_⟩, by omega⟩
    obtain ⟨j, hj, hp, rfl⟩ := rh_nE (fun _ => true) n r hr
    rw [(hL j hj hp).1, eb, Int.mul_zero]
    exact h2 j hj
section
variable {v n nf f : Nat} {s : Int} {dir : Int32}
variable {xv xmf xmb xml xol yrs : Int32} {yon yod : Int64} {xco xbf xbk xbv xbl yke ypi : Nat → Int32} {yrw ypt ywe ymu : Nat → Int64}
theorem yw_op118 {post : Int32 → SY → Prop} {A : Nat → Nat → Int} {V Q : Nat → Int} {a : Nat → Int} (hd : (dir = 0 ∧ s = 1) ∨ (¬ dir = 0 ∧ s = -1)) (hC : rh_C v nf xco) (hB : rh_B nf n xbf xbk xbv) (hf : f < nf) (hft : rm_ft n xco xbf xbk xbv (fun _ => true)) (hk : ∀ j, j < n → yke j ≠ 0) (hL : rh_L (fun _ => true) n xco xbf xbk xbv A V Q) (hab : rb_bd a 20) (ha : ∀ l, l < 3 → a l = -rz_cs xco f s l)
    (hW : yq_W (rh_n (fun _ => true) n + 1) (yq_R (rg_p A (rh_n (fun _ => true) n) a) (rg_p (fun _ => 0) (rh_n (fun _ => true) n) (-1)) (rg_p (fun _ => 0) (rh_n (fun _ => true) n) 0)) yrw)
    (KU : rz_cone n xco xbf xbk xbv (rz_cs xco f s) → ∀ yrs yrw ypt, post 0 (xv, xmf, xmb, xml, nI nf, nI n, xol, 1, yon, yod, yrs, xco, xbf, xbk, xbv, xbl, yke, yrw, ypt, ypi, ywe, ymu))
    (KB : ¬ rz_cone n xco xbf xbk xbv (rz_cs xco f s) → ∀ A V Q PV PQ D yrs yrw ypt, rh_L (fun _ => true) n xco xbf xbk xbv A V Q → rs_best (rh_n (fun _ => true) n) (yq_RP (rh_n (fun _ => true) n) A V Q) (yq_bf (rz_cs xco f s)) PV PQ D → yq_b PV PQ D → (rb_dot (rz_cf xco f) PQ = 0 → post 1 (xv, xmf, xmb, xml, nI nf, nI n, xol, 1, zL (rk_n (rb_dot (rz_cf xco f) PV) D), zL (rk_d (rb_dot (rz_cf xco f) PV) D), yrs, xco, xbf, xbk, xbv, xbl, yke, yrw, ypt, ypi, ywe, ymu)) ∧ (¬ rb_dot (rz_cf xco f) PQ = 0 → post 2 (xv, xmf, xmb, xml, nI nf, nI n, xol, 1, zL (rk_n (rb_dot (rz_cf xco f) PV) D), zL (rk_d (rb_dot (rz_cf xco f) PV) D), yrs, xco, xbf, xbk, xbv, xbl, yke, yrw, ypt, ypi, ywe, ymu))) : wY_optimize_118 post (nI f) dir xv xmf xmb xml (nI nf) (nI n) xol 1 yon yod (nI (rh_n (fun _ => true) n + 1)) xco xbf xbk xbv xbl yke yrw ypt ypi ywe ymu := by
  have hn := hB.1
  have hle := rh_nle (fun _ => true) n
  have hbL := rs_bL hC hB hL
  have hb1 : rs_b (rh_n (fun _ => true) n + 1) (rg_p A (rh_n (fun _ => true) n) a) (rg_p (fun _ => 0) (rh_n (fun _ => true) n) (-1)) (rg_p (fun _ => 0) (rh_n (fun _ => true) n) 0) := by
    refine rs_bP (fun r hr => ⟨(hbL r hr).1, zA_0 (by omega), zA_0 (by omega)⟩) hab ?_ (zA_0 (by omega))
    unfold zA; omega
  have iff := rz_cI (c := rz_cs xco f s) hL ha
  unfold wY_optimize_118
  refine yw_s0 (m := rh_n (fun _ => true) n + 1) (by omega) hb1 hW (fun yrw ypt PV PQ D hx _ _ _ => br_f (by decide) (KU (iff.mp hx) _ _ _)) (fun yrw ypt hx => br_t rfl ?_)
  have hno : ¬ rz_cone n xco xbf xbk xbv (rz_cs xco f s) := fun z => hx (iff.mpr z)
  refine yw_lo (p := fun _ => true) hC hB (fun j hj => ⟨fun _ => hk j hj, fun _ => rfl⟩) (fun A2 V2 Q2 yrw hW2 hL2 => ?_)
  rcases hd with ⟨d0, rfl⟩ | ⟨d0, rfl⟩
  · exact br_t d0 (yw_op144 (s := 1) (Or.inl rfl) hC hB hf hft hW2 hL2 (fun PV PQ D yrw ypt hb hbb => KB hno A2 V2 Q2 PV PQ D _ yrw ypt hL2 hb hbb))
  · exact br_f d0 (yw_op144 (s := -1) (Or.inr rfl) hC hB hf hft hW2 hL2 (fun PV PQ D yrw ypt hb hbb => KB hno A2 V2 Q2 PV PQ D _ yrw ypt hL2 hb hbb))
theorem yw_op61 {post : Int32 → SY → Prop} {A : Nat → Nat → Int} {V Q : Nat → Int} (hd : (dir = 0 ∧ s = 1) ∨ (¬ dir = 0 ∧ s = -1)) (hC : rh_C v nf xco) (hB : rh_B nf n xbf xbk xbv) (hf : f < nf) (hft : rm_ft n xco xbf xbk xbv (fun _ => true)) (hk : ∀ j, j < n → yke j ≠ 0) (hL : rh_L (fun _ => true) n xco xbf xbk xbv A V Q)
    (KU : rz_cone n xco xbf xbk xbv (rz_cs xco f s) → ∀ yrs yrw ypt, post 0 (xv, xmf, xmb, xml, nI nf, nI n, xol, 1, yon, yod, yrs, xco, xbf, xbk, xbv, xbl, yke, yrw, ypt, ypi, ywe, ymu))
    (KB : ¬ rz_cone n xco xbf xbk xbv (rz_cs xco f s) → ∀ A V Q PV PQ D yrs yrw ypt, rh_L (fun _ => true) n xco xbf xbk xbv A V Q → rs_best (rh_n (fun _ => true) n) (yq_RP (rh_n (fun _ => true) n) A V Q) (yq_bf (rz_cs xco f s)) PV PQ D → yq_b PV PQ D → (rb_dot (rz_cf xco f) PQ = 0 → post 1 (xv, xmf, xmb, xml, nI nf, nI n, xol, 1, zL (rk_n (rb_dot (rz_cf xco f) PV) D), zL (rk_d (rb_dot (rz_cf xco f) PV) D), yrs, xco, xbf, xbk, xbv, xbl, yke, yrw, ypt, ypi, ywe, ymu)) ∧ (¬ rb_dot (rz_cf xco f) PQ = 0 → post 2 (xv, xmf, xmb, xml, nI nf, nI n, xol, 1, zL (rk_n (rb_dot (rz_cf xco f) PV) D), zL (rk_d (rb_dot (rz_cf xco f) PV) D), yrs, xco, xbf, xbk, xbv, xbl, yke, yrw, ypt, ypi, ywe, ymu))) :
    ∀ e i fu yrw, i + e = rh_n (fun _ => true) n → e < fu → yq_W (rh_n (fun _ => true) n) (yq_R A (fun r => if r < i then 0 else V r) (fun r => if r < i then 0 else Q r)) yrw → wY_optimize_61 post (nI f) dir xv xmf xmb xml (nI nf) (nI n) xol 1 yon yod (nI (rh_n (fun _ => true) n)) fu (nI i) xco xbf xbk xbv xbl yke yrw ypt ypi ywe ymu := by
  have hn := hB.1
  have hle := rh_nle (fun _ => true) n
  intro e
  induction e with
  | zero =>
    intro i fu yrw hi hfu hW
    obtain ⟨fu, rfl⟩ : ∃ n', fu = n' + 1 := ⟨fu - 1, by omega⟩
    have e : i = rh_n (fun _ => true) n := by omega
    subst e
    have hW0 : yq_W (rh_n (fun _ => true) n) (yq_R A (fun _ => 0) (fun _ => 0)) yrw := by
      intro r c hr hc
      rw [hW r c hr hc]
      show zL (yq_r (A r) (if r < _ then 0 else V r) (if r < _ then 0 else Q r) c) = zL (yq_r (A r) 0 0 c)
      rw [if_pos hr, if_pos hr]
    refine br_t (nI_le (by omega) (by omega)) ?_
    rcases hd with ⟨d0, rfl⟩ | ⟨d0, rfl⟩
    · refine br_t d0 (yw_ar (κ := 2) (z := 1) hC hf (by omega) (by omega) (by unfold zA; omega) hW0 (fun yrw hW2 => ?_))
      rw [yq_Rp] at hW2
      exact yw_op118 (s := 1) (Or.inl ⟨d0, rfl⟩) hC hB hf hft hk hL (rh_ab hC hf 2).1 (fun l hl => by rw [rh_a3 hl]; unfold rz_cs; rw [show rh_s 2 = -1 from rfl]; omega) hW2 KU KB
    · refine br_f d0 (yw_ar (κ := 0) (z := -1) hC hf (by omega) (by omega) (by unfold zA; omega) hW0 (fun yrw hW2 => ?_))
      rw [yq_Rp] at hW2
      exact yw_op118 (s := -1) (Or.inr ⟨d0, rfl⟩) hC hB hf hft hk hL (rh_ab hC hf 0).1 (fun l hl => by rw [rh_a3 hl]; unfold rz_cs; rw [show rh_s 0 = 1 from rfl]; omega) hW2 KU KB
  | succ e ih =>
    intro i fu yrw hi hfu hW
    obtain ⟨fu, rfl⟩ : ∃ n', fu = n' + 1 := ⟨fu - 1, by omega⟩
    have hx3 : vp_in (5 * nI i + 3) 80 := yw_in (i := 3) (by omega) (by omega)
    have hc3 : (5 * nI i + 3).toNatClampNeg = 5 * i + 3 := yw_cl (i := 3) (by omega)
    have hx4 : vp_in (5 * nI i + 4) 80 := yw_in (i := 4) (by omega) (by omega)
    have hc4 : (5 * nI i + 4).toNatClampNeg = 5 * i + 4 := yw_cl (i := 4) (by omega)
    refine br_f (nI_ge (by omega) (by omega)) (And.intro hx3 ?_)
    rw [hc3]
    refine nm_e (And.intro hx4 ?_)
    rw [hc4]
    refine nm_e (nm_r (nI_1 i) (ih (i + 1) fu _ (by omega) (by omega) ?_))
    intro r c hr hc
    show _ = zL (yq_r (A r) (if r < i + 1 then 0 else V r) (if r < i + 1 then 0 else Q r) c)
    by_cases e4 : r = i ∧ c = 4
    · obtain ⟨rfl, rfl⟩ := e4
      rw [pk_uLs, if_pos (by omega), if_pos (by omega)]; rfl
    · rw [pk_uLn (by omega)]
      by_cases e3 : r = i ∧ c = 3
      · obtain ⟨rfl, rfl⟩ := e3
        rw [pk_uLs, if_pos (by omega), if_pos (by omega)]; rfl
      · rw [pk_uLn (by omega), hW r c hr hc]
        show zL (yq_r (A r) (if r < i then 0 else V r) (if r < i then 0 else Q r) c) = _
        by_cases e5 : r = i
        · have c3 : c < 3 := by omega
          unfold yq_r
          rw [if_pos c3, if_pos c3]
        · by_cases l : r < i
          · rw [if_pos l, if_pos l, if_pos (by omega), if_pos (by omega)]
          · rw [if_neg l, if_neg l, if_neg (by omega), if_neg (by omega)]
theorem yw_op41 {post : Int32 → SY → Prop} (hd : (dir = 0 ∧ s = 1) ∨ (¬ dir = 0 ∧ s = -1)) (hC : rh_C v nf xco) (hB : rh_B nf n xbf xbk xbv) (hf : f < nf) (hft : rm_ft n xco xbf xbk xbv (fun _ => true))
    (KU : rz_cone n xco xbf xbk xbv (rz_cs xco f s) → ∀ yrs yke yrw ypt, post 0 (xv, xmf, xmb, xml, nI nf, nI n, xol, 1, 0, 0, yrs, xco, xbf, xbk, xbv, xbl, yke, yrw, ypt, ypi, ywe, ymu))
    (KB : ¬ rz_cone n xco xbf xbk xbv (rz_cs xco f s) → ∀ A V Q PV PQ D yrs yke yrw ypt, rh_L (fun _ => true) n xco xbf xbk xbv A V Q → rs_best (rh_n (fun _ => true) n) (yq_RP (rh_n (fun _ => true) n) A V Q) (yq_bf (rz_cs xco f s)) PV PQ D → yq_b PV PQ D → (rb_dot (rz_cf xco f) PQ = 0 → post 1 (xv, xmf, xmb, xml, nI nf, nI n, xol, 1, zL (rk_n (rb_dot (rz_cf xco f) PV) D), zL (rk_d (rb_dot (rz_cf xco f) PV) D), yrs, xco, xbf, xbk, xbv, xbl, yke, yrw, ypt, ypi, ywe, ymu)) ∧ (¬ rb_dot (rz_cf xco f) PQ = 0 → post 2 (xv, xmf, xmb, xml, nI nf, nI n, xol, 1, zL (rk_n (rb_dot (rz_cf xco f) PV) D), zL (rk_d (rb_dot (rz_cf xco f) PV) D), yrs, xco, xbf, xbk, xbv, xbl, yke, yrw, ypt, ypi, ywe, ymu))) : wY_optimize_41 post (nI f) dir xv xmf xmb xml (nI nf) (nI n) xol 1 yon yod yrs xco xbf xbk xbv xbl yke yrw ypt ypi ywe ymu := by
  have hn := hB.1
  unfold wY_optimize_41
  refine yw_ka (fun yke hk => ?_)
  have hk2 : ∀ j, j < n → yke j ≠ 0 := by
    intro j hj
    rw [hk j (by omega)]
    decide
  refine yw_lo (p := fun _ => true) hC hB (fun j hj => ⟨fun _ => hk2 j hj, fun _ => rfl⟩) (fun A V Q yrw hW hL => ?_)
  refine ⟨rh_n (fun _ => true) n + 1, yw_op61 hd hC hB hf hft hk2 hL (fun z yrs yrw ypt => KU z yrs yke yrw ypt) (fun z A V Q PV PQ D yrs yrw ypt => KB z A V Q PV PQ D yrs yke yrw ypt) (rh_n (fun _ => true) n) 0 (rh_n (fun _ => true) n + 1) _ (by omega) (by omega) ?_⟩
  intro r c hr hc
  rw [hW r c hr hc]
  show _ = zL (yq_r (A r) (if r < 0 then 0 else V r) (if r < 0 then 0 else Q r) c)
  rw [if_neg (by omega), if_neg (by omega)]
  rfl
end
/-! the component -/
section
variable {v n nf f of : Nat} {s σ : Int}
variable {xmf xmb xml xol xps xcc xho xrc xcr : Int32} {xpd xto xon xod xde xsp xsq xlp xlq xpn xpe : Int64} {xco xbf xbk xbv xbl xke xro xba xnb : Nat → Int32} {xpp xpq xmu xcf xrv xrd xta : Nat → Int64}
theorem xw_op46 {post : Int32 → SX → Prop} (hs : s = 1 ∨ s = -1) (hC : rh_C v nf xco) (hB : rh_B nf n xbf xbk xbv) (hf : f < nf) (hft : rm_ft n xco xbf xbk xbv (fun _ => true))
    (KU : rz_cone n xco xbf xbk xbv (rz_cs xco f s) → ∀ xrc xde xcr xsp xsq xlp xlq xke xcf xrv xrd xro xta xba xnb, post 0 (nI v, xmf, xmb, xml, nI nf, nI n, xol, 1, xpd, xps, xcc, xto, 0, xon, xod, xrc, nI f, zI s, xde, xcr, xsp, xsq, xlp, xlq, xpn, xpe, xco, xbf, xbk, xbv, xbl, xpp, xpq, xmu, xke, xcf, xrv, xrd, xro, xta, xba, xnb))
    (KB : ¬ rz_cone n xco xbf xbk xbv (rz_cs xco f s) → ∀ A V Q nb xrc xde xcr xsp xsq xlp xlq xpn xpe xke xcf xrv xrd xro xta xba xnb, rh_L (fun _ => true) n xco xbf xbk xbv A V Q → rs_b (rh_n (fun _ => true) n) A V Q → rc_gd (rf_G A) nb → (∀ k, k < 3 → nb k < 3 + rh_n (fun _ => true) n) → rg_F (rh_n (fun _ => true) n) A V Q nb → (∀ l, l < 3 → ¬ re_iu (rf_G A) nb (rz_cs xco f s) l) → zA (rc_vl (rf_G A) (rf_L Q) nb (rz_cs xco f s)) 144000 → zA (rc_den (rf_G A) nb) 48000 →
      (rc_vl (rf_G A) (rf_L Q) nb (rz_cs xco f s) = 0 → post 1 (nI v, xmf, xmb, xml, nI nf, nI n, xol, 1, xpd, xps, xcc, xto, 1, zL (rk_n (s * rc_vl (rf_G A) (rf_L V) nb (rz_cs xco f s)) (rc_den (rf_G A) nb)), zL (rk_d (s * rc_vl (rf_G A) (rf_L V) nb (rz_cs xco f s)) (rc_den (rf_G A) nb)), xrc, nI f, zI s, xde, xcr, xsp, xsq, xlp, xlq, xpn, xpe, xco, xbf, xbk, xbv, xbl, xpp, xpq, xmu, xke, xcf, xrv, xrd, xro, xta, xba, xnb)) ∧
      (¬ rc_vl (rf_G A) (rf_L Q) nb (rz_cs xco f s) = 0 → post 2 (nI v, xmf, xmb, xml, nI nf, nI n, xol, 1, xpd, xps, xcc, xto, 1, zL (rk_n (s * rc_vl (rf_G A) (rf_L V) nb (rz_cs xco f s)) (rc_den (rf_G A) nb)), zL (rk_d (s * rc_vl (rf_G A) (rf_L V) nb (rz_cs xco f s)) (rc_den (rf_G A) nb)), xrc, nI f, zI s, xde, xcr, xsp, xsq, xlp, xlq, xpn, xpe, xco, xbf, xbk, xbv, xbl, xpp, xpq, xmu, xke, xcf, xrv, xrd, xro, xta, xba, xnb))) : wX_optimize_46 post (nI f) (zI s) (nI v) xmf xmb xml (nI nf) (nI n) xol 1 xpd xps xcc xto xho xon xod xrc (nI of) (zI σ) xde xcr xsp xsq xlp xlq xpn xpe xco xbf xbk xbv xbl xpp xpq xmu xke xcf xrv xrd xro xta xba xnb := by
  have hn := hB.1
  have hv := hC.2.1
  have hle := rh_nle (fun _ => true) n
  have hs1 : zA s 1 := by unfold zA; omega
  unfold wX_optimize_46
  refine xw_la (p := fun _ => true) hC hB (fun j hj => ⟨fun _ => rz_m1 (by omega), fun _ => rfl⟩) (fun A V Q xke xcf xrv xrd xro hk1 hLd hL hO => ?_)
  have hO2 : rg_O v (rz_cs xco f s) f (zI s) xco := rh_Oc hC hf hs1
  refine xw_ff hLd.1 hLd.2.1 hLd.2.2 hO2 (fun nb bs xde xta xba xnb xsp xsq xlp xlq hT hF => br_f (by decide) ?_) (fun nb bs xde xta xba xnb xsp xsq xlp xlq r hT hX => ?_)
  · refine xw_mx hLd.1 hLd.2.2 hO2.2.1 hO2.2.2.1 hT hF (fun nb bs xde xta xba xnb xsp xsq xlp xlq hT hF hno => br_f (by decide) ?_) (fun nb bs xde xta xba xnb xsp xsq xlp xlq k hT hF hY => br_t rfl ?_)
    · have hl := rg_Nl hv hT.2.2.1
      have hG := fun k hk => rg_Gb hLd.1 (hl k hk)
      have b1 := rg_vlb (L := rf_L V) (c := 1000) hG hO2.2.1 (fun k hk => (rg_LV hLd.1 (hl k hk)).1)
      have b2 := rg_vlb (L := rf_L Q) (c := 1) hG hO2.2.1 (fun k hk => (rg_LV hLd.1 (hl k hk)).2)
      have bd := rg_deb hG
      have dp := rc_denp hT.1
      have KK := fun xrc xde xcr xsp xsq xlp xlq xpn xpe xke xcf xrv xrd xro xta xba xnb => KB (rz_c0 hL hT.1 hl hno) A V Q nb xrc xde xcr xsp xsq xlp xlq xpn xpe xke xcf xrv xrd xro xta xba xnb hL (rs_bL hC hB hL) hT.1 hl hF hno b2 bd
      have eden := hT.2.1
      subst eden
      have bs1 := rg_sgb hs b1
      have hred : (s * rc_vl (rf_G A) (rf_L V) nb (rz_cs xco f s)).natAbs * (rc_den (rf_G A) nb).natAbs < 2 ^ 97 := by
        have q1 := bs1.1
        have q2 := bs1.2
        have q3 := bd.2
        have : (s * rc_vl (rf_G A) (rf_L V) nb (rz_cs xco f s)).natAbs * (rc_den (rf_G A) nb).natAbs ≤ 144000000 * 48000 := Nat.mul_le_mul (by omega) (by omega)
        exact Nat.lt_of_le_of_lt this (by decide)
      unfold wX_optimize_81
      refine br_f (by decide) (xw_sumRow hv (by omega) (by omega) hT.2.2.1 hLd.2.2 hT.2.2.2.2.2.2.2 ?_)
      rw [show (0 : Int64) = zL 0 from rfl]
      have zs : (zI s).toInt64 = zL s := zI_L (by unfold zb; omega)
      refine br_c (fun h => ?_) (fun h => ?_)
      · have h' := (zL_eq (zA_B b2 (by omega)) zB_0).mp h
        unfold wX_optimize_117
        rw [zs, zL_mul]
        exact nm_e (xw_reduce (zA_B bs1 (by omega)) (zA_B bd (by omega)) dp hred ((KK _ _ _ _ _ _ _ _ _ _ _ _ _ _ _ _ _).1 h'))
      · have h' : ¬ rc_vl (rf_G A) (rf_L Q) nb (rz_cs xco f s) = 0 := fun z => h (by rw [z])
        unfold wX_optimize_117
        rw [zs, zL_mul]
        exact nm_e (xw_reduce (zA_B bs1 (by omega)) (zA_B bd (by omega)) dp hred ((KK _ _ _ _ _ _ _ _ _ _ _ _ _ _ _ _ _).2 h'))
    · unfold wX_optimize_80 wX_optimize_81
      exact br_t rfl (KU (rz_c1 hL hY) _ _ _ _ _ _ _ _ _ _ _ _ _ _ _)
  · exfalso
    obtain ⟨x, d, hx⟩ := hft
    exact rf_conf hT.1 (rg_Nl hv hT.2.2.1) hX.2.1 (rg_okl hv (hT.2.2.2.1 r hX.1).2.1) hX.2.2.1 hX.2.2.2 ((rm_feL hL _ _).mpr hx)
end
end
section
/-! optimize: the same answer -/
theorem rz_oE {n f : Nat} {s : Int} {C F K W : Nat → Int32} {A A' : Nat → Nat → Int} {V Q V' Q' : Nat → Int} {nb : Nat → Nat} {PV PQ : Nat → Int} {D : Int} (hs : s = 1 ∨ s = -1) (hcb : rb_bd (rz_cf C f) 20) (hL : rh_L (fun _ => true) n C F K W A V Q) (hL' : rh_L (fun _ => true) n C F K W A' V' Q') (g : rc_gd (rf_G A) nb) (hb : ∀ k, k < 3 → nb k < 3 + rh_n (fun _ => true) n) (hF : rg_F (rh_n (fun _ => true) n) A V Q nb) (hn : ∀ l, l < 3 → ¬ re_iu (rf_G A) nb (rz_cs C f s) l) (b2 : zA (rc_vl (rf_G A) (rf_L Q) nb (rz_cs C f s)) 144000) (bd : zA (rc_den (rf_G A) nb) 48000) (hbest : rs_best (rh_n (fun _ => true) n) (yq_RP (rh_n (fun _ => true) n) A' V' Q') (yq_bf (rz_cs C f s)) PV PQ D) (hbb : yq_b PV PQ D) :
    (rc_vl (rf_G A) (rf_L Q) nb (rz_cs C f s) = 0 ↔ rb_dot (rz_cf C f) PQ = 0) ∧ rk_n (s * rc_vl (rf_G A) (rf_L V) nb (rz_cs C f s)) (rc_den (rf_G A) nb) = rk_n (rb_dot (rz_cf C f) PV) D ∧ rk_d (s * rc_vl (rf_G A) (rf_L V) nb (rz_cs C f s)) (rc_den (rf_G A) nb) = rk_d (rb_dot (rz_cf C f) PV) D := by
  have e := rz_oeq hL hL' g hb hF hn hbest hbb.2.1
  have dp := rc_denp g
  have hD := hbb.2
  have zD : zA D 48000 := by unfold zA; omega
  have dQ : zA (rb_dot (rz_cf C f) PQ) 144000 := zA_w (zA_add (zA_add (zA_mul (hcb 0 (by omega)) (hbb.1 0 (by omega)).2) (zA_mul (hcb 1 (by omega)) (hbb.1 1 (by omega)).2)) (zA_mul (hcb 2 (by omega)) (hbb.1 2 (by omega)).2)) (by omega)
  have dcs : rb_dot (rz_cs C f s) (rh_x PV PQ) = s * rb_dot (rz_cf C f) PV * zM + s * rb_dot (rz_cf C f) PQ := by
    unfold rb_dot rz_cs rz_cf rh_x
    grind
  rw [rg_vl, dcs] at e
  have bQ := zA_w (d := 1000000000000000) (zA_sub (zA_mul b2 zD) (zA_mul bd (rg_sgb hs dQ))) (by omega)
  generalize rc_vl (rf_G A) (rf_L V) nb (rz_cs C f s) = a at *
  generalize rc_vl (rf_G A) (rf_L Q) nb (rz_cs C f s) = b at *
  generalize rb_dot (rz_cf C f) PV = x at *
  generalize rb_dot (rz_cf C f) PQ = y at *
  generalize rc_den (rf_G A) nb = d at *
  have k : (a * D - d * (s * x)) * zM + (b * D - d * (s * y)) = 0 := by grind
  obtain ⟨k1, k2⟩ := (zM_eq bQ).mp k
  have s2 : s * s = 1 := by rcases hs with rfl | rfl <;> rfl
  refine ⟨?_, ?_⟩
  · have h1 : b * D = s * y * d := by
      have : d * (s * y) = s * y * d := Int.mul_comm _ _
      omega
    have h2 := (rz_sgn dp hD.1 h1).2
    rw [h2]
    constructor
    · intro z
      rcases Int.mul_eq_zero.mp z with w | w
      · rcases hs with q | q <;> omega
      · exact w
    · intro z
      rw [z, Int.mul_zero]
  · refine rk_eq dp hD.1 ?_
    have h1 : a * D = d * (s * x) := by omega
    rw [Int.mul_assoc, h1]
    grind
theorem i_vc_optimize {k : Nat} {u : SX} {v : SY} (I : i_Rel k u v) (hk : k + 4 ≤ 2052) (v1 : Int32) (v2 : Int32) : wpX_optimize (fun r u' => wpY_optimize (fun r' v' => r' = r ∧ i_Rel (k + 4) u' v') v v1 v2) u v1 v2 := by
  refine zz_el (P := fun u v => wpX_optimize (fun r u' => wpY_optimize (fun r' v' => r' = r ∧ i_Rel (k + 4) u' v') v v1 v2) u v1 v2) I ?_
  intro v nf n mf mb ml ol of σ xst xpd xps xcc xto xho xon xod xrc xde xcr xsp xsq xlp xlq xpn xpe xco xbf xbk xbv xbl xpp xpq xmu xke xcf xrv xrd xro xta xba xnb yon yod yrs yke yrw ypt ypi ywe ymu q
  have R := zz_in (k := k + 4) (xrc := xrc) (xde := xde) (xcr := xcr) (xsp := xsp) (xsq := xsq) (xlp := xlp) (xlq := xlq) (xpn := xpn) (xpe := xpe) (xbl := xbl) (xke := xke) (xcf := xcf) (xrv := xrv) (xrd := xrd) (xro := xro) (xta := xta) (xba := xba) (xnb := xnb) (yrs := yrs) (yke := yke) (yrw := yrw) (ypt := ypt) (ypi := ypi) (ywe := ywe) (ymu := ymu) q
  obtain ⟨hC, hU, hB, ⟨a1, a2, a3, a4, a5, a6, a7, a8⟩, q5, q6⟩ := q
  have h9 := hC.2.2.2.1
  rcases q5 with s | ⟨s, s1⟩ | ⟨s, s1⟩
  · subst s; exact br_f (by decide) (br_f (by decide) ⟨rfl, R⟩)
  · subst s
    unfold wpX_optimize
    rcases rz_a1 v1 (n := nf) (by omega) with h | ⟨f, hf, rfl⟩
    · exact br_t rfl (xw_fxN h (br_t rfl (br_t rfl (yw_tb1 h ⟨rfl, R⟩))))
    · have hft : rm_ft n xco xbf xbk xbv (fun _ => true) := by
        obtain ⟨PV, PQ, D, kk, hpa, ⟨A, V, Q, g1, g2, g3, g4⟩, _, _⟩ := s1
        exact ⟨_, _, (rm_feL g1 _ _).mp g3⟩
      have hcb : rb_bd (rz_cf xco f) 20 := fun l hl => (hC.2.2.2.2 f hf l hl).1
      have go : ∀ (s : Int) (qs dir : Int32), qs = zI s → ((dir = 0 ∧ s = 1) ∨ (¬ dir = 0 ∧ s = -1)) → (∀ post : Int32 → SY → Prop, wY_optimize_41 post (nI f) dir (nI v) (nI mf) (nI mb) (nI ml) (nI nf) (nI n) (nI ol) 1 yon yod yrs xco xbf xbk xbv xbl yke yrw ypt ypi ywe ymu → wpY_optimize post (nI v, nI mf, nI mb, nI ml, nI nf, nI n, nI ol, 1, yon, yod, yrs, xco, xbf, xbk, xbv, xbl, yke, yrw, ypt, ypi, ywe, ymu) (nI f) dir) → wX_optimize_46 (fun r u' => wpY_optimize (fun r' v' => r' = r ∧ i_Rel (k + 4) u' v') (nI v, nI mf, nI mb, nI ml, nI nf, nI n, nI ol, 1, yon, yod, yrs, xco, xbf, xbk, xbv, xbl, yke, yrw, ypt, ypi, ywe, ymu) (nI f) dir) (nI f) qs (nI v) (nI mf) (nI mb) (nI ml) (nI nf) (nI n) (nI ol) 1 xpd xps xcc xto xho xon xod xrc (nI of) (zI σ) xde xcr xsp xsq xlp xlq xpn xpe xco xbf xbk xbv xbl xpp xpq xmu xke xcf xrv xrd xro xta xba xnb := by
        intro s qs dir es hd yto
        subst es
        have hs : s = 1 ∨ s = -1 := by
          rcases hd with w | w
          · exact Or.inl w.2
          · exact Or.inr w.2
        have hs1 : zA s 1 := by unfold zA; omega
        refine xw_op46 hs hC hB hf hft (fun hcone xrc xde xcr xsp xsq xlp xlq xke xcf xrv xrd xro xta xba xnb => ?_) (fun hno A V Q nb xrc xde xcr xsp xsq xlp xlq xpn xpe xke xcf xrv xrd xro xta xba xnb hL hbL g hl hF hnu b2 bd => ⟨fun hz => ?_, fun hz => ?_⟩)
        · refine yto _ (yw_op41 hd hC hB hf hft (fun _ yrs yke yrw ypt => ?_) (fun h => absurd hcone h))
          exact ⟨rfl, zz_in ⟨hC, hU, hB, ⟨a1, a2, a3, a4, a5, a6, hf, hs1⟩, Or.inr (Or.inl ⟨rfl, s1⟩), Or.inl ⟨rfl, rfl, rfl⟩⟩⟩
        · refine yto _ (yw_op41 hd hC hB hf hft (fun h => absurd h hno) (fun _ A' V' Q' PV PQ D yrs yke yrw ypt hL' hbest hbb => ?_))
          obtain ⟨o1, o2, o3⟩ := rz_oE hs hcb hL hL' g hl hF hnu b2 bd hbest hbb
          refine ⟨fun _ => ⟨rfl, ?_⟩, fun w => absurd (o1.mp hz) w⟩
          exact zz_in ⟨hC, hU, hB, ⟨a1, a2, a3, a4, a5, a6, hf, hs1⟩, Or.inr (Or.inl ⟨rfl, s1⟩), Or.inr ⟨rfl, by rw [o2], by rw [o3]⟩⟩
        · refine yto _ (yw_op41 hd hC hB hf hft (fun h => absurd h hno) (fun _ A' V' Q' PV PQ D yrs yke yrw ypt hL' hbest hbb => ?_))
          obtain ⟨o1, o2, o3⟩ := rz_oE hs hcb hL hL' g hl hF hnu b2 bd hbest hbb
          refine ⟨fun w => absurd (o1.mpr w) hz, fun _ => ⟨rfl, ?_⟩⟩
          exact zz_in ⟨hC, hU, hB, ⟨a1, a2, a3, a4, a5, a6, hf, hs1⟩, Or.inr (Or.inl ⟨rfl, s1⟩), Or.inr ⟨rfl, by rw [o2], by rw [o3]⟩⟩
      refine br_t rfl (xw_fxY h9 hf (br_f (by decide) ?_))
      by_cases e0 : v2 = 0
      · subst e0
        refine br_t rfl ?_
        unfold wX_optimize_37
        exact br_t rfl (go 1 1 0 zI_1 (Or.inl ⟨rfl, rfl⟩) (fun post K => br_t rfl (yw_tb2 h9 hf (br_t rfl K))))
      · by_cases e1 : v2 = 1
        · subst e1
          refine br_f (by decide) (br_t rfl ?_)
          unfold wX_optimize_37
          exact br_f (by decide) (go (-1) (-1) 1 zI_m1 (Or.inr ⟨by decide, rfl⟩) (fun post K => br_t rfl (yw_tb2 h9 hf (br_f (by decide) (br_t rfl K)))))
        · exact br_f e0 (br_f e1 (br_t rfl (yw_tb2 h9 hf (br_f e0 (br_f e1 ⟨rfl, R⟩)))))
  · subst s; exact br_f (by decide) (br_f (by decide) ⟨rfl, R⟩)
end
