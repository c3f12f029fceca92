section
/-! rows of the kit's PURE-ROWS and BITS, pasted (a starting text) -/
theorem pk_us {f : Nat → Int32} {k : Nat} {x : Int32} : upd f k x k = x := if_pos rfl
theorem pk_un {f : Nat → Int32} {k j : Nat} {x : Int32} (h : j ≠ k) : upd f k x j = f j := if_neg h
theorem pk_sub {a b : Nat} (h : b ≤ a) : nI a - nI b = nI (a - b) := by
  obtain ⟨c, rfl⟩ : ∃ c, a = c + b := ⟨a - b, by omega⟩
  rw [← nI_add, Int32.add_sub_cancel, Nat.add_sub_cancel]
theorem pk_m1 (n : Nat) : nI (n + 1) + (-1) = nI n := by
  rw [← nI_1, Int32.add_assoc, show (1 : Int32) + (-1) = 0 from rfl, Int32.add_zero]
theorem pk_mul (a b : Nat) : nI a * nI b = nI (a * b) := (Int32.ofNat_mul a b).symm
theorem pk_div {a d : Nat} (ha : a < 2 ^ 31) (h0 : 0 < d) (hd : d < 2 ^ 31) : nI a / nI d = nI (a / d) := by
  apply Int32.toInt_inj.mp
  rw [lg_idiv_nonneg (by rw [nI_toInt ha]; omega) (by rw [nI_toInt hd]; omega), nI_toInt ha, nI_toInt hd, nI_toInt (Nat.lt_of_le_of_lt (Nat.div_le_self a d) ha)]
  first | rfl | exact (Int.natCast_ediv _ _).symm
theorem pk_rem {a d : Nat} (ha : a < 2 ^ 31) (h0 : 0 < d) (hd : d < 2 ^ 31) : nI a - nI a / nI d * nI d = nI (a % d) := by
  rw [pk_div ha h0 hd, pk_mul, pk_sub (Nat.div_mul_le_self a d)]
  exact congrArg nI (by have := Nat.div_add_mod' a d; omega)
theorem pk_sub_toInt {a b : Nat} (ha : a < 2 ^ 30) (hb : b < 2 ^ 30) : (nI a - nI b).toInt = (a : Int) - b := by
  rw [Int32.toInt_sub, nI_toInt (by omega), nI_toInt (by omega)]
  exact Int.bmod_eq_of_le (by omega) (by omega)
theorem pk_sneg {a b : Nat} (hb : b < 2 ^ 30) (h : a < b) : nI a - nI b < 0 := by
  rw [Int32.lt_iff_toInt_lt, pk_sub_toInt (by omega) hb, show (0 : Int32).toInt = 0 from by decide]
  omega
theorem pk_ix (x : Int32) {n : Nat} (hn : n < 2 ^ 31) : x < 0 ∨ nI n ≤ x ∨ ∃ j : Nat, j < n ∧ x = nI j := by
  by_cases h : x < 0
  · exact Or.inl h
  · obtain ⟨j, hj, rfl⟩ := nI_of h
    by_cases h2 : j < n
    · exact Or.inr (Or.inr ⟨j, h2, rfl⟩)
    · exact Or.inr (Or.inl (nI_le (by omega) hj))
theorem pk_le {x y : Int32} {A B : Prop} (a b : Nat) (f : a ≤ b → A) (g : b < a → B) (hx : x = nI a := by rfl) (hy : y = nI b := by rfl) (ha : a < 2 ^ 31 := by omega) (hb : b < 2 ^ 31 := by omega) : (x ≤ y → A) ∧ (¬ x ≤ y → B) := by
  subst hx hy
  rw [nI_leI ha hb]
  exact ⟨f, fun z => g (by omega)⟩
theorem pk_lt {x y : Int32} {A B : Prop} (a b : Nat) (f : a < b → A) (g : b ≤ a → B) (hx : x = nI a := by rfl) (hy : y = nI b := by rfl) (ha : a < 2 ^ 31 := by omega) (hb : b < 2 ^ 31 := by omega) : (x < y → A) ∧ (¬ x < y → B) := by
  subst hx hy
  rw [nI_ltI ha hb]
  exact ⟨f, fun z => g (by omega)⟩
theorem pk_eq {x y : Int32} {A B : Prop} (a b : Nat) (f : a = b → A) (g : a ≠ b → B) (hx : x = nI a := by rfl) (hy : y = nI b := by rfl) (ha : a < 2 ^ 31 := by omega) (hb : b < 2 ^ 31 := by omega) : (x = y → A) ∧ (¬ x = y → B) := by
  subst hx hy
  rw [nI_eq ha hb]
  exact ⟨f, g⟩
theorem pk_in {x : Int32} (n N : Nat) (h : n < N) (hx : x = nI n := by rfl) (hN : N < 2 ^ 31 := by omega) : vp_in x N := by
  subst hx
  exact vp_in_nI h hN
theorem pk_cl {x : Int32} (n : Nat) (hx : x = nI n := by rfl) (h : n < 2 ^ 31 := by omega) : x.toNatClampNeg = n := by
  subst hx
  exact nI_clamp h
theorem pk_least (P : Nat → Prop) (h : ∃ k, P k) : ∃ k, P k ∧ ∀ j, j < k → ¬ P j := by
  obtain ⟨k, hk⟩ := h
  induction k using Nat.strongRecOn with
  | ind k ih =>
    by_cases e : ∃ j, j < k ∧ P j
    · obtain ⟨j, hj, pj⟩ := e
      exact ih j hj pj
    · exact ⟨k, hk, fun j hj pj => e ⟨j, hj, pj⟩⟩
def bt (x : Int32) (i : Nat) : Bool := x.toBitVec.getLsbD i
theorem b_ext {x y : Int32} (h : ∀ i, i < 32 → bt x i = bt y i) : x = y := Int32.toBitVec_inj.mp (BitVec.eq_of_getLsbD_eq (fun i hi => h i hi))
theorem b_or (x y : Int32) (i : Nat) : bt (x ||| y) i = (bt x i || bt y i) := by unfold bt; rw [Int32.toBitVec_or, BitVec.getLsbD_or]
theorem b_and (x y : Int32) (i : Nat) : bt (x &&& y) i = (bt x i && bt y i) := by unfold bt; rw [Int32.toBitVec_and, BitVec.getLsbD_and]
theorem b_xor (x y : Int32) (i : Nat) : bt (x ^^^ y) i = (bt x i ^^ bt y i) := by unfold bt; rw [Int32.toBitVec_xor, BitVec.getLsbD_xor]
theorem b_big {x : Int32} {i : Nat} (h : 32 ≤ i) : bt x i = false := BitVec.getLsbD_of_ge _ _ h
theorem b_255 (i : Nat) : bt 255 i = decide (i < 8) := by
  rcases Nat.lt_or_ge i 32 with h | h
  · exact (by decide +kernel : ∀ i, i < 32 → bt 255 i = decide (i < 8)) i h
  · rw [b_big h, decide_eq_false (by omega)]
theorem b_m1 : ∀ i, i < 32 → bt (-1) i = true := by decide +kernel
theorem b_0 (i : Nat) : bt 0 i = false := BitVec.getLsbD_zero
theorem s_l : ∀ n, n < 32 → ((nI n &&& 31).toBitVec.smod 32).toNat = n := by decide +kernel
theorem b_shl (n : Nat) (hn : n < 32) (x : Int32) {i : Nat} (hi : i < 32) : bt (x <<< (nI n &&& 31)) i = (decide (n ≤ i) && bt x (i - n)) := by
  unfold bt
  rw [Int32.toBitVec_shiftLeft]
  show (x.toBitVec <<< ((nI n &&& 31).toBitVec.smod 32).toNat).getLsbD i = _
  rw [s_l n hn, BitVec.getLsbD_shiftLeft]
  rcases Nat.lt_or_ge i n with h | h
  · simp [h, Nat.not_le.mpr h]
  · simp [hi, h, Nat.not_lt.mpr h]
theorem b_sshr (n : Nat) (hn : n < 32) (x : Int32) {i : Nat} (hi : i < 32) : bt (x >>> (nI n &&& 31)) i = if n + i < 32 then bt x (n + i) else bt x 31 := by
  unfold bt
  rw [Int32.toBitVec_shiftRight]
  show (x.toBitVec.sshiftRight ((nI n &&& 31).toBitVec.smod 32).toNat).getLsbD i = _
  rw [s_l n hn, BitVec.getLsbD_sshiftRight, BitVec.msb_eq_getLsbD_last]
  simp [hi]
end
section
/-! numbers of keys: the digits to the base 7, and their reversal; widths of folders -/
def bv_rv (k : Nat) : Nat := k / 343 + 7 * (k / 49 % 7) + 49 * (k / 7 % 7) + 343 * (k % 7)
theorem bv_dgs {k : Nat} (h : k < 2401) : ∃ a b c d : Nat, a < 7 ∧ b < 7 ∧ c < 7 ∧ d < 7 ∧ k = 343 * a + 49 * b + 7 * c + d :=
  ⟨k / 343, k / 49 % 7, k / 7 % 7, k % 7, by omega, by omega, by omega, by omega, by omega⟩
theorem bv_rv_d {a b c d : Nat} (ha : a < 7) (hb : b < 7) (hc : c < 7) (hd : d < 7) : bv_rv (343 * a + 49 * b + 7 * c + d) = a + 7 * b + 49 * c + 343 * d := by
  unfold bv_rv
  have e1 : (343 * a + 49 * b + 7 * c + d) / 343 = a := by omega
  have e2 : (343 * a + 49 * b + 7 * c + d) / 49 % 7 = b := by omega
  have e3 : (343 * a + 49 * b + 7 * c + d) / 7 % 7 = c := by omega
  have e4 : (343 * a + 49 * b + 7 * c + d) % 7 = d := by omega
  rw [e1, e2, e3, e4]
theorem bv_rv_lt {k : Nat} (h : k < 2401) : bv_rv k < 2401 := by
  obtain ⟨a, b, c, d, ha, hb, hc, hd, rfl⟩ := bv_dgs h
  rw [bv_rv_d ha hb hc hd]; omega
theorem bv_rv_inj {k k' : Nat} (h : k < 2401) (h' : k' < 2401) (e : bv_rv k = bv_rv k') : k = k' := by
  obtain ⟨a, b, c, d, ha, hb, hc, hd, rfl⟩ := bv_dgs h
  obtain ⟨a', b', c', d', ha', hb', hc', hd', rfl⟩ := bv_dgs h'
  rw [bv_rv_d ha hb hc hd, bv_rv_d ha' hb' hc' hd'] at e
  omega
theorem bv_rv_0 : bv_rv 0 = 0 := rfl
theorem bv_rv_pos {k : Nat} (h : k < 2401) (h0 : 0 < k) : 0 < bv_rv k := by
  obtain ⟨a, b, c, d, ha, hb, hc, hd, rfl⟩ := bv_dgs h
  rw [bv_rv_d ha hb hc hd]; omega
/-- what a digit counts at a place (X) -/
def bv_un : Nat → Nat
  | 0 => 343
  | 1 => 49
  | 2 => 7
  | _ => 1
/-- the same of the reversed number (Y) -/
def bv_pw : Nat → Nat
  | 0 => 1
  | 1 => 7
  | 2 => 49
  | 3 => 343
  | _ => 2401
/-- the digit of a key (X code) at a place -/
def bv_dg (k : Nat) : Nat → Nat
  | 0 => k / 343 % 7
  | 1 => k / 49 % 7
  | 2 => k / 7 % 7
  | _ => k % 7
theorem bv_p4 {p : Nat} (h : p < 4) : p = 0 ∨ p = 1 ∨ p = 2 ∨ p = 3 := by omega
theorem bv_t4 {p : Nat} (h : p ≤ 4) : p = 0 ∨ p = 1 ∨ p = 2 ∨ p = 3 ∨ p = 4 := by omega
theorem bv_dg_x {k p : Nat} (hp : p < 4) : k / bv_un p % 7 = bv_dg k p := by
  rcases bv_p4 hp with rfl | rfl | rfl | rfl
  · rfl
  · rfl
  · rfl
  · show k / 1 % 7 = k % 7; rw [Nat.div_one]
theorem bv_dx {a b c d : Nat} (ha : a < 7) (hb : b < 7) (hc : c < 7) (hd : d < 7) : (343 * a + 49 * b + 7 * c + d) / 343 % 7 = a ∧ (343 * a + 49 * b + 7 * c + d) / 49 % 7 = b ∧ (343 * a + 49 * b + 7 * c + d) / 7 % 7 = c ∧ (343 * a + 49 * b + 7 * c + d) % 7 = d := by
  have e1 : (343 * a + 49 * b + 7 * c + d) / 343 = a := by omega
  have e2 : (343 * a + 49 * b + 7 * c + d) / 49 = 7 * a + b := by omega
  have e3 : (343 * a + 49 * b + 7 * c + d) / 7 = 49 * a + 7 * b + c := by omega
  rw [e1, e2, e3]
  omega
theorem bv_dy {a b c d : Nat} (ha : a < 7) (hb : b < 7) (hc : c < 7) (hd : d < 7) : (a + 7 * b + 49 * c + 343 * d) / 1 % 7 = a ∧ (a + 7 * b + 49 * c + 343 * d) / 7 % 7 = b ∧ (a + 7 * b + 49 * c + 343 * d) / 49 % 7 = c ∧ (a + 7 * b + 49 * c + 343 * d) / 343 % 7 = d := by
  have e1 : (a + 7 * b + 49 * c + 343 * d) / 343 = d := by omega
  have e2 : (a + 7 * b + 49 * c + 343 * d) / 49 = 7 * d + c := by omega
  have e3 : (a + 7 * b + 49 * c + 343 * d) / 7 = 49 * d + 7 * c + b := by omega
  rw [e1, e2, e3]
  omega
theorem bv_dg_y {k p : Nat} (hk : k < 2401) (hp : p < 4) : bv_rv k / bv_pw p % 7 = bv_dg k p := by
  obtain ⟨a, b, c, d, ha, hb, hc, hd, rfl⟩ := bv_dgs hk
  rw [bv_rv_d ha hb hc hd]
  have x := bv_dx ha hb hc hd
  have y := bv_dy ha hb hc hd
  rcases bv_p4 hp with rfl | rfl | rfl | rfl
  · exact y.1.trans x.1.symm
  · exact y.2.1.trans x.2.1.symm
  · exact y.2.2.1.trans x.2.2.1.symm
  · exact y.2.2.2.trans x.2.2.2.symm
theorem bv_dg_lt {k p : Nat} : bv_dg k p < 7 := by
  match p with
  | 0 => show k / 343 % 7 < 7; omega
  | 1 => show k / 49 % 7 < 7; omega
  | 2 => show k / 7 % 7 < 7; omega
  | _ + 3 => show k % 7 < 7; omega
/-- the buffer's span: 7 ^ (4 - t) -/
def bv_sp : Nat → Nat
  | 0 => 2401
  | 1 => 343
  | 2 => 49
  | 3 => 7
  | _ => 1
/-- a typed buffer -/
def bv_B (t B : Nat) : Prop := t ≤ 4 ∧ B + bv_sp t ≤ 2401 ∧ B % bv_sp t = 0 ∧ (0 < t → 0 < B)
theorem bv_B_lt {t B : Nat} (h : bv_B t B) : B < 2401 := by
  obtain ⟨h1, h2, _⟩ := h
  have : 0 < bv_sp t := by rcases bv_t4 h1 with rfl | rfl | rfl | rfl | rfl <;> decide
  omega
theorem bv_B_0 {B : Nat} (h : bv_B 0 B) : B = 0 := by
  obtain ⟨_, h2, _⟩ := h
  have : bv_sp 0 = 2401 := rfl
  omega
theorem bv_dg0 {k : Nat} : bv_dg k 0 = k / 343 % 7 := rfl
theorem bv_dg1 {k : Nat} : bv_dg k 1 = k / 49 % 7 := rfl
theorem bv_dg2 {k : Nat} : bv_dg k 2 = k / 7 % 7 := rfl
theorem bv_dg3 {k : Nat} : bv_dg k 3 = k % 7 := rfl
theorem bv_sp0 : bv_sp 0 = 2401 := rfl
theorem bv_sp1 : bv_sp 1 = 343 := rfl
theorem bv_sp2 : bv_sp 2 = 49 := rfl
theorem bv_sp3 : bv_sp 3 = 7 := rfl
theorem bv_sp4 : bv_sp 4 = 1 := rfl
theorem bv_un0 : bv_un 0 = 343 := rfl
theorem bv_un1 : bv_un 1 = 49 := rfl
theorem bv_un2 : bv_un 2 = 7 := rfl
theorem bv_un3 : bv_un 3 = 1 := rfl
theorem bv_pw0 : bv_pw 0 = 1 := rfl
theorem bv_pw1 : bv_pw 1 = 7 := rfl
theorem bv_pw2 : bv_pw 2 = 49 := rfl
theorem bv_pw3 : bv_pw 3 = 343 := rfl
theorem bv_pw4 : bv_pw 4 = 2401 := rfl
theorem bv_un_in {p : Nat} : 0 < bv_un p ∧ bv_un p ≤ 343 := by
  match p with
  | 0 => exact ⟨by decide, by decide⟩
  | 1 => exact ⟨by decide, by decide⟩
  | 2 => exact ⟨by decide, by decide⟩
  | _ + 3 => exact ⟨Nat.zero_lt_one, show 1 ≤ 343 by decide⟩
/-- typing a letter -/
theorem bv_B_type {t B l : Nat} (h : bv_B t B) (ht : t < 4) (hl : l < 6) : bv_B (t + 1) (B + (l + 1) * bv_un t) ∧ bv_rv (B + (l + 1) * bv_un t) = bv_rv B + (l + 1) * bv_pw t := by
  have hB := bv_B_lt h
  obtain ⟨h1, h2, h3, h4⟩ := h
  obtain ⟨a, b, c, d, ha, hb, hc, hd, rfl⟩ := bv_dgs hB
  have hl' : l + 1 < 7 := by omega
  have hl0 : 0 < l + 1 := by omega
  generalize l + 1 = e at hl' hl0 ⊢
  have z : 0 < 7 := by decide
  rcases bv_p4 ht with rfl | rfl | rfl | rfl
  · rw [bv_sp0] at h2 h3
    have q : a = 0 ∧ b = 0 ∧ c = 0 ∧ d = 0 := by omega
    obtain ⟨rfl, rfl, rfl, rfl⟩ := q
    have e1 : 343 * 0 + 49 * 0 + 7 * 0 + 0 + e * 343 = 343 * e + 49 * 0 + 7 * 0 + 0 := by omega
    rw [bv_un0, bv_pw0, e1, bv_rv_d hl' z z z, bv_rv_d z z z z]
    exact ⟨⟨by omega, by rw [bv_sp1]; omega, by rw [bv_sp1]; omega, fun _ => by omega⟩, by omega⟩
  · rw [bv_sp1] at h2 h3
    have q : b = 0 ∧ c = 0 ∧ d = 0 := by omega
    obtain ⟨rfl, rfl, rfl⟩ := q
    have e1 : 343 * a + 49 * 0 + 7 * 0 + 0 + e * 49 = 343 * a + 49 * e + 7 * 0 + 0 := by omega
    rw [bv_un1, bv_pw1, e1, bv_rv_d ha hl' z z, bv_rv_d ha z z z]
    exact ⟨⟨by omega, by rw [bv_sp2]; omega, by rw [bv_sp2]; omega, fun _ => by omega⟩, by omega⟩
  · rw [bv_sp2] at h2 h3
    have q : c = 0 ∧ d = 0 := by omega
    obtain ⟨rfl, rfl⟩ := q
    have e1 : 343 * a + 49 * b + 7 * 0 + 0 + e * 7 = 343 * a + 49 * b + 7 * e + 0 := by omega
    rw [bv_un2, bv_pw2, e1, bv_rv_d ha hb hl' z, bv_rv_d ha hb z z]
    exact ⟨⟨by omega, by rw [bv_sp3]; omega, by rw [bv_sp3]; omega, fun _ => by omega⟩, by omega⟩
  · rw [bv_sp3] at h2 h3
    have q : d = 0 := by omega
    subst q
    have e1 : 343 * a + 49 * b + 7 * c + 0 + e * 1 = 343 * a + 49 * b + 7 * c + e := by omega
    rw [bv_un3, bv_pw3, e1, bv_rv_d ha hb hc hl', bv_rv_d ha hb hc z]
    exact ⟨⟨by omega, by rw [bv_sp4]; omega, by rw [bv_sp4]; omega, fun _ => by omega⟩, by omega⟩
/-- a key lies under the buffer: by its digits, by its number -/
theorem bv_range {t B K : Nat} (h : bv_B t B) (hK : K < 2401) : (∀ p, p < t → bv_dg K p = bv_dg B p) ↔ (B ≤ K ∧ K < B + bv_sp t) := by
  obtain ⟨h1, h2, h3, h4⟩ := h
  rcases bv_t4 h1 with rfl | rfl | rfl | rfl | rfl
  · rw [bv_sp0] at h2 h3 ⊢
    exact ⟨fun _ => by omega, fun _ p hp => by omega⟩
  · rw [bv_sp1] at h2 h3 ⊢
    constructor
    · intro g
      have g0 := g 0 (by omega)
      rw [bv_dg0, bv_dg0] at g0
      omega
    · intro g p hp
      have : p = 0 := by omega
      subst this
      rw [bv_dg0, bv_dg0]
      omega
  · rw [bv_sp2] at h2 h3 ⊢
    constructor
    · intro g
      have g0 := g 0 (by omega)
      have g1 := g 1 (by omega)
      rw [bv_dg0, bv_dg0] at g0
      rw [bv_dg1, bv_dg1] at g1
      omega
    · intro g p hp
      have c : p = 0 ∨ p = 1 := by omega
      rcases c with rfl | rfl
      · rw [bv_dg0, bv_dg0]; omega
      · rw [bv_dg1, bv_dg1]; omega
  · rw [bv_sp3] at h2 h3 ⊢
    constructor
    · intro g
      have g0 := g 0 (by omega)
      have g1 := g 1 (by omega)
      have g2 := g 2 (by omega)
      rw [bv_dg0, bv_dg0] at g0
      rw [bv_dg1, bv_dg1] at g1
      rw [bv_dg2, bv_dg2] at g2
      omega
    · intro g p hp
      have c : p = 0 ∨ p = 1 ∨ p = 2 := by omega
      rcases c with rfl | rfl | rfl
      · rw [bv_dg0, bv_dg0]; omega
      · rw [bv_dg1, bv_dg1]; omega
      · rw [bv_dg2, bv_dg2]; omega
  · rw [bv_sp4] at h2 h3 ⊢
    constructor
    · intro g
      have g0 := g 0 (by omega)
      have g1 := g 1 (by omega)
      have g2 := g 2 (by omega)
      have g3 := g 3 (by omega)
      rw [bv_dg0, bv_dg0] at g0
      rw [bv_dg1, bv_dg1] at g1
      rw [bv_dg2, bv_dg2] at g2
      rw [bv_dg3, bv_dg3] at g3
      omega
    · intro g p hp
      have e : K = B := by omega
      rw [e]
/-- the order of keys by their digits -/
theorem bv_cmp {a b p : Nat} (ha : a < 2401) (hb : b < 2401) (hp : p < 4) (he : ∀ p', p' < p → bv_dg a p' = bv_dg b p') (hn : bv_dg a p ≠ bv_dg b p) : a < b ↔ bv_dg a p < bv_dg b p := by
  rcases bv_p4 hp with rfl | rfl | rfl | rfl
  · rw [bv_dg0, bv_dg0] at hn ⊢; omega
  · have g0 := he 0 (by omega)
    rw [bv_dg0, bv_dg0] at g0; rw [bv_dg1, bv_dg1] at hn ⊢; omega
  · have g0 := he 0 (by omega)
    have g1 := he 1 (by omega)
    rw [bv_dg0, bv_dg0] at g0; rw [bv_dg1, bv_dg1] at g1; rw [bv_dg2, bv_dg2] at hn ⊢; omega
  · have g0 := he 0 (by omega)
    have g1 := he 1 (by omega)
    have g2 := he 2 (by omega)
    rw [bv_dg0, bv_dg0] at g0; rw [bv_dg1, bv_dg1] at g1; rw [bv_dg2, bv_dg2] at g2; rw [bv_dg3, bv_dg3] at hn ⊢; omega
theorem bv_cmp4 {a b : Nat} (ha : a < 2401) (hb : b < 2401) (he : ∀ p', p' < 4 → bv_dg a p' = bv_dg b p') : a = b := by
  have g0 := he 0 (by omega)
  have g1 := he 1 (by omega)
  have g2 := he 2 (by omega)
  have g3 := he 3 (by omega)
  rw [bv_dg0, bv_dg0] at g0; rw [bv_dg1, bv_dg1] at g1; rw [bv_dg2, bv_dg2] at g2; rw [bv_dg3, bv_dg3] at g3; omega
/-- the width of a key's entry: 1, or what its first folder letter behind the buffer's letters counts -/
def bv_wd (t K : Nat) : Nat := if t = 0 ∧ K / 343 % 7 = 6 then 343 else if t ≤ 1 ∧ K / 49 % 7 = 6 then 49 else if t ≤ 2 ∧ K / 7 % 7 = 6 then 7 else 1
def bv_wf (fo : Int32) (t K : Nat) : Nat := if fo = 0 then 1 else bv_wd t K
def bv_en (fo : Int32) (t K : Nat) : Nat := K - K % bv_wf fo t K
theorem bv_wd_no {t K : Nat} (h : ∀ p, t ≤ p → p < 4 → bv_dg K p ≠ 6) : bv_wd t K = 1 := by
  have g0 := h 0
  have g1 := fun z => h 1 z (by decide)
  have g2 := fun z => h 2 z (by decide)
  rw [bv_dg0] at g0; rw [bv_dg1] at g1; rw [bv_dg2] at g2
  unfold bv_wd
  rw [if_neg (fun z => g0 (by omega) (by decide) z.2), if_neg (fun z => g1 z.1 z.2), if_neg (fun z => g2 z.1 z.2)]
theorem bv_wd_at {t K p : Nat} (hp : p < 4) (htp : t ≤ p) (h6 : bv_dg K p = 6) (h : ∀ p', t ≤ p' → p' < p → bv_dg K p' ≠ 6) : bv_wd t K = bv_un p := by
  rcases bv_p4 hp with rfl | rfl | rfl | rfl
  · rw [bv_dg0] at h6
    unfold bv_wd
    rw [if_pos ⟨by omega, h6⟩]; rfl
  · rw [bv_dg1] at h6
    have g0 := h 0
    rw [bv_dg0] at g0
    unfold bv_wd
    rw [if_neg (fun z => g0 (by omega) (by decide) z.2), if_pos ⟨htp, h6⟩]; rfl
  · rw [bv_dg2] at h6
    have g0 := h 0
    have g1 := h 1
    rw [bv_dg0] at g0; rw [bv_dg1] at g1
    unfold bv_wd
    rw [if_neg (fun z => g0 (by omega) (by decide) z.2), if_neg (fun z => g1 z.1 (by decide) z.2), if_pos ⟨htp, h6⟩]; rfl
  · have g0 := h 0
    have g1 := h 1
    have g2 := h 2
    rw [bv_dg0] at g0; rw [bv_dg1] at g1; rw [bv_dg2] at g2
    unfold bv_wd
    rw [if_neg (fun z => g0 (by omega) (by decide) z.2), if_neg (fun z => g1 z.1 (by decide) z.2), if_neg (fun z => g2 z.1 (by decide) z.2)]; rfl
theorem bv_wd_c (t K : Nat) : (bv_wd t K = 343 ∧ t = 0 ∧ K / 343 % 7 = 6) ∨ (bv_wd t K = 49 ∧ ¬ (t = 0 ∧ K / 343 % 7 = 6) ∧ t ≤ 1 ∧ K / 49 % 7 = 6) ∨ (bv_wd t K = 7 ∧ ¬ (t = 0 ∧ K / 343 % 7 = 6) ∧ ¬ (t ≤ 1 ∧ K / 49 % 7 = 6) ∧ t ≤ 2 ∧ K / 7 % 7 = 6) ∨ (bv_wd t K = 1 ∧ ¬ (t = 0 ∧ K / 343 % 7 = 6) ∧ ¬ (t ≤ 1 ∧ K / 49 % 7 = 6) ∧ ¬ (t ≤ 2 ∧ K / 7 % 7 = 6)) := by
  unfold bv_wd
  by_cases h1 : t = 0 ∧ K / 343 % 7 = 6
  · rw [if_pos h1]; exact Or.inl ⟨rfl, h1⟩
  · rw [if_neg h1]
    by_cases h2 : t ≤ 1 ∧ K / 49 % 7 = 6
    · rw [if_pos h2]; exact Or.inr (Or.inl ⟨rfl, h1, h2⟩)
    · rw [if_neg h2]
      by_cases h3 : t ≤ 2 ∧ K / 7 % 7 = 6
      · rw [if_pos h3]; exact Or.inr (Or.inr (Or.inl ⟨rfl, h1, h2, h3⟩))
      · rw [if_neg h3]; exact Or.inr (Or.inr (Or.inr ⟨rfl, h1, h2, h3⟩))
theorem bv_wd_in (t K : Nat) : 0 < bv_wd t K ∧ bv_wd t K ≤ 343 := by
  rcases bv_wd_c t K with h | h | h | h <;> (rw [h.1]; exact ⟨by decide, by decide⟩)
/-- THE LAW OF ENTRIES: behind the span of one key's entry lie just the keys with a later entry -/
theorem bv_law_d {t K K' : Nat} (hK : K < 2401) (hK' : K' < 2401) : K - K % bv_wd t K + bv_wd t K ≤ K' ↔ K - K % bv_wd t K < K' - K' % bv_wd t K' := by
  rcases bv_wd_c t K with h | h | h | h <;> rcases bv_wd_c t K' with h' | h' | h' | h' <;> rw [h.1, h'.1] <;> omega
theorem bv_law {fo : Int32} {t K K' : Nat} (hK : K < 2401) (hK' : K' < 2401) : bv_en fo t K + bv_wf fo t K ≤ K' ↔ bv_en fo t K < bv_en fo t K' := by
  unfold bv_en bv_wf
  by_cases h : fo = 0
  · rw [if_pos h, if_pos h]; omega
  · rw [if_neg h, if_neg h]; exact bv_law_d hK hK'
theorem bv_wf_in (fo : Int32) (t K : Nat) : 0 < bv_wf fo t K ∧ bv_wf fo t K ≤ 343 := by
  unfold bv_wf
  by_cases h : fo = 0
  · rw [if_pos h]; exact ⟨by decide, by decide⟩
  · rw [if_neg h]; exact bv_wd_in t K
theorem bv_en_le {fo : Int32} {t K : Nat} : bv_en fo t K ≤ K := Nat.sub_le _ _
theorem bv_en_gt {fo : Int32} {t K : Nat} : K < bv_en fo t K + bv_wf fo t K := by
  have h := Nat.mod_lt K (bv_wf_in fo t K).1
  have h2 := Nat.mod_le K (bv_wf fo t K)
  unfold bv_en
  omega
theorem bv_en_pos {fo : Int32} {t K : Nat} (h0 : 0 < K) : 0 < bv_en fo t K := by
  unfold bv_en bv_wf
  by_cases h : fo = 0
  · rw [if_pos h]; omega
  · rw [if_neg h]
    rcases bv_wd_c t K with h | h | h | h <;> rw [h.1] <;> omega
theorem bv_en_mono {fo : Int32} {t K K' : Nat} (hK : K < 2401) (hK' : K' < 2401) (h : K ≤ K') : bv_en fo t K ≤ bv_en fo t K' := by
  apply Nat.le_of_not_lt
  intro z
  have := (bv_law (fo := fo) (t := t) hK' hK).mpr z
  have := bv_en_gt (fo := fo) (t := t) (K := K')
  omega
/-- Y's cut of a reversed key -/
theorem bv_rv_tr {K p : Nat} (hK : K < 2401) (hp : p < 4) : bv_rv K % bv_pw (p + 1) = bv_rv (K - K % bv_un p) := by
  obtain ⟨a, b, c, d, ha, hb, hc, hd, rfl⟩ := bv_dgs hK
  have z : 0 < 7 := by decide
  rw [bv_rv_d ha hb hc hd]
  rcases bv_p4 hp with rfl | rfl | rfl | rfl
  · have e1 : 343 * a + 49 * b + 7 * c + d - (343 * a + 49 * b + 7 * c + d) % 343 = 343 * a + 49 * 0 + 7 * 0 + 0 := by omega
    rw [bv_un0, show bv_pw (0 + 1) = 7 from rfl, e1, bv_rv_d ha z z z]; omega
  · have e1 : 343 * a + 49 * b + 7 * c + d - (343 * a + 49 * b + 7 * c + d) % 49 = 343 * a + 49 * b + 7 * 0 + 0 := by omega
    rw [bv_un1, show bv_pw (1 + 1) = 49 from rfl, e1, bv_rv_d ha hb z z]; omega
  · have e1 : 343 * a + 49 * b + 7 * c + d - (343 * a + 49 * b + 7 * c + d) % 7 = 343 * a + 49 * b + 7 * c + 0 := by omega
    rw [bv_un2, show bv_pw (2 + 1) = 343 from rfl, e1, bv_rv_d ha hb hc z]; omega
  · have e1 : 343 * a + 49 * b + 7 * c + d - (343 * a + 49 * b + 7 * c + d) % 1 = 343 * a + 49 * b + 7 * c + d := by omega
    rw [bv_un3, show bv_pw (3 + 1) = 2401 from rfl, e1, bv_rv_d ha hb hc hd]; omega
/-- X's code of an entry: digits from the last place on -/
theorem bv_code {e : Nat} (he : e < 2401) : ((bv_dg e 3 * 7 + bv_dg e 2) * 7 + bv_dg e 1) * 7 + bv_dg e 0 = bv_rv e := by
  rw [bv_dg0, bv_dg1, bv_dg2, bv_dg3]
  unfold bv_rv
  omega
end
section
/-! chains and lists of slots -/
def bv_hd : List Nat → Int32
  | [] => -1
  | a :: _ => nI a
def bv_ch (o : Nat → Int32) : List Nat → Prop
  | [] => True
  | a :: t => o a = bv_hd t ∧ bv_ch o t
def bv_cn (kf : Nat → Nat) (m : List Nat) (K : Nat) : List Nat := (m.filter (fun v => decide (kf v = K))).reverse
theorem bv_cn_mem {kf : Nat → Nat} {m : List Nat} {K v : Nat} : v ∈ bv_cn kf m K ↔ v ∈ m ∧ kf v = K := by
  simp [bv_cn]
theorem bv_nd_rev {l : List Nat} (h : l.Nodup) : l.reverse.Nodup := List.pairwise_reverse.mpr (List.Pairwise.imp (fun h => Ne.symm h) h)
theorem bv_nd_fil {l : List Nat} {p : Nat → Bool} (h : l.Nodup) : (l.filter p).Nodup := List.Sublist.nodup List.filter_sublist h
theorem bv_cn_nd {kf : Nat → Nat} {m : List Nat} {K : Nat} (h : m.Nodup) : (bv_cn kf m K).Nodup := bv_nd_rev (bv_nd_fil h)
theorem bv_cn_app {kf : Nat → Nat} {a b : List Nat} {K : Nat} : bv_cn kf (a ++ b) K = bv_cn kf b K ++ bv_cn kf a K := by
  simp [bv_cn]
theorem bv_cn_nil {kf : Nat → Nat} {K : Nat} : bv_cn kf [] K = [] := rfl
theorem bv_cn_one {kf : Nat → Nat} {v K : Nat} (h : kf v = K) : bv_cn kf [v] K = [v] := by
  simp [bv_cn, h]
theorem bv_cn_one' {kf : Nat → Nat} {v K : Nat} (h : kf v ≠ K) : bv_cn kf [v] K = [] := by
  simp [bv_cn, h]
theorem bv_cn_fil {kf : Nat → Nat} {m : List Nat} {K : Nat} {p : Nat → Bool} : bv_cn kf (m.filter p) K = (bv_cn kf m K).filter p := by
  unfold bv_cn
  rw [List.filter_reverse, List.filter_filter, List.filter_filter]
  congr 2
  funext a
  exact Bool.and_comm _ _
theorem bv_cn_len {kf : Nat → Nat} {m : List Nat} {K : Nat} : (bv_cn kf m K).length ≤ m.length := by
  unfold bv_cn
  rw [List.length_reverse]
  exact List.length_filter_le _ _
def bv_uk (kf : Nat → Nat) (v q : Nat) : Nat → Nat := fun j => if j = v then q else kf j
theorem bv_uk_s {kf : Nat → Nat} {v q : Nat} : bv_uk kf v q v = q := if_pos rfl
theorem bv_uk_n {kf : Nat → Nat} {v q j : Nat} (h : j ≠ v) : bv_uk kf v q j = kf j := if_neg h
theorem bv_cn_uk {kf : Nat → Nat} {m : List Nat} {v q K : Nat} (h : v ∉ m) : bv_cn (bv_uk kf v q) m K = bv_cn kf m K := by
  unfold bv_cn
  congr 1
  refine List.filter_congr (fun x hx => ?_)
  have hne : x ≠ v := fun e => h (e ▸ hx)
  rw [bv_uk_n hne]
theorem bv_cn_ne {kf : Nat → Nat} {m : List Nat} {K : Nat} : bv_cn kf m K ≠ [] ↔ ∃ v, v ∈ m ∧ kf v = K := by
  constructor
  · intro h
    obtain ⟨v, hv⟩ := List.exists_mem_of_ne_nil _ h
    exact ⟨v, bv_cn_mem.mp hv⟩
  · intro ⟨v, hv⟩ e
    have := bv_cn_mem.mpr hv
    rw [e] at this
    exact absurd this (List.not_mem_nil)
/-- a sublist of a list without repetition, by its members -/
theorem bv_sub_fil : ∀ {a m : List Nat}, a.Sublist m → m.Nodup → m.filter (fun v => decide (v ∈ a)) = a := by
  intro a m h
  induction h with
  | slnil => intro _; rfl
  | cons x h ih =>
    intro hn
    rw [List.nodup_cons] at hn
    rw [List.filter_cons_of_neg, ih hn.2]
    intro z
    exact hn.1 (h.subset (of_decide_eq_true z))
  | cons_cons x h ih =>
    intro hn
    rw [List.nodup_cons] at hn
    rw [List.filter_cons_of_pos (by simp)]
    congr 1
    refine Eq.trans (List.filter_congr fun y hy => ?_) (ih hn.2)
    have : y ≠ x := fun e => hn.1 (e ▸ hy)
    simp [this]
theorem bv_ext {kf : Nat → Nat} {a b m : List Nat} (ha : a.Sublist m) (hb : b.Sublist m) (hm : m.Nodup) (h : ∀ K, bv_cn kf a K = bv_cn kf b K) : a = b := by
  rw [← bv_sub_fil ha hm, ← bv_sub_fil hb hm]
  refine List.filter_congr fun v hv => ?_
  have e : v ∈ a ↔ v ∈ b := by
    have h1 : v ∈ a ↔ v ∈ bv_cn kf a (kf v) := by rw [bv_cn_mem]; exact ⟨fun z => ⟨z, rfl⟩, fun z => z.1⟩
    have h2 : v ∈ b ↔ v ∈ bv_cn kf b (kf v) := by rw [bv_cn_mem]; exact ⟨fun z => ⟨z, rfl⟩, fun z => z.1⟩
    rw [h1, h2, h]
  exact decide_eq_decide.mpr e
/-- taking away one place of a list without repetition -/
theorem bv_er : ∀ {m : List Nat} {j v : Nat}, m.Nodup → m[j]? = some v → m.eraseIdx j = m.filter (fun w => decide (w ≠ v)) := by
  intro m
  induction m with
  | nil => intro j v _ h; simp at h
  | cons x t ih =>
    intro j v hn h
    rw [List.nodup_cons] at hn
    cases j with
    | zero =>
      have e : x = v := by simpa using h
      subst e
      rw [List.filter_cons_of_neg (by simp)]
      symm
      refine List.filter_eq_self.mpr fun y hy => decide_eq_true ?_
      exact fun e => hn.1 (e ▸ hy)
    | succ j =>
      have h' : t[j]? = some v := by simpa using h
      have hv : v ∈ t := List.mem_of_getElem? h'
      have hne : x ≠ v := fun e => hn.1 (e ▸ hv)
      rw [List.filter_cons_of_pos (by simp [hne])]
      show x :: t.eraseIdx j = _
      rw [ih hn.2 h']
theorem bv_fil_len : ∀ {m : List Nat} {v : Nat}, m.Nodup → v ∈ m → (m.filter (fun w => decide (w ≠ v))).length + 1 = m.length := by
  intro m v hn hv
  obtain ⟨j, hj⟩ := List.getElem?_of_mem hv
  rw [← bv_er hn hj]
  obtain ⟨hl, _⟩ := List.getElem?_eq_some_iff.mp hj
  rw [List.length_eraseIdx_of_lt hl]
  omega
/-! chains under stores -/
theorem bv_ch_cg {o o' : Nat → Int32} : ∀ {c : List Nat}, (∀ a, a ∈ c → o' a = o a) → bv_ch o c → bv_ch o' c := by
  intro c
  induction c with
  | nil => intro _ _; trivial
  | cons a t ih =>
    intro h hc
    exact ⟨(h a List.mem_cons_self).trans hc.1, ih (fun x hx => h x (List.mem_cons_of_mem _ hx)) hc.2⟩
theorem bv_ch_suf {o : Nat → Int32} : ∀ {A t : List Nat}, bv_ch o (A ++ t) → bv_ch o t := by
  intro A
  induction A with
  | nil => intro t h; exact h
  | cons a A ih => intro t h; exact ih h.2
theorem bv_hd_app {b : Nat} {t t' : List Nat} : ∀ {A : List Nat}, bv_hd (A ++ b :: t) = bv_hd (A ++ b :: t') := by
  intro A
  cases A <;> rfl
/-- the chain behind b is exchanged -/
theorem bv_ch_ex {o o' : Nat → Int32} {b : Nat} {t t' : List Nat} : ∀ {A : List Nat}, bv_ch o (A ++ b :: t) → (∀ x, x ∈ A → o' x = o x) → o' b = bv_hd t' → bv_ch o' t' → bv_ch o' (A ++ b :: t') := by
  intro A
  induction A with
  | nil => intro _ _ h1 h2; exact ⟨h1, h2⟩
  | cons a A ih =>
    intro h hA h1 h2
    refine ⟨?_, ih h.2 (fun x hx => hA x (List.mem_cons_of_mem _ hx)) h1 h2⟩
    rw [hA a List.mem_cons_self, h.1]
    exact bv_hd_app
theorem bv_hd_neg {c : List Nat} (hc : ∀ v, v ∈ c → v < 24) : bv_hd c < 0 ↔ c = [] := by
  cases c with
  | nil => exact ⟨fun _ => rfl, fun _ => (by decide : (-1 : Int32) < 0)⟩
  | cons a t =>
    have := hc a List.mem_cons_self
    exact ⟨fun z => absurd z (nI_pos (by omega)), fun z => (nomatch z)⟩
/-! the directory: sorted keys -/
def bv_so (ks : List Nat) : Prop := ∀ (i j a b : Nat), i < j → ks[i]? = some a → ks[j]? = some b → a < b
theorem bv_so_nd {ks : List Nat} (h : bv_so ks) : ks.Nodup := by
  refine List.pairwise_iff_getElem.mpr fun i j hi hj hij => ?_
  have := h i j _ _ hij (List.getElem?_eq_getElem hi) (List.getElem?_eq_getElem hj)
  omega
theorem bv_so_inj {ks : List Nat} (h : bv_so ks) {i j K : Nat} (hi : ks[i]? = some K) (hj : ks[j]? = some K) : i = j := by
  rcases Nat.lt_trichotomy i j with z | z | z
  · have := h i j _ _ z hi hj; omega
  · exact z
  · have := h j i _ _ z hj hi; omega
theorem bv_so_lt {ks : List Nat} (h : bv_so ks) {i j a b : Nat} (hi : ks[i]? = some a) (hj : ks[j]? = some b) : i < j ↔ a < b := by
  constructor
  · intro z; exact h i j _ _ z hi hj
  · intro z
    rcases Nat.lt_trichotomy i j with y | y | y
    · exact y
    · subst y; rw [hi] at hj; cases hj; omega
    · have := h j i _ _ y hj hi; omega
/-- p is the place of q: keys before it are below q, the others not -/
def bv_ps (ks : List Nat) (q p : Nat) : Prop := p ≤ ks.length ∧ (∀ i K, i < p → ks[i]? = some K → K < q) ∧ (∀ i K, p ≤ i → ks[i]? = some K → q ≤ K)
theorem bv_ps_at {ks : List Nat} {q p i : Nat} (h : bv_ps ks q p) (so : bv_so ks) (hi : ks[i]? = some q) : i = p := by
  rcases Nat.lt_trichotomy i p with z | z | z
  · have := h.2.1 i q z hi; omega
  · exact z
  · have hl : p < ks.length := by
      obtain ⟨hl, _⟩ := List.getElem?_eq_some_iff.mp hi
      omega
    have hp := List.getElem?_eq_getElem hl
    have h1 := h.2.2 p _ (Nat.le_refl p) hp
    have h2 := so p i _ _ z hp hi
    omega
theorem bv_so_ins {ks : List Nat} {q p : Nat} (so : bv_so ks) (h : bv_ps ks q p) (hq : q ∉ ks) : bv_so (ks.insertIdx p q) := by
  obtain ⟨h1, h2, h3⟩ := h
  have hne : ∀ i K, ks[i]? = some K → K ≠ q := fun i K hi e => hq (e ▸ List.mem_of_getElem? hi)
  intro i j a b hij ha hb
  rw [List.getElem?_insertIdx] at ha hb
  by_cases c1 : i < p
  · rw [if_pos c1] at ha
    by_cases c2 : j < p
    · rw [if_pos c2] at hb; exact so i j a b hij ha hb
    · rw [if_neg c2] at hb
      by_cases c3 : j = p
      · rw [if_pos c3, if_pos (by omega)] at hb
        cases hb
        exact h2 i a c1 ha
      · rw [if_neg c3] at hb
        have := h2 i a c1 ha
        have := h3 (j - 1) b (by omega) hb
        omega
  · rw [if_neg c1] at ha
    rw [if_neg (by omega : ¬ j < p), if_neg (by omega : ¬ j = p)] at hb
    by_cases c3 : i = p
    · rw [if_pos c3, if_pos (by omega)] at ha
      cases ha
      have := h3 (j - 1) b (by omega) hb
      have := hne _ _ hb
      omega
    · rw [if_neg c3] at ha
      exact so (i - 1) (j - 1) a b (by omega) ha hb
theorem bv_so_del {ks : List Nat} {p : Nat} (so : bv_so ks) : bv_so (ks.eraseIdx p) := by
  intro i j a b hij ha hb
  rw [List.getElem?_eraseIdx] at ha hb
  by_cases c1 : i < p
  · rw [if_pos c1] at ha
    by_cases c2 : j < p
    · rw [if_pos c2] at hb; exact so i j a b hij ha hb
    · rw [if_neg c2] at hb; exact so i (j + 1) a b (by omega) ha hb
  · rw [if_neg c1] at ha
    rw [if_neg (by omega : ¬ j < p)] at hb
    exact so (i + 1) (j + 1) a b (by omega) ha hb
theorem bv_mem_del {ks : List Nat} {p K0 K : Nat} (so : bv_so ks) (hp : ks[p]? = some K0) : K ∈ ks.eraseIdx p ↔ K ∈ ks ∧ K ≠ K0 := by
  rw [List.mem_eraseIdx_iff_getElem?]
  constructor
  · intro ⟨i, hi, e⟩
    exact ⟨List.mem_of_getElem? e, fun z => hi (bv_so_inj so (z ▸ e) hp)⟩
  · intro ⟨h1, h2⟩
    obtain ⟨i, hi⟩ := List.getElem?_of_mem h1
    refine ⟨i, fun e => ?_, hi⟩
    rw [e, hp] at hi
    exact h2 (Option.some.inj hi).symm
/-- a directory is no longer than the list of versions -/
theorem bv_dir_len {ks m : List Nat} {kf : Nat → Nat} (so : bv_so ks) (h : ∀ K, K ∈ ks → ∃ v, v ∈ m ∧ kf v = K) : ks.length ≤ m.length := by
  have := List.Nodup.length_le_of_subset (bv_so_nd so) (l₂ := m.map kf) (fun K hK => by
    obtain ⟨v, hv, e⟩ := h K hK
    exact List.mem_map.mpr ⟨v, hv, e⟩)
  rwa [List.length_map] at this
theorem bv_full {m : List Nat} {n : Nat} (h : ∀ v, v < n → v ∈ m) : n ≤ m.length := by
  have := List.Nodup.length_le_of_subset (List.nodup_range (n := n)) (l₂ := m) (fun v hv => h v (List.mem_range.mp hv))
  rwa [List.length_range] at this
theorem bv_len24 {m : List Nat} (hn : m.Nodup) (h : ∀ v, v ∈ m → v < 24) : m.length ≤ 24 := by
  have := List.Nodup.length_le_of_subset hn (l₂ := List.range 24) (fun v hv => List.mem_range.mpr (h v hv))
  rwa [List.length_range] at this
/-- the newest version of a key by Y's list -/
theorem bv_cn_last {kf : Nat → Nat} {m : List Nat} {K j v : Nat} (hj : m[j]? = some v) (hv : kf v = K) (h : ∀ i w, j < i → m[i]? = some w → kf w ≠ K) : bv_cn kf m K = v :: bv_cn kf (m.take j) K := by
  obtain ⟨hl, e⟩ := List.getElem?_eq_some_iff.mp hj
  have e1 : m = m.take j ++ v :: m.drop (j + 1) := by
    rw [← e, ← List.drop_eq_getElem_cons hl, List.take_append_drop]
  have e2 : bv_cn kf (m.drop (j + 1)) K = [] := by
    apply Classical.byContradiction
    intro z
    obtain ⟨w, hw, hk⟩ := bv_cn_ne.mp z
    obtain ⟨i, hi⟩ := List.getElem?_of_mem hw
    rw [List.getElem?_drop] at hi
    exact h _ w (by omega) hi hk
  have e3 : m.take j ++ v :: m.drop (j + 1) = m.take j ++ ([v] ++ m.drop (j + 1)) := rfl
  calc bv_cn kf m K = bv_cn kf (m.take j ++ ([v] ++ m.drop (j + 1))) K := by rw [← e3, ← e1]
    _ = _ := by rw [bv_cn_app, bv_cn_app, e2, bv_cn_one hv]; rfl
end
section
/-! the relation's pieces, and what X's questions answer -/
def bv_ob (x : Int32) : Int32 := if x = 0 then 1 else 0
/-- the attributes of the versions that are there -/
def bv_A (m : List Nat) (kf : Nat → Nat) (M : Nat) (am ar : Nat → Int32) : Prop :=
  (∀ v, v ∈ m → (0 < kf v ∧ kf v < 2401) ∧ (ar v = 0 ∨ ar v = 1) ∧ ∃ q, q < M ∧ am v = nI q) ∧
  (∀ v w, v ∈ m → w ∈ m → am v = am w → v = w)
/-- X's slots that are used -/
def bv_us (m : List Nat) (au : Nat → Int32) : Prop := ∀ v, v < 24 → (v ∈ m → au v = 1) ∧ (v ∉ m → au v = 0)
/-- X's directory -/
def bv_dr (m ks : List Nat) (kf : Nat → Nat) (ak an : Nat → Int32) : Prop := ∀ i K, ks[i]? = some K → ak i = nI K ∧ an i = bv_hd (bv_cn kf m K)
/-- X's build: slots, directory, chains -/
def bv_S (m ks : List Nat) (kf : Nat → Nat) (ak an au ao : Nat → Int32) : Prop :=
  m.Nodup ∧ (∀ v, v ∈ m → v < 24) ∧ bv_us m au ∧ bv_so ks ∧ (∀ K, K ∈ ks ↔ ∃ v, v ∈ m ∧ kf v = K) ∧ bv_dr m ks kf ak an ∧ (∀ K, bv_ch ao (bv_cn kf m K))
/-- Y's list -/
def bv_Y (m : List Nat) (kf : Nat → Nat) (am ac ar bn bk bo bc : Nat → Int32) : Prop :=
  ∀ j v, m[j]? = some v → bn j = am v ∧ bk j = nI (bv_rv (kf v)) ∧ bo j = bv_ob (ar v) ∧ bc j = ac v
/-- what seek rests on -/
def bv_dk (ks : List Nat) (ak : Nat → Int32) : Prop := bv_so ks ∧ ks.length ≤ 24 ∧ ∀ i K, ks[i]? = some K → ak i = nI K ∧ 0 < K ∧ K < 2401
theorem bv_dk_of {m ks : List Nat} {kf : Nat → Nat} {M : Nat} {ak an au ao am ar : Nat → Int32} (hA : bv_A m kf M am ar) (hS : bv_S m ks kf ak an au ao) : bv_dk ks ak := by
  obtain ⟨s1, s2, s3, s4, s5, s6, s7⟩ := hS
  refine ⟨s4, Nat.le_trans (bv_dir_len s4 (fun K hK => (s5 K).mp hK)) (bv_len24 s1 s2), fun i K hi => ⟨(s6 i K hi).1, ?_⟩⟩
  obtain ⟨v, hv, e⟩ := (s5 K).mp (List.mem_of_getElem? hi)
  exact e ▸ (hA.1 v hv).1
theorem bv_get {l : List Nat} {i : Nat} (h : i < l.length) : ∃ v, l[i]? = some v := ⟨_, List.getElem?_eq_getElem h⟩
theorem bv_ilt {l : List Nat} {i v : Nat} (h : l[i]? = some v) : i < l.length := (List.getElem?_eq_some_iff.mp h).1
theorem bv_m1 (n : Nat) : nI n + (-1) = nI n - 1 := (Int32.sub_eq_add_neg (nI n) 1).symm
section
variable {xt xb xk xm xh : Int32} {ak an au am ac ar ao ap aq av : Nat → Int32} {post : Int32 → Prop} {m ks : List Nat} {kf : Nat → Nat}
theorem bx_unit {p : Nat} (hp : p < 4) (h : post (nI (bv_un p))) : wpX_unit post (nI p) := by
  rcases bv_p4 hp with rfl | rfl | rfl | rfl
  · exact br_f (by decide) (br_f (by decide) (br_t (by decide) h))
  · exact br_f (by decide) (br_f (by decide) (br_f (by decide) (br_t (by decide) h)))
  · exact br_f (by decide) (br_f (by decide) (br_f (by decide) (br_f (by decide) (br_t (by decide) h))))
  · exact br_f (by decide) (br_t (by decide) h)
theorem bx_seek7 (hd : bv_dk ks ak) {q : Nat} (hq : q < 10000) (hp : ∀ p, bv_ps ks q p → post (nI p)) :
    ∀ n lo hi, lo ≤ hi → hi ≤ ks.length → hi - lo < n → (∀ i K, i < lo → ks[i]? = some K → K < q) → (∀ i K, hi ≤ i → ks[i]? = some K → q ≤ K) → wX_seek_7 post (nI q) xt xb xk xm xh ak an au am ac ar ao ap aq av n (nI lo) (nI hi) := by
  obtain ⟨so, hl, hk⟩ := hd
  intro n
  induction n with
  | zero => intro lo hi h1 h2 h3; omega
  | succ n ih =>
    intro lo hi h1 h2 h3 h4 h5
    refine pk_le hi lo (fun h => ?_) (fun h => ?_)
    · have e : lo = hi := by omega
      subst e
      exact hp lo ⟨h2, h4, h5⟩
    · refine ⟨by decide, nm_r (e' := nI ((lo + hi) / 2)) ?_ ?_⟩
      · rw [nI_add]
        exact pk_div (d := 2) (by omega) (by omega) (by omega)
      · have hm : (lo + hi) / 2 < ks.length := by omega
        obtain ⟨K, hK⟩ := bv_get hm
        have hb := hk _ _ hK
        refine ⟨vp_in_nI (by omega) (by omega), ?_⟩
        rw [nI_clamp (by omega), hb.1]
        refine pk_le q K (fun h' => ?_) (fun h' => ?_)
        · refine ih lo ((lo + hi) / 2) (by omega) (by omega) (by omega) h4 (fun i K' hi' hK' => ?_)
          rcases Nat.eq_or_lt_of_le hi' with e | e
          · subst e
            rw [hK] at hK'
            cases hK'
            exact h'
          · have := so _ _ _ _ e hK hK'
            omega
        · refine nm_r (nI_1 _) ?_
          refine ih ((lo + hi) / 2 + 1) hi (by omega) h2 (by omega) (fun i K' hi' hK' => ?_) h5
          rcases Nat.eq_or_lt_of_le (Nat.le_of_lt_succ hi') with e | e
          · subst e
            rw [hK] at hK'
            cases hK'
            exact h'
          · have := so _ _ _ _ e hK' hK
            omega
theorem bx_seek (hd : bv_dk ks ak) {q : Nat} (hq : q < 10000) (hp : ∀ p, bv_ps ks q p → post (nI p)) : wpX_seek post (xt, xb, nI ks.length, xm, xh, ak, an, au, am, ac, ar, ao, ap, aq, av) (nI q) :=
  Exists.intro (ks.length + 1) (bx_seek7 hd hq hp _ 0 ks.length (Nat.zero_le _) (Nat.le_refl _) (by omega) (fun i K h => absurd h (Nat.not_lt_zero i)) (fun i K h hK => absurd (bv_ilt hK) (by omega)))
theorem bx_placeOf (hd : bv_dk ks ak) {q : Nat} (hq : q < 10000) (h1 : ∀ i, ks[i]? = some q → post (nI i)) (h2 : q ∉ ks → post (-1)) : wpX_placeOf post (xt, xb, nI ks.length, xm, xh, ak, an, au, am, ac, ar, ao, ap, aq, av) (nI q) := by
  unfold wpX_placeOf
  refine bx_seek hd hq (fun p hp => ?_)
  have hl := hd.2.1
  have hpl := hp.1
  refine pk_le ks.length p (fun h => h2 fun hm => ?_) (fun h => ⟨vp_in_nI (by omega) (by omega), ?_⟩)
  · obtain ⟨i, hi⟩ := List.getElem?_of_mem hm
    have := bv_ps_at hp hd.1 hi
    have := bv_ilt hi
    omega
  · obtain ⟨K, hK⟩ := bv_get h
    have hb := hd.2.2 _ _ hK
    rw [nI_clamp (by omega), hb.1]
    refine pk_eq K q (fun e => h1 p (e ▸ hK)) (fun e => h2 fun hm => ?_)
    obtain ⟨i, hi⟩ := List.getElem?_of_mem hm
    have := bv_ps_at hp hd.1 hi
    subst this
    rw [hK] at hi
    exact e (Option.some.inj hi)
theorem bx_free2 (hu : bv_us m au) (hf : m.length < 24) (hp : ∀ v, v < 24 → v ∉ m → post (nI v)) : ∀ n i, i ≤ 23 → 23 - i < n → (∀ j, j < i → j ∈ m) → wX_freeVersion_2 post xt xb xk xm xh ak an au am ac ar ao ap aq av n (nI i) := by
  intro n
  induction n with
  | zero => intro i h1 h2; omega
  | succ n ih =>
    intro i h1 h2 h3
    refine pk_le 23 i (fun h => ?_) (fun h => ⟨vp_in_nI (by omega) (by omega), ?_⟩)
    · have e : i = 23 := by omega
      subst e
      refine hp 23 (by omega) (fun z => ?_)
      have := bv_full (m := m) (n := 24) (fun v hv => by
        rcases Nat.lt_or_ge v 23 with y | y
        · exact h3 v y
        · have : v = 23 := by omega
          exact this ▸ z)
      omega
    · rw [nI_clamp (by omega)]
      by_cases z : i ∈ m
      · rw [(hu i (by omega)).1 z]
        refine br_f (by decide) (nm_r (nI_1 _) (ih (i + 1) (by omega) (by omega) (fun j hj => ?_)))
        rcases Nat.eq_or_lt_of_le (Nat.le_of_lt_succ hj) with e | e
        · exact e ▸ z
        · exact h3 j e
      · rw [(hu i (by omega)).2 z]
        exact br_t rfl (hp i (by omega) z)
theorem bx_free (hu : bv_us m au) (hf : m.length < 24) (hp : ∀ v, v < 24 → v ∉ m → post (nI v)) : wpX_freeVersion post (xt, xb, xk, xm, xh, ak, an, au, am, ac, ar, ao, ap, aq, av) :=
  Exists.intro 24 (bx_free2 hu hf hp 24 0 (by omega) (by omega) (fun j h => absurd h (Nat.not_lt_zero j)))
theorem bx_slot2 (hu : bv_us m au) (hm : ∀ v, v ∈ m → v < 24) {x : Int32} (hp : ∀ v, v ∈ m → am v = x → post (nI v)) (hn : (∀ v, v ∈ m → am v ≠ x) → post (-1)) : ∀ n i, i ≤ 24 → 24 - i < n → (∀ v, v ∈ m → v < i → am v ≠ x) → wX_slotOf_2 post x xt xb xk xm xh ak an au am ac ar ao ap aq av n (nI i) := by
  intro n
  induction n with
  | zero => intro i h1 h2; omega
  | succ n ih =>
    intro i h1 h2 h3
    refine pk_le 24 i (fun h => hn fun v hv => h3 v hv (by have := hm v hv; omega)) (fun h => ⟨vp_in_nI (by omega) (by omega), ?_⟩)
    rw [nI_clamp (by omega)]
    by_cases z : i ∈ m
    · rw [(hu i (by omega)).1 z]
      refine br_f (by decide) ⟨vp_in_nI (by omega) (by omega), ?_⟩
      refine br_c (fun e => hp i z e) (fun e => nm_r (nI_1 _) (ih (i + 1) (by omega) (by omega) (fun v hv hlt => ?_)))
      rcases Nat.eq_or_lt_of_le (Nat.le_of_lt_succ hlt) with y | y
      · exact y ▸ e
      · exact h3 v hv y
    · rw [(hu i (by omega)).2 z]
      refine br_t rfl (nm_r (nI_1 _) (ih (i + 1) (by omega) (by omega) (fun v hv hlt => ?_)))
      rcases Nat.eq_or_lt_of_le (Nat.le_of_lt_succ hlt) with y | y
      · exact absurd (y ▸ hv) z
      · exact h3 v hv y
theorem bx_slot (hu : bv_us m au) (hm : ∀ v, v ∈ m → v < 24) {x : Int32} (hp : ∀ v, v ∈ m → am v = x → post (nI v)) (hn : (∀ v, v ∈ m → am v ≠ x) → post (-1)) : wpX_slotOf post (xt, xb, xk, xm, xh, ak, an, au, am, ac, ar, ao, ap, aq, av) x :=
  Exists.intro 25 (bx_slot2 hu hm hp hn 25 0 (by omega) (by omega) (fun v _ h => absurd h (Nat.not_lt_zero v)))
/-- whether a chain's newest version is an object: 1 or 0 -/
def bv_pv (ar : Nat → Int32) : List Nat → Int32
  | [] => 0
  | a :: _ => bv_ob (ar a)
theorem bx_pres_at {i a : Nat} (hi : i < 24) (ha : a < 24) (e : an i = nI a) (hp : post (bv_ob (ar a))) : wpX_isPresent post (xt, xb, xk, xm, xh, ak, an, au, am, ac, ar, ao, ap, aq, av) (nI i) := by
  refine br_f (nI_pos (by omega)) ⟨vp_in_nI hi (by omega), ?_⟩
  rw [nI_clamp (by omega), e]
  refine ⟨vp_in_nI ha (by omega), ?_⟩
  rw [nI_clamp (by omega)]
  exact br_c (fun z => by rw [bv_ob, if_pos z] at hp; exact hp) (fun z => by rw [bv_ob, if_neg z] at hp; exact hp)
theorem bx_pres_no (hp : post 0) : wpX_isPresent post (xt, xb, xk, xm, xh, ak, an, au, am, ac, ar, ao, ap, aq, av) (-1) := br_t (by decide) hp
/-- the newest version of a key in the directory -/
theorem bv_newest {i K : Nat} (hS : bv_S m ks kf ak an au ao) (hi : ks[i]? = some K) : ∃ a t, bv_cn kf m K = a :: t ∧ a < 24 ∧ a ∈ m ∧ kf a = K ∧ an i = nI a := by
  obtain ⟨s1, s2, s3, s4, s5, s6, s7⟩ := hS
  have hne := bv_cn_ne.mpr ((s5 K).mp (List.mem_of_getElem? hi))
  have hn := (s6 i K hi).2
  cases hc : bv_cn kf m K with
  | nil => exact absurd hc hne
  | cons a t =>
    have ha : a ∈ bv_cn kf m K := by rw [hc]; exact List.mem_cons_self
    rw [bv_cn_mem] at ha
    refine ⟨a, t, rfl, s2 a ha.1, ha.1, ha.2, ?_⟩
    rw [hn, hc]; rfl
theorem bv_no_newest {K : Nat} (hS : bv_S m ks kf ak an au ao) (hi : K ∉ ks) : bv_cn kf m K = [] := by
  obtain ⟨s1, s2, s3, s4, s5, s6, s7⟩ := hS
  exact Classical.byContradiction fun z => hi ((s5 K).mpr (bv_cn_ne.mp z))
/-- placeOf and isPresent together -/
theorem bx_place_pres (hd : bv_dk ks ak) (hS : bv_S m ks kf ak an au ao) {q : Nat} (hq : q < 10000) {P : Int32 → Int32 → Prop} (h0 : bv_cn kf m q = [] → P (-1) 0) (h1 : ∀ i a t, bv_cn kf m q = a :: t → i < 24 → a < 24 → an i = nI a → P (nI i) (bv_ob (ar a))) : wpX_placeOf (fun r => wpX_isPresent (fun s => P r s) (xt, xb, nI ks.length, xm, xh, ak, an, au, am, ac, ar, ao, ap, aq, av) r) (xt, xb, nI ks.length, xm, xh, ak, an, au, am, ac, ar, ao, ap, aq, av) (nI q) := by
  refine bx_placeOf hd hq (fun i hi => ?_) (fun hn => ?_)
  · obtain ⟨a, t, e, ha, _, _, hn⟩ := bv_newest hS hi
    have := bv_ilt hi
    have := hd.2.1
    exact bx_pres_at (by omega) ha hn (h1 i a t e (by omega) ha hn)
  · exact bx_pres_no (h0 (bv_no_newest hS hn))
theorem bx_present (hd : bv_dk ks ak) (hS : bv_S m ks kf ak an au ao) {q : Nat} (hq : q < 10000) (hp : post (bv_pv ar (bv_cn kf m q))) : wpX_present post (xt, nI q, nI ks.length, xm, xh, ak, an, au, am, ac, ar, ao, ap, aq, av) := by
  unfold wpX_present
  refine bx_place_pres (P := fun r s => narrow .boolean (.int s) = .int s ∧ post s) hd hS hq (fun e => ?_) (fun i a t e _ _ _ => ?_)
  · rw [e] at hp
    exact ⟨rfl, hp⟩
  · rw [e] at hp
    refine ⟨?_, hp⟩
    by_cases z : ar a = 0
    · rw [bv_ob, if_pos z]; rfl
    · rw [bv_ob, if_neg z]; rfl
def bv_gv (ac ar : Nat → Int32) : List Nat → Int32
  | [] => 0
  | a :: _ => if ar a = 0 then ac a else 0
theorem bx_get (hd : bv_dk ks ak) (hS : bv_S m ks kf ak an au ao) {q : Nat} (hq : q < 10000) (hp : post (bv_gv ac ar (bv_cn kf m q))) : wpX_get post (xt, nI q, nI ks.length, xm, xh, ak, an, au, am, ac, ar, ao, ap, aq, av) := by
  unfold wpX_get
  refine bx_place_pres (P := fun r s => (s = 0 → post 0) ∧ (¬ s = 0 → (vp_in r 24 ∧ (vp_in (an r.toNatClampNeg) 24 ∧ post (ac (an r.toNatClampNeg).toNatClampNeg))))) hd hS hq (fun e => ?_) (fun i a t e hi ha hn => ?_)
  · rw [e] at hp
    exact br_t rfl hp
  · rw [e] at hp
    by_cases z : ar a = 0
    · rw [bv_ob, if_pos z]
      refine br_f (by decide) ⟨vp_in_nI hi (by omega), ?_⟩
      rw [nI_clamp (by omega), hn]
      refine ⟨vp_in_nI ha (by omega), ?_⟩
      rw [nI_clamp (by omega)]
      rw [bv_gv, if_pos z] at hp
      exact hp
    · rw [bv_ob, if_neg z]
      rw [bv_gv, if_neg z] at hp
      exact br_t rfl hp
/-- content by number: both sides' value -/
theorem bx_content (hS : bv_S m ks kf ak an au ao) {x : Int32} (h1 : ∀ v, v ∈ m → am v = x → post (if ar v = 0 then ac v else 0)) (h0 : (∀ v, v ∈ m → am v ≠ x) → post 0) : wpX_content post (xt, xb, xk, xm, xh, ak, an, au, am, ac, ar, ao, ap, aq, av) x := by
  obtain ⟨s1, s2, s3, s4, s5, s6, s7⟩ := hS
  unfold wpX_content
  refine bx_slot s3 s2 (fun v hv e => ?_) (fun h => ?_)
  · have h24 := s2 v hv
    have hp := h1 v hv e
    refine br_f (nI_pos (by omega)) ⟨vp_in_nI h24 (by omega), ?_⟩
    rw [nI_clamp (by omega)]
    refine br_c (fun z => ⟨vp_in_nI h24 (by omega), ?_⟩) (fun z => ?_)
    · rw [if_pos z] at hp; exact hp
    · rw [if_neg z] at hp; exact hp
  · exact br_t (by decide) (h0 h)
def bv_vv (am : Nat → Int32) (l : List Nat) (d : Nat) : Int32 := match l[d]? with
  | some v => am v
  | none => -7
theorem bx_vat53 {t : List Nat} (ht : ∀ v, v ∈ t → v < 24) (hp : post (bv_vv am t 0)) : wX_versionAt_53 post (bv_hd t) xt xb xk xm xh ak an au am ac ar ao ap aq av := by
  unfold wX_versionAt_53
  cases t with
  | nil => exact br_f (by decide) hp
  | cons a t =>
    have ha := ht a List.mem_cons_self
    refine br_t (nI_pos' (by omega)) ⟨vp_in_nI ha (by omega), ?_⟩
    show post (am (nI a).toNatClampNeg)
    rw [nI_clamp (by omega)]
    exact hp
theorem bx_vat30 {i : Nat} (hi : i < 2 ^ 31) : ∀ (t : List Nat) (n k : Nat), (∀ v, v ∈ t → v < 24) → bv_ch ao t → t.length < n → k ≤ i → post (bv_vv am t (i - k)) → wX_versionAt_30 post (nI i) xt xb xk xm xh ak an au am ac ar ao ap aq av n (bv_hd t) (nI k) := by
  intro t
  induction t with
  | nil =>
    intro n k ht hc hn hk hp
    cases n with
    | zero => exact absurd hn (Nat.not_lt_zero _)
    | succ n =>
      have hp' : post (bv_vv am [] 0) := hp
      exact br_c (fun _ => bx_vat53 ht hp') (fun _ => br_t (by decide) (bx_vat53 ht hp'))
  | cons a t ih =>
    intro n k ht hc hn hk hp
    have ha := ht a List.mem_cons_self
    cases n with
    | zero => exact absurd hn (Nat.not_lt_zero _)
    | succ n =>
      refine pk_le i k (fun h => ?_) (fun h => ?_)
      · have e : i - k = 0 := by omega
        rw [e] at hp
        exact bx_vat53 ht hp
      · refine br_f (nI_pos (by omega)) ⟨vp_in_nI ha (by omega), ?_⟩
        refine nm_r (e' := bv_hd t) ?_ (nm_r (nI_1 k) ?_)
        · show ao (nI a).toNatClampNeg = _
          rw [nI_clamp (by omega)]
          exact hc.1
        · refine ih n (k + 1) (fun v hv => ht v (List.mem_cons_of_mem _ hv)) hc.2 (by have : (a :: t).length = t.length + 1 := rfl; omega) (by omega) ?_
          have e : i - k = (i - (k + 1)) + 1 := by omega
          rw [e] at hp
          exact hp
theorem bx_versionAt (hd : bv_dk ks ak) (hS : bv_S m ks kf ak an au ao) {q : Nat} (hq : q < 10000) {x : Int32} (h0 : x < 0 → post (-7)) (h1 : ∀ i, i < 2 ^ 31 → x = nI i → post (bv_vv am (bv_cn kf m q) i)) : wpX_versionAt post (xt, nI q, nI ks.length, xm, xh, ak, an, au, am, ac, ar, ao, ap, aq, av) x := by
  unfold wpX_versionAt
  have hneg : bv_cn kf m q = [] → post (-7) := by
    intro e
    by_cases hx : x < 0
    · exact h0 hx
    · obtain ⟨i, hi, rfl⟩ := nI_of hx
      have := h1 i hi rfl
      rw [e] at this
      exact this
  refine bx_placeOf hd hq (fun i hi => ?_) (fun hn => br_t (by decide) (hneg (bv_no_newest hS hn)))
  obtain ⟨a, t, e, ha, _, _, hn⟩ := bv_newest hS hi
  have hl := bv_ilt hi
  have hl2 := hd.2.1
  obtain ⟨s1, s2, s3, s4, s5, s6, s7⟩ := hS
  refine br_f (nI_pos (by omega)) ?_
  by_cases hx : x < 0
  · exact br_f (Int32.not_le.mpr hx) (h0 hx)
  · obtain ⟨j, hj, rfl⟩ := nI_of hx
    refine br_t (nI_pos' hj) ⟨vp_in_nI (by omega) (by omega), nm_r (e' := bv_hd (bv_cn kf m q)) ?_ ?_⟩
    · rw [nI_clamp (by omega)]
      exact (s6 i q hi).2
    · exact Exists.intro ((bv_cn kf m q).length + 1) (bx_vat30 hj _ _ 0 (fun v hv => s2 v (bv_cn_mem.mp hv).1) (s7 q) (by omega) (by omega) (h1 j hj rfl))
end
end
section
/-! what Y's questions answer -/
section
variable {yb yl yn yc : Int32} {bn bk bo bc bu bh bv : Nat → Int32} {am ac ar : Nat → Int32} {post : Int32 → Prop} {m : List Nat} {kf : Nat → Nat}
theorem by_newest7 (hY : bv_Y m kf am ac ar bn bk bo bc) (hl : m.length ≤ 24) (hk : ∀ v, v ∈ m → kf v < 2401) {K : Nat} (hK : K < 2401) (h1 : ∀ j v, m[j]? = some v → kf v = K → (∀ i w, j < i → m[i]? = some w → kf w ≠ K) → post (nI j)) (h0 : (∀ v, v ∈ m → kf v ≠ K) → post (-1)) :
    ∀ n i, i ≤ m.length → i < n → (∀ j w, i ≤ j → m[j]? = some w → kf w ≠ K) → wY_newest_7 post (nI (bv_rv K)) yb yl yn yc bn bk bo bc bu bh bv n (nI i - 1) := by
  intro n
  induction n with
  | zero => intro i _ h; omega
  | succ n ih =>
    intro i hi hn h
    cases i with
    | zero =>
      refine br_t (by decide) (h0 fun v hv => ?_)
      obtain ⟨j, hj⟩ := List.getElem?_of_mem hv
      exact h j v (Nat.zero_le _) hj
    | succ i =>
      rw [nI_pred]
      refine br_f (nI_pos (by omega)) ⟨vp_in_nI (by omega) (by omega), ?_⟩
      obtain ⟨v, hv⟩ := bv_get (l := m) (i := i) (by omega)
      have hvm := List.mem_of_getElem? hv
      have b1 := bv_rv_lt (hk v hvm)
      have b2 := bv_rv_lt hK
      rw [nI_clamp (by omega), (hY i v hv).2.1]
      refine pk_eq (bv_rv (kf v)) (bv_rv K) (fun e => ?_) (fun e => nm_r (bv_m1 i) (ih i (by omega) (by omega) (fun j w hj hw => ?_)))
      · exact h1 i v hv (bv_rv_inj (hk v hvm) hK e) (fun j w hj hw => h j w hj hw)
      · rcases Nat.eq_or_lt_of_le hj with y | y
        · subst y
          rw [hv] at hw
          cases hw
          exact fun z => e (by rw [z])
        · exact h j w y hw
theorem by_newest (hY : bv_Y m kf am ac ar bn bk bo bc) (hl : m.length ≤ 24) (hk : ∀ v, v ∈ m → kf v < 2401) {K : Nat} (hK : K < 2401) (h1 : ∀ j a t, m[j]? = some a → bv_cn kf m K = a :: t → post (nI j)) (h0 : bv_cn kf m K = [] → post (-1)) : wpY_newest post (yb, yl, yn, nI m.length, bn, bk, bo, bc, bu, bh, bv) (nI (bv_rv K)) := by
  unfold wpY_newest
  refine nm_e (Exists.intro (m.length + 1) (by_newest7 hY hl hk hK (fun j v hv e h => h1 j v _ hv (bv_cn_last hv e h)) (fun h => h0 ?_) _ m.length (Nat.le_refl _) (by omega) (fun j w hj hw => absurd (bv_ilt hw) (by omega))))
  exact Classical.byContradiction fun z => by
    obtain ⟨v, hv, e⟩ := bv_cn_ne.mp z
    exact h v hv e
theorem by_isPresent (hY : bv_Y m kf am ac ar bn bk bo bc) (hl : m.length ≤ 24) (hk : ∀ v, v ∈ m → kf v < 2401) {K : Nat} (hK : K < 2401) (hp : post (bv_pv ar (bv_cn kf m K))) : wpY_isPresent post (yb, yl, yn, nI m.length, bn, bk, bo, bc, bu, bh, bv) (nI (bv_rv K)) := by
  unfold wpY_isPresent
  refine by_newest hY hl hk hK (fun j a t hj e => ?_) (fun e => ?_)
  · have := bv_ilt hj
    rw [e] at hp
    refine br_f (nI_pos (by omega)) ⟨vp_in_nI (by omega) (by omega), ?_⟩
    rw [nI_clamp (by omega), (hY j a hj).2.2.1]
    have hp' : post (bv_ob (ar a)) := hp
    by_cases z : ar a = 0
    · rw [bv_ob, if_pos z] at hp' ⊢
      exact br_f (by decide) hp'
    · rw [bv_ob, if_neg z] at hp' ⊢
      exact br_t rfl hp'
  · rw [e] at hp
    exact br_t (by decide) hp
theorem by_find2 (hY : bv_Y m kf am ac ar bn bk bo bc) (hl : m.length ≤ 24) {x : Int32} (h1 : ∀ j v, m[j]? = some v → am v = x → post (nI j)) (h0 : (∀ v, v ∈ m → am v ≠ x) → post (-1)) : ∀ n i, i ≤ m.length → m.length - i < n → (∀ j w, j < i → m[j]? = some w → am w ≠ x) → wY_find_2 post x yb yl yn (nI m.length) bn bk bo bc bu bh bv n (nI i) := by
  intro n
  induction n with
  | zero => intro i _ h; omega
  | succ n ih =>
    intro i hi hn h
    refine pk_le m.length i (fun z => h0 fun v hv => ?_) (fun z => ⟨vp_in_nI (by omega) (by omega), ?_⟩)
    · obtain ⟨j, hj⟩ := List.getElem?_of_mem hv
      exact h j v (by have := bv_ilt hj; omega) hj
    · obtain ⟨v, hv⟩ := bv_get z
      rw [nI_clamp (by omega), (hY i v hv).1]
      refine br_c (fun e => h1 i v hv e) (fun e => nm_r (nI_1 _) (ih (i + 1) (by omega) (by omega) (fun j w hj hw => ?_)))
      rcases Nat.eq_or_lt_of_le (Nat.le_of_lt_succ hj) with y | y
      · subst y
        rw [hv] at hw
        cases hw
        exact e
      · exact h j w y hw
theorem by_find (hY : bv_Y m kf am ac ar bn bk bo bc) (hl : m.length ≤ 24) {x : Int32} (h1 : ∀ j v, m[j]? = some v → am v = x → post (nI j)) (h0 : (∀ v, v ∈ m → am v ≠ x) → post (-1)) : wpY_find post (yb, yl, yn, nI m.length, bn, bk, bo, bc, bu, bh, bv) x :=
  Exists.intro (m.length + 1) (by_find2 hY hl h1 h0 _ 0 (Nat.zero_le _) (by omega) (fun j w h => absurd h (Nat.not_lt_zero j)))
theorem bv_drop {l : List Nat} {i v : Nat} (h : l[i]? = some v) : l.drop i = v :: l.drop (i + 1) := by
  obtain ⟨hl, e⟩ := List.getElem?_eq_some_iff.mp h
  rw [List.drop_eq_getElem_cons hl, e]
theorem bv_cn_cons {kf : Nat → Nat} {v K : Nat} {t : List Nat} : bv_cn kf (v :: t) K = bv_cn kf t K ++ bv_cn kf [v] K := bv_cn_app (a := [v]) (b := t)
theorem by_newer6 (hY : bv_Y m kf am ac ar bn bk bo bc) (hl : m.length ≤ 24) (hk : ∀ v, v ∈ m → kf v < 2401) {j v : Nat} (hj : m[j]? = some v) : ∀ n i c, i ≤ m.length → m.length - i < n → c ≤ i → post (nI (c + (bv_cn kf (m.drop i) (kf v)).length)) → wY_newer_6 post (nI j) yb yl yn (nI m.length) bn bk bo bc bu bh bv n (nI c) (nI i) := by
  have hjl := bv_ilt hj
  have hvm := List.mem_of_getElem? hj
  have b2 := bv_rv_lt (hk v hvm)
  intro n
  induction n with
  | zero => intro i c _ h; omega
  | succ n ih =>
    intro i c hi hn hc hp
    refine pk_le m.length i (fun z => ?_) (fun z => ⟨vp_in_nI (by omega) (by omega), vp_in_nI (by omega) (by omega), ?_⟩)
    · rw [List.drop_eq_nil_of_le z] at hp
      exact hp
    · obtain ⟨w, hw⟩ := bv_get z
      have hwm := List.mem_of_getElem? hw
      have b1 := bv_rv_lt (hk w hwm)
      rw [nI_clamp (by omega), nI_clamp (by omega), (hY i w hw).2.1, (hY j v hj).2.1]
      rw [bv_drop hw, bv_cn_cons, List.length_append] at hp
      refine pk_eq (bv_rv (kf w)) (bv_rv (kf v)) (fun e => ?_) (fun e => ?_)
      · have e' := bv_rv_inj (hk w hwm) (hk v hvm) e
        rw [bv_cn_one e', List.length_singleton] at hp
        refine nm_r (nI_1 c) (nm_r (nI_1 i) (ih (i + 1) (c + 1) (by omega) (by omega) (by omega) ?_))
        have q : c + 1 + (bv_cn kf (m.drop (i + 1)) (kf v)).length = c + ((bv_cn kf (m.drop (i + 1)) (kf v)).length + 1) := by omega
        rw [q]
        exact hp
      · rw [bv_cn_one' (fun z => e (by rw [z]))] at hp
        exact nm_r (nI_1 i) (ih (i + 1) c (by omega) (by omega) (by omega) hp)
theorem by_newer (hY : bv_Y m kf am ac ar bn bk bo bc) (hl : m.length ≤ 24) (hk : ∀ v, v ∈ m → kf v < 2401) {j v : Nat} (hj : m[j]? = some v) (hp : post (nI (bv_cn kf (m.drop (j + 1)) (kf v)).length)) : wpY_newer post (yb, yl, yn, nI m.length, bn, bk, bo, bc, bu, bh, bv) (nI j) := by
  have hjl := bv_ilt hj
  refine nm_r (nI_1 j) (Exists.intro (m.length + 1) (by_newer6 hY hl hk hj _ (j + 1) 0 (by omega) (by omega) (by omega) ?_))
  rw [Nat.zero_add]
  exact hp
theorem by_versionsOf4 (hY : bv_Y m kf am ac ar bn bk bo bc) (hl : m.length ≤ 24) (hk : ∀ v, v ∈ m → kf v < 2401) {K : Nat} (hK : K < 2401) : ∀ n i c, i ≤ m.length → m.length - i < n → c ≤ i → post (nI (c + (bv_cn kf (m.drop i) K).length)) → wY_versionsOf_4 post (nI (bv_rv K)) yb yl yn (nI m.length) bn bk bo bc bu bh bv n (nI c) (nI i) := by
  have b2 := bv_rv_lt hK
  intro n
  induction n with
  | zero => intro i c _ h; omega
  | succ n ih =>
    intro i c hi hn hc hp
    refine pk_le m.length i (fun z => ?_) (fun z => ⟨vp_in_nI (by omega) (by omega), ?_⟩)
    · rw [List.drop_eq_nil_of_le z] at hp
      exact hp
    · obtain ⟨w, hw⟩ := bv_get z
      have hwm := List.mem_of_getElem? hw
      have b1 := bv_rv_lt (hk w hwm)
      rw [nI_clamp (by omega), (hY i w hw).2.1]
      rw [bv_drop hw, bv_cn_cons, List.length_append] at hp
      refine pk_eq (bv_rv (kf w)) (bv_rv K) (fun e => ?_) (fun e => ?_)
      · have e' := bv_rv_inj (hk w hwm) hK e
        rw [bv_cn_one e', List.length_singleton] at hp
        refine nm_r (nI_1 c) (nm_r (nI_1 i) (ih (i + 1) (c + 1) (by omega) (by omega) (by omega) ?_))
        have q : c + 1 + (bv_cn kf (m.drop (i + 1)) K).length = c + ((bv_cn kf (m.drop (i + 1)) K).length + 1) := by omega
        rw [q]
        exact hp
      · rw [bv_cn_one' (fun z => e (by rw [z]))] at hp
        exact nm_r (nI_1 i) (ih (i + 1) c (by omega) (by omega) (by omega) hp)
theorem by_versionsOf (hY : bv_Y m kf am ac ar bn bk bo bc) (hl : m.length ≤ 24) (hk : ∀ v, v ∈ m → kf v < 2401) {K : Nat} (hK : K < 2401) (hp : post (nI (bv_cn kf m K).length)) : wpY_versionsOf post (yb, yl, yn, nI m.length, bn, bk, bo, bc, bu, bh, bv) (nI (bv_rv K)) := by
  refine Exists.intro (m.length + 1) (by_versionsOf4 hY hl hk hK _ 0 0 (by omega) (by omega) (by omega) ?_)
  rw [Nat.zero_add, List.drop_zero]
  exact hp
theorem by_present (hY : bv_Y m kf am ac ar bn bk bo bc) (hl : m.length ≤ 24) (hk : ∀ v, v ∈ m → kf v < 2401) {K : Nat} (hK : K < 2401) (hp : post (bv_pv ar (bv_cn kf m K))) : wpY_present post (nI (bv_rv K), yl, yn, nI m.length, bn, bk, bo, bc, bu, bh, bv) := by
  unfold wpY_present
  refine by_isPresent hY hl hk hK ⟨?_, hp⟩
  cases bv_cn kf m K with
  | nil => exact narrow_b0
  | cons a t =>
    show narrow .boolean (.int (bv_ob (ar a))) = .int (bv_ob (ar a))
    by_cases z : ar a = 0
    · rw [bv_ob, if_pos z]; rfl
    · rw [bv_ob, if_neg z]; rfl
theorem by_get (hY : bv_Y m kf am ac ar bn bk bo bc) (hl : m.length ≤ 24) (hk : ∀ v, v ∈ m → kf v < 2401) {K : Nat} (hK : K < 2401) (hp : post (bv_gv ac ar (bv_cn kf m K))) : wpY_get post (nI (bv_rv K), yl, yn, nI m.length, bn, bk, bo, bc, bu, bh, bv) := by
  unfold wpY_get
  refine by_newest hY hl hk hK (fun j a t hj e => ?_) (fun e => ?_)
  · have := bv_ilt hj
    rw [e] at hp
    refine br_f (nI_pos (by omega)) ⟨vp_in_nI (by omega) (by omega), ?_⟩
    rw [nI_clamp (by omega), (hY j a hj).2.2.1, (hY j a hj).2.2.2]
    have hp' : post (if ar a = 0 then ac a else 0) := hp
    by_cases z : ar a = 0
    · rw [if_pos z] at hp'
      rw [bv_ob, if_pos z]
      exact br_f (by decide) ⟨vp_in_nI (by omega) (by omega), hp'⟩
    · rw [if_neg z] at hp'
      rw [bv_ob, if_neg z]
      exact br_t rfl hp'
  · rw [e] at hp
    exact br_t (by decide) hp
theorem by_content (hY : bv_Y m kf am ac ar bn bk bo bc) (hl : m.length ≤ 24) {x : Int32} (h1 : ∀ v, v ∈ m → am v = x → post (if ar v = 0 then ac v else 0)) (h0 : (∀ v, v ∈ m → am v ≠ x) → post 0) : wpY_content post (yb, yl, yn, nI m.length, bn, bk, bo, bc, bu, bh, bv) x := by
  unfold wpY_content
  refine by_find hY hl (fun j a hj e => ?_) (fun h => br_t (by decide) (h0 h))
  have := bv_ilt hj
  have hp' := h1 a (List.mem_of_getElem? hj) e
  refine br_f (nI_pos (by omega)) ⟨vp_in_nI (by omega) (by omega), ?_⟩
  rw [nI_clamp (by omega), (hY j a hj).2.2.1, (hY j a hj).2.2.2]
  by_cases z : ar a = 0
  · rw [if_pos z] at hp'
    rw [bv_ob, if_pos z]
    exact br_f (by decide) ⟨vp_in_nI (by omega) (by omega), hp'⟩
  · rw [if_neg z] at hp'
    rw [bv_ob, if_neg z]
    exact br_t rfl hp'
/-- a version's place in its chain -/
theorem bv_cn_at {j v : Nat} (hj : m[j]? = some v) : bv_cn kf m (kf v) = bv_cn kf (m.drop (j + 1)) (kf v) ++ v :: bv_cn kf (m.take j) (kf v) := by
  obtain ⟨hl, e⟩ := List.getElem?_eq_some_iff.mp hj
  have e1 : m.take j ++ ([v] ++ m.drop (j + 1)) = m := by
    show m.take j ++ (v :: m.drop (j + 1)) = m
    rw [← bv_drop hj, List.take_append_drop]
  have e2 : bv_cn kf (m.take j ++ ([v] ++ m.drop (j + 1))) (kf v) = bv_cn kf (m.drop (j + 1)) (kf v) ++ v :: bv_cn kf (m.take j) (kf v) := by
    rw [bv_cn_app, bv_cn_app, bv_cn_one rfl, List.append_assoc]; rfl
  rw [e1] at e2
  exact e2
theorem bv_cn_idx {j v : Nat} (hj : m[j]? = some v) : (bv_cn kf m (kf v))[(bv_cn kf (m.drop (j + 1)) (kf v)).length]? = some v := by
  rw [bv_cn_at hj, List.getElem?_append_right (Nat.le_refl _), Nat.sub_self]; rfl
theorem bv_nd_inj {l : List Nat} (h : l.Nodup) {i j v : Nat} (hi : l[i]? = some v) (hj : l[j]? = some v) : i = j := by
  have h' := List.pairwise_iff_getElem.mp h
  obtain ⟨li, ei⟩ := List.getElem?_eq_some_iff.mp hi
  obtain ⟨lj, ej⟩ := List.getElem?_eq_some_iff.mp hj
  rcases Nat.lt_trichotomy i j with z | z | z
  · exact absurd (ei.trans ej.symm) (h' i j li lj z)
  · exact z
  · exact absurd (ej.trans ei.symm) (h' j i lj li z)
theorem by_versionAt2 (hY : bv_Y m kf am ac ar bn bk bo bc) (hn : m.Nodup) (hl : m.length ≤ 24) (hk : ∀ v, v ∈ m → kf v < 2401) {K : Nat} (hK : K < 2401) {x : Int32} (h0 : x < 0 → post (-7)) (h1 : ∀ i, i < 2 ^ 31 → x = nI i → post (bv_vv am (bv_cn kf m K) i)) : ∀ n i, i ≤ m.length → m.length - i < n → (∀ j v, j < i → m[j]? = some v → kf v = K → nI (bv_cn kf (m.drop (j + 1)) K).length ≠ x) → wY_versionAt_2 post x (nI (bv_rv K)) yl yn (nI m.length) bn bk bo bc bu bh bv n (nI i) := by
  have b2 := bv_rv_lt hK
  intro n
  induction n with
  | zero => intro i _ h; omega
  | succ n ih =>
    intro i hi hnn h
    refine pk_le m.length i (fun z => ?_) (fun z => ⟨vp_in_nI (by omega) (by omega), ?_⟩)
    · by_cases hx : x < 0
      · exact h0 hx
      · obtain ⟨d, hd, e⟩ := nI_of hx
        have hp := h1 d hd e
        unfold bv_vv at hp
        cases hc : (bv_cn kf m K)[d]? with
        | none => rw [hc] at hp; exact hp
        | some v =>
          have hv := bv_cn_mem.mp (List.mem_of_getElem? hc)
          obtain ⟨j, hj⟩ := List.getElem?_of_mem hv.1
          have q := bv_cn_idx (kf := kf) hj
          rw [hv.2] at q
          have q2 := bv_nd_inj (bv_cn_nd hn) hc q
          exact absurd (by rw [e, q2]) (h j v (by have := bv_ilt hj; omega) hj hv.2)
    · obtain ⟨w, hw⟩ := bv_get z
      have hwm := List.mem_of_getElem? hw
      have b1 := bv_rv_lt (hk w hwm)
      rw [nI_clamp (by omega), (hY i w hw).2.1]
      refine pk_eq (bv_rv (kf w)) (bv_rv K) (fun e => ?_) (fun e => ?_)
      · have e' := bv_rv_inj (hk w hwm) hK e
        refine by_newer hY hl hk hw ?_
        rw [e']
        refine br_c (fun y => ⟨vp_in_nI (by omega) (by omega), ?_⟩) (fun y => nm_r (nI_1 i) (ih (i + 1) (by omega) (by omega) (fun j v hj hv hkv => ?_)))
        · rw [(hY i w hw).1]
          have q := bv_cn_idx (kf := kf) hw
          rw [e'] at q
          have q3 : (bv_cn kf (m.drop (i + 1)) K).length < 2 ^ 31 := by
            have := bv_cn_len (kf := kf) (m := m.drop (i + 1)) (K := K)
            rw [List.length_drop] at this
            omega
          have hp := h1 _ q3 y.symm
          unfold bv_vv at hp
          rw [q] at hp
          exact hp
        · rcases Nat.eq_or_lt_of_le (Nat.le_of_lt_succ hj) with c | c
          · subst c
            exact y
          · exact h j v c hv hkv
      · refine nm_r (nI_1 i) (ih (i + 1) (by omega) (by omega) (fun j v hj hv hkv => ?_))
        rcases Nat.eq_or_lt_of_le (Nat.le_of_lt_succ hj) with c | c
        · subst c
          rw [hw] at hv
          cases hv
          exact absurd (by rw [hkv]) e
        · exact h j v c hv hkv
theorem by_versionAt (hY : bv_Y m kf am ac ar bn bk bo bc) (hn : m.Nodup) (hl : m.length ≤ 24) (hk : ∀ v, v ∈ m → kf v < 2401) {K : Nat} (hK : K < 2401) {x : Int32} (h0 : x < 0 → post (-7)) (h1 : ∀ i, i < 2 ^ 31 → x = nI i → post (bv_vv am (bv_cn kf m K) i)) : wpY_versionAt post (nI (bv_rv K), yl, yn, nI m.length, bn, bk, bo, bc, bu, bh, bv) x :=
  Exists.intro (m.length + 1) (by_versionAt2 hY hn hl hk hK h0 h1 _ 0 (Nat.zero_le _) (by omega) (fun j v h => absurd h (Nat.not_lt_zero j)))
end
end
section
/-! adding a version -/
theorem bv_cn_add_s {kf : Nat → Nat} {m : List Nat} {v q : Nat} (h : v ∉ m) : bv_cn (bv_uk kf v q) (m ++ [v]) q = v :: bv_cn kf m q := by
  rw [bv_cn_app, bv_cn_one bv_uk_s, bv_cn_uk h]; rfl
theorem bv_cn_add_n {kf : Nat → Nat} {m : List Nat} {v q K : Nat} (h : v ∉ m) (hK : K ≠ q) : bv_cn (bv_uk kf v q) (m ++ [v]) K = bv_cn kf m K := by
  rw [bv_cn_app, bv_cn_one' (by rw [bv_uk_s]; exact fun z => hK z.symm), bv_cn_uk h]; rfl
theorem bv_mem_add {m : List Nat} {v w : Nat} : w ∈ m ++ [v] ↔ w ∈ m ∨ w = v := by
  rw [List.mem_append, List.mem_singleton]
theorem bv_nd_add {m : List Nat} {v : Nat} (hn : m.Nodup) (h : v ∉ m) : (m ++ [v]).Nodup := by
  refine List.nodup_append.mpr ⟨hn, List.nodup_cons.mpr ⟨List.not_mem_nil, List.nodup_nil⟩, fun a ha b hb e => ?_⟩
  rw [List.mem_singleton] at hb
  exact h (hb ▸ e ▸ ha)
theorem bv_A_add {m : List Nat} {kf : Nat → Nat} {M : Nat} {am ar : Nat → Int32} (hA : bv_A m kf M am ar) {v q : Nat} {k : Int32} (hv : v ∉ m) (hq0 : 0 < q) (hq : q < 2401) (hk : k = 0 ∨ k = 1) (hM : M < 2 ^ 30) : bv_A (m ++ [v]) (bv_uk kf v q) (M + 1) (upd am v (nI M)) (upd ar v k) := by
  obtain ⟨h1, h2⟩ := hA
  have hne : ∀ w, w ∈ m → w ≠ v := fun w hw e => hv (e ▸ hw)
  constructor
  · intro w hw
    rcases bv_mem_add.mp hw with z | z
    · have n := hne w z
      obtain ⟨a, b, c, hc, e⟩ := h1 w z
      rw [bv_uk_n n, pk_un n, pk_un n]
      exact ⟨a, b, c, by omega, e⟩
    · subst z
      rw [bv_uk_s, pk_us, pk_us]
      exact ⟨⟨hq0, hq⟩, hk, M, by omega, rfl⟩
  · intro w x hw hx e
    rcases bv_mem_add.mp hw with z | z
    · have n := hne w z
      rw [pk_un n] at e
      rcases bv_mem_add.mp hx with y | y
      · rw [pk_un (hne x y)] at e
        exact h2 w x z y e
      · subst y
        obtain ⟨_, _, c, hc, e'⟩ := h1 w z
        rw [pk_us, e', nI_eq (by omega) (by omega)] at e
        omega
    · subst z
      rw [pk_us] at e
      rcases bv_mem_add.mp hx with y | y
      · obtain ⟨_, _, c, hc, e'⟩ := h1 x y
        rw [pk_un (hne x y), e', nI_eq (by omega) (by omega)] at e
        omega
      · exact y.symm
theorem bv_Y_add {m : List Nat} {kf : Nat → Nat} {am ac ar bn bk bo bc : Nat → Int32} (hY : bv_Y m kf am ac ar bn bk bo bc) {v q : Nat} {n c k : Int32} (hv : v ∉ m) : bv_Y (m ++ [v]) (bv_uk kf v q) (upd am v n) (upd ac v c) (upd ar v k) (upd bn m.length n) (upd bk m.length (nI (bv_rv q))) (upd bo m.length (bv_ob k)) (upd bc m.length c) := by
  intro j w hw
  by_cases z : j < m.length
  · rw [List.getElem?_append_left z] at hw
    have hne : w ≠ v := fun e => hv (e ▸ List.mem_of_getElem? hw)
    have hj : j ≠ m.length := by omega
    rw [pk_un hne, pk_un hne, pk_un hne, pk_un hj, pk_un hj, pk_un hj, pk_un hj, bv_uk_n hne]
    exact hY j w hw
  · have hj : j = m.length := by
      have := bv_ilt hw
      rw [List.length_append, List.length_singleton] at this
      omega
    subst hj
    rw [List.getElem?_append_right (Nat.le_refl _), Nat.sub_self] at hw
    have e : v = w := Option.some.inj hw
    subst e
    rw [pk_us, pk_us, pk_us, pk_us, pk_us, pk_us, pk_us, bv_uk_s]
    exact ⟨rfl, rfl, rfl, rfl⟩
theorem bv_us_add {m : List Nat} {au : Nat → Int32} {v : Nat} (h : bv_us m au) : bv_us (m ++ [v]) (upd au v 1) := by
  intro w hw
  by_cases e : w = v
  · subst e
    rw [pk_us]
    exact ⟨fun _ => rfl, fun z => absurd (bv_mem_add.mpr (Or.inr rfl)) z⟩
  · rw [pk_un e]
    refine ⟨fun z => (h w hw).1 ?_, fun z => (h w hw).2 (fun y => z (bv_mem_add.mpr (Or.inl y)))⟩
    rcases bv_mem_add.mp z with y | y
    · exact y
    · exact absurd y e
/-- chains behind a new version -/
theorem bv_ch_add {m : List Nat} {kf : Nat → Nat} {ao : Nat → Int32} {v q : Nat} {x : Int32} (h : ∀ K, bv_ch ao (bv_cn kf m K)) (hv : v ∉ m) (hx : x = bv_hd (bv_cn kf m q)) : ∀ K, bv_ch (upd ao v x) (bv_cn (bv_uk kf v q) (m ++ [v]) K) := by
  have hc : ∀ K, bv_ch (upd ao v x) (bv_cn kf m K) := fun K => bv_ch_cg (fun a ha => pk_un (fun e => hv (e ▸ (bv_cn_mem.mp ha).1))) (h K)
  intro K
  by_cases e : K = q
  · subst e
    rw [bv_cn_add_s hv]
    exact ⟨by rw [pk_us, hx], hc K⟩
  · rw [bv_cn_add_n hv e]
    exact hc K
theorem bv_S_add1 {m ks : List Nat} {kf : Nat → Nat} {ak an au ao : Nat → Int32} (hS : bv_S m ks kf ak an au ao) {v q p : Nat} (h24 : v < 24) (hv : v ∉ m) (hp : ks[p]? = some q) : bv_S (m ++ [v]) ks (bv_uk kf v q) ak (upd an p (nI v)) (upd au v 1) (upd ao v (an p)) := by
  obtain ⟨s1, s2, s3, s4, s5, s6, s7⟩ := hS
  refine ⟨bv_nd_add s1 hv, fun w hw => ?_, bv_us_add s3, s4, fun K => ?_, fun i K hi => ?_, bv_ch_add s7 hv (s6 p q hp).2⟩
  · rcases bv_mem_add.mp hw with z | z
    · exact s2 w z
    · exact z ▸ h24
  · rw [← bv_cn_ne]
    by_cases e : K = q
    · subst e
      rw [bv_cn_add_s hv]
      exact ⟨fun _ z => (nomatch z), fun _ => List.mem_of_getElem? hp⟩
    · rw [bv_cn_add_n hv e, bv_cn_ne]
      exact s5 K
  · by_cases e : i = p
    · subst e
      rw [hp] at hi
      cases hi
      rw [bv_cn_add_s hv, pk_us]
      exact ⟨(s6 i _ hp).1, rfl⟩
    · have hK : K ≠ q := fun z => e (bv_so_inj s4 (z ▸ hi) hp)
      rw [bv_cn_add_n hv hK, pk_un e]
      exact s6 i K hi
theorem bv_S_add2 {m ks : List Nat} {kf : Nat → Nat} {ak an au ao ak' an' : Nat → Int32} (hS : bv_S m ks kf ak an au ao) {v q p : Nat} (h24 : v < 24) (hv : v ∉ m) (hp : bv_ps ks q p) (hq : q ∉ ks) (h1 : ∀ j, j < p → ak' j = ak j ∧ an' j = an j) (h2 : ∀ j, p < j → j ≤ ks.length → ak' j = ak (j - 1) ∧ an' j = an (j - 1)) : bv_S (m ++ [v]) (ks.insertIdx p q) (bv_uk kf v q) (upd ak' p (nI q)) (upd an' p (nI v)) (upd au v 1) (upd ao v (-1)) := by
  obtain ⟨s1, s2, s3, s4, s5, s6, s7⟩ := hS
  have hq0 : bv_cn kf m q = [] := Classical.byContradiction fun z => hq ((s5 q).mpr (bv_cn_ne.mp z))
  refine ⟨bv_nd_add s1 hv, fun w hw => ?_, bv_us_add s3, bv_so_ins s4 hp hq, fun K => ?_, fun i K hi => ?_, bv_ch_add s7 hv (by rw [hq0]; rfl)⟩
  · rcases bv_mem_add.mp hw with z | z
    · exact s2 w z
    · exact z ▸ h24
  · rw [← bv_cn_ne, List.mem_insertIdx hp.1]
    by_cases e : K = q
    · subst e
      rw [bv_cn_add_s hv]
      exact ⟨fun _ z => (nomatch z), fun _ => Or.inl rfl⟩
    · rw [bv_cn_add_n hv e, bv_cn_ne, ← s5 K]
      exact ⟨fun z => z.resolve_left e, Or.inr⟩
  · rw [List.getElem?_insertIdx] at hi
    by_cases c1 : i < p
    · rw [if_pos c1] at hi
      have hK : K ≠ q := fun z => hq (z ▸ List.mem_of_getElem? hi)
      have hne : i ≠ p := by omega
      rw [bv_cn_add_n hv hK, pk_un hne, pk_un hne, (h1 i c1).1, (h1 i c1).2]
      exact s6 i K hi
    · rw [if_neg c1] at hi
      by_cases c2 : i = p
      · subst c2
        rw [if_pos rfl, if_pos hp.1] at hi
        cases hi
        rw [bv_cn_add_s hv, pk_us, pk_us]
        exact ⟨rfl, rfl⟩
      · rw [if_neg c2] at hi
        have hK : K ≠ q := fun z => hq (z ▸ List.mem_of_getElem? hi)
        have hl := bv_ilt hi
        have h3 := h2 i (by omega) (by omega)
        rw [bv_cn_add_n hv hK, pk_un c2, pk_un c2, h3.1, h3.2]
        exact s6 (i - 1) K hi
section
variable {xt xb xk xm xh : Int32} {ak an au am ac ar ao ap aq av : Nat → Int32} {post : Int32 → SX → Prop} {m ks : List Nat} {kf : Nat → Nat} {M : Nat}
theorem bx_182 {v p : Nat} (hv : v < 24) (hp : p < 24) (h : post (am v) (xt, xb, xk, xm, xh, ak, upd an p (nI v), au, am, ac, ar, ao, ap, aq, av)) : wX_addVersion_182 post (nI v) (nI p) xt xb xk xm xh ak an au am ac ar ao ap aq av := by
  unfold wX_addVersion_182
  refine ⟨vp_in_nI hp (by omega), nm_r (e' := upd an p (nI v)) (by rw [nI_clamp (by omega)]) ⟨vp_in_nI hv (by omega), ?_⟩⟩
  rw [nI_clamp (by omega)]
  exact h
theorem bx_111 {v p L : Nat} {x1 : Int32} {K N : Nat → Int32} (hv : v < 24) (hL : L < 24) (h : ∀ ak' an', (∀ j, j < p → ak' j = K j ∧ an' j = N j) → (∀ j, p < j → j ≤ L → ak' j = K (j - 1) ∧ an' j = N (j - 1)) → post (am v) (xt, xb, nI (L + 1), xm, xh, upd ak' p x1, upd an' p (nI v), au, am, ac, ar, upd ao v (-1), ap, aq, av)) :
    ∀ n i ak an, p ≤ i → i ≤ L → i - p < n → (∀ j, j ≤ i → ak j = K j ∧ an j = N j) → (∀ j, i < j → j ≤ L → ak j = K (j - 1) ∧ an j = N (j - 1)) → wX_addVersion_111 post x1 (nI v) (nI p) xt xb (nI L) xm xh n (nI i) ak an au am ac ar ao ap aq av := by
  intro n
  induction n with
  | zero => intro i ak an _ _ h; omega
  | succ n ih =>
    intro i ak an hpi hiL hn g1 g2
    refine pk_le i p (fun z => ?_) (fun z => ?_)
    · have e : i = p := by omega
      subst e
      refine ⟨vp_in_nI (by omega) (by omega), nm_r (e' := upd ak i x1) (by rw [nI_clamp (by omega)]) (nm_r (nI_1 L) ⟨vp_in_nI hv (by omega), nm_r (e' := upd ao v (-1)) (by rw [nI_clamp (by omega)]) ?_⟩)⟩
      exact bx_182 hv (by omega) (h ak an (fun j hj => g1 j (by omega)) g2)
    · obtain ⟨i, rfl⟩ : ∃ i', i = i' + 1 := ⟨i - 1, by omega⟩
      rw [nI_pred]
      refine ⟨vp_in_nI (by omega) (by omega), vp_in_nI (by omega) (by omega), nm_r (e' := upd ak (i + 1) (ak i)) (by rw [nI_clamp (by omega), nI_clamp (by omega)]) ⟨vp_in_nI (by omega) (by omega), vp_in_nI (by omega) (by omega), nm_r (e' := upd an (i + 1) (an i)) (by rw [nI_clamp (by omega), nI_clamp (by omega)]) (nm_r (pk_m1 i) ?_)⟩⟩
      refine ih i _ _ (by omega) (by omega) (by omega) (fun j hj => ?_) (fun j hj hjL => ?_)
      · rw [pk_un (by omega), pk_un (by omega)]
        exact g1 j (by omega)
      · by_cases e : j = i + 1
        · subst e
          rw [pk_us, pk_us]
          exact g1 i (by omega)
        · rw [pk_un e, pk_un e]
          exact g2 j (by omega) hjL
theorem bx_add (hA : bv_A m kf M am ar) (hS : bv_S m ks kf ak an au ao) (hl : m.length < 24) {q : Nat} (hq0 : 0 < q) (hq : q < 2401) {k c : Int32} (hk : k = 0 ∨ k = 1)
    (h : ∀ v ks' ak' an' au' ao', v < 24 → v ∉ m → bv_S (m ++ [v]) ks' (bv_uk kf v q) ak' an' au' ao' → post (nI M) (xt, xb, nI ks'.length, nI (M + 1), nI (m.length + 1), ak', an', au', upd am v (nI M), upd ac v c, upd ar v k, ao', ap, aq, av)) :
    wpX_addVersion post (xt, xb, nI ks.length, nI M, nI m.length, ak, an, au, am, ac, ar, ao, ap, aq, av) (nI q) c k := by
  have hd := bv_dk_of hA hS
  have hkl : ks.length ≤ m.length := by
    obtain ⟨s1, s2, s3, s4, s5, s6, s7⟩ := hS
    exact bv_dir_len s4 (fun K hK => (s5 K).mp hK)
  unfold wpX_addVersion
  refine bx_free hS.2.2.1 hl (fun v hv hvm => ?_)
  have ek : vp_nar .boolean k = k := by rcases hk with rfl | rfl <;> rfl
  have hvi : vp_in (nI v) 24 := vp_in_nI hv (by omega)
  refine ⟨hvi, nm_r (e' := upd au v 1) (by rw [nI_clamp (by omega)]; rfl) ⟨hvi, nm_r (e' := upd am v (nI M)) (by rw [nI_clamp (by omega)]) ⟨hvi, nm_r (e' := upd ac v c) (by rw [nI_clamp (by omega)]) ⟨hvi, nm_r (e' := upd ar v k) (by rw [nI_clamp (by omega), ek]) (nm_r (nI_1 M) (nm_r (nI_1 m.length) ?_))⟩⟩⟩⟩
  refine bx_seek hd (by omega) (fun p hp => ?_)
  have hpl := hp.1
  have hnew : q ∉ ks → ∃ n111, wX_addVersion_111 post (nI q) (nI v) (nI p) xt xb (nI ks.length) (nI (M + 1)) (nI (m.length + 1)) n111 (nI ks.length) ak an (upd au v 1) (upd am v (nI M)) (upd ac v c) (upd ar v k) ao ap aq av := by
    intro hqk
    refine ⟨ks.length + 1, bx_111 (K := ak) (N := an) hv (by omega) (fun ak' an' g1 g2 => ?_) _ ks.length ak an hpl (Nat.le_refl _) (by omega) (fun j _ => ⟨rfl, rfl⟩) (fun j h1 h2 => by omega)⟩
    have hh := h v _ _ _ _ _ hv hvm (bv_S_add2 hS hv hvm hp hqk g1 g2)
    rw [pk_us]
    rw [List.length_insertIdx_of_le_length hpl] at hh
    exact hh
  refine pk_le ks.length p (fun z => hnew fun hm => ?_) (fun z => ⟨vp_in_nI (by omega) (by omega), ?_⟩)
  · obtain ⟨i, hi⟩ := List.getElem?_of_mem hm
    have := bv_ps_at hp hd.1 hi
    have := bv_ilt hi
    omega
  · obtain ⟨K, hK⟩ := bv_get z
    have hb := hd.2.2 _ _ hK
    rw [nI_clamp (by omega), hb.1]
    refine pk_eq K q (fun e => ?_) (fun e => hnew fun hm => ?_)
    · subst e
      refine ⟨vp_in_nI (by omega) (by omega), hvi, nm_r (e' := upd ao v (an p)) (by rw [nI_clamp (by omega)]) ?_⟩
      refine bx_182 hv (by omega) ?_
      rw [pk_us]
      exact h v _ _ _ _ _ hv hvm (bv_S_add1 hS hv hvm hK)
    · obtain ⟨i, hi⟩ := List.getElem?_of_mem hm
      have := bv_ps_at hp hd.1 hi
      subst this
      rw [hK] at hi
      exact e (Option.some.inj hi)
end
section
variable {yb yl yn yc : Int32} {bn bk bo bc bu bh bv : Nat → Int32} {post : Int32 → SY → Prop} {m : List Nat} {M : Nat}
theorem by_make {k b c : Int32} (hl : m.length < 24) (hb : b = 0 ∨ b = 1) (h : post (nI M) (yb, yl, nI (M + 1), nI (m.length + 1), upd bn m.length (nI M), upd bk m.length k, upd bo m.length b, upd bc m.length c, bu, bh, bv)) : wpY_make post (yb, yl, nI M, nI m.length, bn, bk, bo, bc, bu, bh, bv) k b c := by
  unfold wpY_make
  have hi : vp_in (nI m.length) 24 := vp_in_nI hl (by omega)
  have eb : vp_nar .boolean b = b := by rcases hb with rfl | rfl <;> rfl
  refine pk_eq m.length 24 (fun z => by omega) (fun z => ⟨hi, nm_r (e' := upd bn m.length (nI M)) (by rw [nI_clamp (by omega)]) ⟨hi, nm_r (e' := upd bk m.length k) (by rw [nI_clamp (by omega)]) ⟨hi, nm_r (e' := upd bo m.length b) (by rw [nI_clamp (by omega), eb]) ⟨hi, nm_r (e' := upd bc m.length c) (by rw [nI_clamp (by omega)]) (nm_r (nI_1 _) (nm_r (nI_1 _) ?_))⟩⟩⟩⟩)
  rw [nI_pred]
  exact h
theorem by_make_full {k b c : Int32} (hl : m.length = 24) (h : post (-2) (yb, yl, yn, nI m.length, bn, bk, bo, bc, bu, bh, bv)) : wpY_make post (yb, yl, yn, nI m.length, bn, bk, bo, bc, bu, bh, bv) k b c := by
  unfold wpY_make
  refine br_t ?_ h
  rw [hl]; rfl
end
end
section
/-! taking versions away -/
/-- X's build when only the chain of one key K (at place p) is made shorter, but not empty -/
theorem bv_S_cut {m ks : List Nat} {kf : Nat → Nat} {ak an au ao an' au' ao' : Nat → Int32} (hS : bv_S m ks kf ak an au ao) {K p : Nat} {f : Nat → Bool} (hp : ks[p]? = some K)
    (hK : ∀ K', K' ≠ K → bv_cn kf (m.filter f) K' = bv_cn kf m K') (hu : bv_us (m.filter f) au') (hc : bv_ch ao' (bv_cn kf (m.filter f) K)) (ho : ∀ x, x ∈ m → kf x ≠ K → ao' x = ao x)
    (hn : an' p = bv_hd (bv_cn kf (m.filter f) K)) (hn' : ∀ i, i ≠ p → an' i = an i) (hne : bv_cn kf (m.filter f) K ≠ []) : bv_S (m.filter f) ks kf ak an' au' ao' := by
  obtain ⟨s1, s2, s3, s4, s5, s6, s7⟩ := hS
  refine ⟨bv_nd_fil s1, fun v hv => s2 v (List.mem_filter.mp hv).1, hu, s4, fun K' => ?_, fun i K' hi => ?_, fun K' => ?_⟩
  · rw [← bv_cn_ne]
    by_cases e : K' = K
    · subst e
      exact ⟨fun _ => hne, fun _ => List.mem_of_getElem? hp⟩
    · rw [hK K' e, bv_cn_ne]
      exact s5 K'
  · by_cases e : i = p
    · subst e
      rw [hp] at hi
      cases hi
      exact ⟨(s6 i _ hp).1, hn⟩
    · have hne' : K' ≠ K := fun z => e (bv_so_inj s4 (z ▸ hi) hp)
      rw [hn' i e, hK K' hne']
      exact s6 i K' hi
  · by_cases e : K' = K
    · subst e; exact hc
    · rw [hK K' e]
      refine bv_ch_cg (fun a ha => ?_) (s7 K')
      have := bv_cn_mem.mp ha
      exact ho a this.1 (fun z => e (this.2.symm.trans z))
/-- .. and when it becomes empty -/
theorem bv_S_drop {m ks : List Nat} {kf : Nat → Nat} {ak an au ao ak' an' au' ao' : Nat → Int32} (hS : bv_S m ks kf ak an au ao) {K p : Nat} {f : Nat → Bool} (hp : ks[p]? = some K)
    (hK : ∀ K', K' ≠ K → bv_cn kf (m.filter f) K' = bv_cn kf m K') (hu : bv_us (m.filter f) au') (ho : ∀ x, x ∈ m → kf x ≠ K → ao' x = ao x)
    (h1 : ∀ j, j < p → ak' j = ak j ∧ an' j = an j) (h2 : ∀ j, p ≤ j → j + 1 < ks.length → ak' j = ak (j + 1) ∧ an' j = an (j + 1)) (hne : bv_cn kf (m.filter f) K = []) : bv_S (m.filter f) (ks.eraseIdx p) kf ak' an' au' ao' := by
  obtain ⟨s1, s2, s3, s4, s5, s6, s7⟩ := hS
  refine ⟨bv_nd_fil s1, fun v hv => s2 v (List.mem_filter.mp hv).1, hu, bv_so_del s4, fun K' => ?_, fun i K' hi => ?_, fun K' => ?_⟩
  · rw [← bv_cn_ne, bv_mem_del s4 hp]
    by_cases e : K' = K
    · subst e
      exact ⟨fun z => absurd rfl z.2, fun z => absurd hne z⟩
    · rw [hK K' e, bv_cn_ne, ← s5 K']
      exact ⟨fun z => z.1, fun z => ⟨z, e⟩⟩
  · have hmem := (bv_mem_del s4 hp).mp (List.mem_of_getElem? hi)
    rw [hK K' hmem.2]
    rw [List.getElem?_eraseIdx] at hi
    by_cases c : i < p
    · rw [if_pos c] at hi
      rw [(h1 i c).1, (h1 i c).2]
      exact s6 i K' hi
    · rw [if_neg c] at hi
      have := h2 i (by omega) (bv_ilt hi)
      rw [this.1, this.2]
      exact s6 (i + 1) K' hi
  · by_cases e : K' = K
    · subst e; rw [hne]; trivial
    · rw [hK K' e]
      refine bv_ch_cg (fun a ha => ?_) (s7 K')
      have := bv_cn_mem.mp ha
      exact ho a this.1 (fun z => e (this.2.symm.trans z))
/-- a list without one of its members -/
def bv_rm (m : List Nat) (v : Nat) : List Nat := m.filter (fun w => decide (w ≠ v))
theorem bv_rm_mem {m : List Nat} {v w : Nat} : w ∈ bv_rm m v ↔ w ∈ m ∧ w ≠ v := by
  unfold bv_rm
  rw [List.mem_filter, decide_eq_true_iff]
theorem bv_rm_not {l : List Nat} {v : Nat} (h : v ∉ l) : l.filter (fun w => decide (w ≠ v)) = l :=
  List.filter_eq_self.mpr fun y hy => decide_eq_true (fun e => h (e ▸ hy))
theorem bv_rm_mid {A t : List Nat} {v : Nat} (h : (A ++ v :: t).Nodup) : (A ++ v :: t).filter (fun w => decide (w ≠ v)) = A ++ t := by
  have h' := List.nodup_append.mp h
  have h1 : v ∉ A := fun z => h'.2.2 v z v List.mem_cons_self rfl
  have h2 := List.nodup_cons.mp h'.2.1
  rw [List.filter_append, bv_rm_not h1, List.filter_cons_of_neg (by simp), bv_rm_not h2.1]
theorem bv_rm_len {m : List Nat} {v : Nat} (hn : m.Nodup) (hv : v ∈ m) : (bv_rm m v).length + 1 = m.length := bv_fil_len hn hv
theorem bv_us_rm {m : List Nat} {au : Nat → Int32} {v : Nat} (h : bv_us m au) : bv_us (bv_rm m v) (upd au v 0) := by
  intro w hw
  by_cases e : w = v
  · subst e
    rw [pk_us]
    exact ⟨fun z => absurd rfl (bv_rm_mem.mp z).2, fun _ => rfl⟩
  · rw [pk_un e]
    exact ⟨fun z => (h w hw).1 (bv_rm_mem.mp z).1, fun z => (h w hw).2 (fun y => z (bv_rm_mem.mpr ⟨y, e⟩))⟩
theorem bv_cn_rm {m : List Nat} {kf : Nat → Nat} {v K : Nat} (h : kf v ≠ K) : bv_cn kf (bv_rm m v) K = bv_cn kf m K := by
  unfold bv_rm
  rw [bv_cn_fil]
  exact bv_rm_not (fun z => h (bv_cn_mem.mp z).2)
section
variable {xt xb xk xm xh : Int32} {ak an au am ac ar ao ap aq av : Nat → Int32} {m ks : List Nat} {kf : Nat → Nat} {M : Nat}
theorem bx_drop12 {post : SX → Prop} {p L : Nat} {K N : Nat → Int32} (hL : L < 24) (h : ∀ ak' an', (∀ j, j < p → ak' j = K j ∧ an' j = N j) → (∀ j, p ≤ j → j < L → ak' j = K (j + 1) ∧ an' j = N (j + 1)) → post (xt, xb, nI L, xm, xh, ak', an', au, am, ac, ar, ao, ap, aq, av)) :
    ∀ n i ak an, p ≤ i → i ≤ L → L - i < n → (∀ j, j < p → ak j = K j ∧ an j = N j) → (∀ j, p ≤ j → j < i → ak j = K (j + 1) ∧ an j = N (j + 1)) → (∀ j, i ≤ j → ak j = K j ∧ an j = N j) → wX_dropKey_12 post xt xb (nI L) xm xh n (nI i) ak an au am ac ar ao ap aq av := by
  intro n
  induction n with
  | zero => intro i ak an _ _ h; omega
  | succ n ih =>
    intro i ak an hpi hiL hn g1 g2 g3
    refine pk_le L i (fun z => ?_) (fun z => ?_)
    · exact h ak an g1 (fun j h1 h2 => g2 j h1 (by omega))
    · rw [nI_1]
      refine ⟨vp_in_nI (by omega) (by omega), vp_in_nI (by omega) (by omega), nm_r (e' := upd ak i (ak (i + 1))) (by rw [nI_clamp (by omega), nI_clamp (by omega)]) ⟨vp_in_nI (by omega) (by omega), vp_in_nI (by omega) (by omega), nm_r (e' := upd an i (an (i + 1))) (by rw [nI_clamp (by omega), nI_clamp (by omega)]) (nm_e ?_)⟩⟩
      refine ih (i + 1) _ _ (by omega) (by omega) (by omega) (fun j hj => ?_) (fun j h1 h2 => ?_) (fun j hj => ?_)
      · rw [pk_un (by omega), pk_un (by omega)]
        exact g1 j hj
      · by_cases e : j = i
        · subst e
          rw [pk_us, pk_us]
          exact g3 (j + 1) (by omega)
        · rw [pk_un e, pk_un e]
          exact g2 j h1 (by omega)
      · rw [pk_un (by omega), pk_un (by omega)]
        exact g3 j (by omega)
theorem bx_dropKey {post : SX → Prop} {p L : Nat} (hp : p ≤ L) (hL : L < 24) (h : ∀ ak' an', (∀ j, j < p → ak' j = ak j ∧ an' j = an j) → (∀ j, p ≤ j → j < L → ak' j = ak (j + 1) ∧ an' j = an (j + 1)) → post (xt, xb, nI L, xm, xh, ak', an', au, am, ac, ar, ao, ap, aq, av)) : wpX_dropKey post (xt, xb, nI (L + 1), xm, xh, ak, an, au, am, ac, ar, ao, ap, aq, av) (nI p) := by
  unfold wpX_dropKey
  refine nm_r (nI_pred L) (Exists.intro (L + 1) ?_)
  exact bx_drop12 hL h _ p ak an (Nat.le_refl _) hp (by omega) (fun j _ => ⟨rfl, rfl⟩) (fun j h1 h2 => by omega) (fun j _ => ⟨rfl, rfl⟩)
/-- the walk along a chain to v -/
theorem bx_un13 {post : Int32 → SX → Prop} {x1 : Int32} {v : Nat} {t : List Nat} (hv : v < 24) : ∀ (R A : List Nat) (n : Nat), A.length + R.length < 24 → R.length < n → v ∉ R → (∀ x, x ∈ R → x < 24) → bv_ch ao (R ++ v :: t) → wX_unchain_49 post x1 (nI v) (bv_hd (A ++ R).reverse) (nI v) xt xb xk xm xh ak an au am ac ar ao ap aq av → wX_unchain_13 post x1 (nI v) xt xb xk xm xh ak an au am ac ar ao ap aq av n (bv_hd A.reverse) (bv_hd (R ++ v :: t)) (nI A.length) := by
  intro R
  induction R with
  | nil =>
    intro A n h1 h2 h3 h4 h5 h
    cases n with
    | zero => exact absurd h2 (Nat.not_lt_zero _)
    | succ n =>
      rw [List.append_nil] at h
      have hA : A.length < 24 := h1
      refine pk_le 24 A.length (fun z => by omega) (fun _ => br_f (nI_pos (by omega)) (br_t rfl ?_))
      exact h
  | cons r R ih =>
    intro A n h1 h2 h3 h4 h5 h
    have hr := h4 r List.mem_cons_self
    have hl : (r :: R).length = R.length + 1 := rfl
    cases n with
    | zero => exact absurd h2 (Nat.not_lt_zero _)
    | succ n =>
      refine pk_le 24 A.length (fun z => by omega) (fun _ => br_f (nI_pos (by omega)) ?_)
      have hne : ¬ nI r = nI v := by
        rw [nI_eq (by omega) (by omega)]
        exact fun e => h3 (e ▸ List.mem_cons_self)
      refine br_f hne ⟨vp_in_nI hr (by omega), nm_r (e' := bv_hd (R ++ v :: t)) ?_ (nm_r (nI_1 _) ?_)⟩
      · show ao (nI r).toNatClampNeg = _
        rw [nI_clamp (by omega)]
        exact h5.1
      · have q := ih (A ++ [r]) n (by rw [List.length_append, List.length_singleton]; omega) (by omega) (fun z => h3 (List.mem_cons_of_mem _ z)) (fun x hx => h4 x (List.mem_cons_of_mem _ hx)) h5.2 (by rw [List.append_assoc]; exact h)
        rw [List.length_append, List.length_singleton, List.reverse_append] at q
        exact q
theorem bx_un13_no {post : Int32 → SX → Prop} {x1 : Int32} {v : Nat} (hv : v < 24) (h : post 0 (xt, xb, xk, xm, xh, ak, an, au, am, ac, ar, ao, ap, aq, av)) : ∀ (R : List Nat) (n i : Nat) (x3 : Int32), i + R.length ≤ 24 → R.length < n → v ∉ R → (∀ x, x ∈ R → x < 24) → bv_ch ao R → wX_unchain_13 post x1 (nI v) xt xb xk xm xh ak an au am ac ar ao ap aq av n x3 (bv_hd R) (nI i) := by
  have hm1 : ¬ (-1 : Int32) = nI v := by
    intro e
    have := nI_pos (n := v) (by omega)
    rw [← e] at this
    exact this (by decide)
  intro R
  induction R with
  | nil =>
    intro n i x3 h1 h2 h3 h4 h5
    cases n with
    | zero => exact absurd h2 (Nat.not_lt_zero _)
    | succ n =>
      have h49 : wX_unchain_49 post x1 (nI v) x3 (-1) xt xb xk xm xh ak an au am ac ar ao ap aq av := br_f hm1 h
      exact br_c (fun _ => h49) (fun _ => br_t (by decide) h49)
  | cons r R ih =>
    intro n i x3 h1 h2 h3 h4 h5
    have hr := h4 r List.mem_cons_self
    have hl : (r :: R).length = R.length + 1 := rfl
    cases n with
    | zero => exact absurd h2 (Nat.not_lt_zero _)
    | succ n =>
      refine pk_le 24 i (fun z => by omega) (fun _ => br_f (nI_pos (by omega)) ?_)
      have hne : ¬ nI r = nI v := by
        rw [nI_eq (by omega) (by omega)]
        exact fun e => h3 (e ▸ List.mem_cons_self)
      refine br_f hne ⟨vp_in_nI hr (by omega), nm_r (e' := bv_hd R) ?_ (nm_r (nI_1 _) ?_)⟩
      · show ao (nI r).toNatClampNeg = _
        rw [nI_clamp (by omega)]
        exact h5.1
      · exact ih n (i + 1) _ (by omega) (by omega) (fun z => h3 (List.mem_cons_of_mem _ z)) (fun x hx => h4 x (List.mem_cons_of_mem _ hx)) h5.2
theorem bx_unchain_no {post : Int32 → SX → Prop} (hS : bv_S m ks kf ak an au ao) {p K v : Nat} (hp : ks[p]? = some K) (hp24 : p < 24) (hv : v < 24) (hvK : v ∉ bv_cn kf m K) (h : post 0 (xt, xb, xk, xm, xh, ak, an, au, am, ac, ar, ao, ap, aq, av)) : wpX_unchain post (xt, xb, xk, xm, xh, ak, an, au, am, ac, ar, ao, ap, aq, av) (nI p) (nI v) := by
  obtain ⟨s1, s2, s3, s4, s5, s6, s7⟩ := hS
  unfold wpX_unchain
  refine ⟨vp_in_nI hp24 (by omega), nm_r (e' := bv_hd (bv_cn kf m K)) (by rw [nI_clamp (by omega)]; exact (s6 p K hp).2) (Exists.intro 25 ?_)⟩
  have hl := bv_cn_len (kf := kf) (m := m) (K := K)
  have hl2 := bv_len24 s1 s2
  exact bx_un13_no hv h _ 25 0 _ (by omega) (by omega) hvK (fun x hx => s2 x (bv_cn_mem.mp hx).1) (s7 K)
/-- the end of unchain: the version's slot is free, an empty key goes -/
theorem bx_un88 {post : Int32 → SX → Prop} {p v H L : Nat} (hv : v < 24) (hpL : p ≤ L) (hL : L < 24) (h1 : 0 ≤ an p → post 1 (xt, xb, nI (L + 1), xm, nI H, ak, an, upd au v 0, am, ac, ar, ao, ap, aq, av)) (h2 : ¬ 0 ≤ an p → ∀ ak' an', (∀ j, j < p → ak' j = ak j ∧ an' j = an j) → (∀ j, p ≤ j → j < L → ak' j = ak (j + 1) ∧ an' j = an (j + 1)) → post 1 (xt, xb, nI L, xm, nI H, ak', an', upd au v 0, am, ac, ar, ao, ap, aq, av)) : wX_unchain_88 post (nI p) (nI v) xt xb (nI (L + 1)) xm (nI (H + 1)) ak an au am ac ar ao ap aq av := by
  unfold wX_unchain_88
  refine ⟨vp_in_nI hv (by omega), nm_r (e' := upd au v 0) (by rw [nI_clamp (by omega)]; rfl) (nm_r (nI_pred H) ⟨vp_in_nI (by omega) (by omega), ?_⟩)⟩
  rw [nI_clamp (by omega)]
  exact br_c h1 (fun z => bx_dropKey hpL hL (fun ak' an' g1 g2 => h2 z ak' an' g1 g2))
theorem bx_unchain {post : Int32 → SX → Prop} (hS : bv_S m ks kf ak an au ao) {p K v : Nat} (hp : ks[p]? = some K) (hl : ks.length ≤ 24) (hv : v ∈ m) (hvK : kf v = K)
    (h : ∀ ks' ak' an' au' ao', (ks' = ks ∨ ks' = ks.eraseIdx p) → bv_S (bv_rm m v) ks' kf ak' an' au' ao' → post 1 (xt, xb, nI ks'.length, xm, nI (bv_rm m v).length, ak', an', au', am, ac, ar, ao', ap, aq, av)) : wpX_unchain post (xt, xb, nI ks.length, xm, nI m.length, ak, an, au, am, ac, ar, ao, ap, aq, av) (nI p) (nI v) := by
  have hS' := hS
  obtain ⟨s1, s2, s3, s4, s5, s6, s7⟩ := hS'
  have hpl := bv_ilt hp
  have hv24 := s2 v hv
  have hml := bv_rm_len s1 hv
  obtain ⟨L, hLe⟩ : ∃ L, ks.length = L + 1 := ⟨ks.length - 1, by omega⟩
  have hvc : v ∈ bv_cn kf m K := bv_cn_mem.mpr ⟨hv, hvK⟩
  obtain ⟨A, t, hc, hvA⟩ := List.eq_append_cons_of_mem hvc
  have hnd := bv_cn_nd (kf := kf) (K := K) s1
  have hch := s7 K
  have hlen := bv_cn_len (kf := kf) (m := m) (K := K)
  have hl24 := bv_len24 s1 s2
  have hc24 : ∀ x, x ∈ bv_cn kf m K → x < 24 := fun x hx => s2 x (bv_cn_mem.mp hx).1
  have hcK : ∀ x, x ∈ bv_cn kf m K → kf x = K := fun x hx => (bv_cn_mem.mp hx).2
  have hn := (s6 p K hp).2
  have hoth : ∀ K', K' ≠ K → bv_cn kf (bv_rm m v) K' = bv_cn kf m K' := fun K' hK' => bv_cn_rm (fun z => hK' (z.symm.trans hvK))
  have hnew : bv_cn kf (bv_rm m v) K = A ++ t := by
    unfold bv_rm
    rw [bv_cn_fil, hc]
    rw [hc] at hnd
    exact bv_rm_mid hnd
  have hus := bv_us_rm (v := v) s3
  rw [hc] at hch hlen hc24 hcK hn hnd
  have hlc : (A ++ v :: t).length = A.length + (t.length + 1) := by rw [List.length_append]; rfl
  have hov : ao v = bv_hd t := (bv_ch_suf hch).1
  unfold wpX_unchain
  refine ⟨vp_in_nI (by omega) (by omega), nm_r (e' := bv_hd (A ++ v :: t)) (by rw [nI_clamp (by omega)]; exact hn) (Exists.intro 25 ?_)⟩
  refine bx_un13 hv24 A [] 25 (by rw [List.length_nil]; omega) (by omega) hvA (fun x hx => hc24 x (List.mem_append_left _ hx)) hch ?_
  rw [List.nil_append]
  rw [hLe, ← hml]
  -- the store
  rcases List.eq_nil_or_concat A with hA | ⟨A0, b, hA⟩
  · subst hA
    refine br_t rfl (br_t (by decide) ⟨vp_in_nI hv24 (by omega), vp_in_nI (by omega) (by omega), nm_r (e' := upd an p (bv_hd t)) (by rw [nI_clamp (by omega), nI_clamp (by omega), hov]) ?_⟩)
    have ht24 : ∀ x, x ∈ t → x < 24 := fun x hx => hc24 x (List.mem_cons_of_mem _ hx)
    refine bx_un88 hv24 (by omega) (by omega) (fun z => ?_) (fun z ak' an' g1 g2 => ?_)
    · rw [pk_us] at z
      have hne : t ≠ [] := fun e => (Int32.not_lt.mpr z) ((bv_hd_neg ht24).mpr e)
      have := h ks ak (upd an p (bv_hd t)) (upd au v 0) ao (Or.inl rfl) (bv_S_cut hS hp hoth hus (by
        show bv_ch ao (bv_cn kf (bv_rm m v) K)
        rw [hnew]; exact hch.2) (fun x _ _ => rfl) (by
        show _ = bv_hd (bv_cn kf (bv_rm m v) K)
        rw [hnew, pk_us]; rfl) (fun i hi => pk_un hi) (by
        show bv_cn kf (bv_rm m v) K ≠ []
        rw [hnew]; exact hne))
      rw [hLe] at this
      exact this
    · rw [pk_us] at z
      have hne : t = [] := Classical.byContradiction fun e => z (Int32.not_lt.mp (fun y => e ((bv_hd_neg ht24).mp y)))
      have := h (ks.eraseIdx p) ak' an' (upd au v 0) ao (Or.inr rfl) (bv_S_drop hS hp hoth hus (fun x _ _ => rfl) (fun j hj => ⟨(g1 j hj).1, (g1 j hj).2.trans (pk_un (by omega))⟩) (fun j hj hj2 => ⟨(g2 j hj (by omega)).1, (g2 j hj (by omega)).2.trans (pk_un (by omega))⟩) (by
        show bv_cn kf (bv_rm m v) K = []
        rw [hnew, hne]; rfl))
      rw [List.length_eraseIdx_of_lt hpl, hLe, Nat.add_sub_cancel] at this
      exact this
  · rw [List.concat_eq_append] at hA
    subst hA
    rw [List.reverse_append]
    have hb24 : b < 24 := hc24 b (by simp)
    refine br_t rfl (br_f (nI_pos (by omega)) ⟨vp_in_nI hv24 (by omega), vp_in_nI hb24 (by omega), nm_r (e' := upd ao b (bv_hd t)) (by
      show upd ao (nI b).toNatClampNeg (ao (nI v).toNatClampNeg) = _
      rw [nI_clamp (by omega), nI_clamp (by omega), hov]) ?_⟩)
    have hnb : 0 ≤ an p := by
      rw [hn]
      have : ¬ bv_hd (A0 ++ [b] ++ v :: t) < 0 := fun z => by
        have := (bv_hd_neg hc24).mp z
        simp at this
      exact Int32.not_lt.mp this
    have hnd2 : (A0 ++ b :: v :: t).Nodup := by
      rw [List.append_assoc] at hnd
      exact hnd
    have hnd3 := List.nodup_append.mp hnd2
    have hnd4 := List.nodup_cons.mp hnd3.2.1
    have hch2 : bv_ch ao (A0 ++ b :: v :: t) := by
      rw [List.append_assoc] at hch
      exact hch
    have hch3 : bv_ch (upd ao b (bv_hd t)) (A0 ++ b :: t) := by
      refine bv_ch_ex hch2 (fun x hx => pk_un ?_) pk_us (bv_ch_cg (fun x hx => pk_un ?_) (bv_ch_suf (A := [b, v]) (bv_ch_suf hch2)))
      · exact fun e => hnd3.2.2 x hx b List.mem_cons_self e
      · exact fun e => hnd4.1 (e ▸ List.mem_cons_of_mem _ hx)
    refine bx_un88 hv24 (by omega) (by omega) (fun z => ?_) (fun z => absurd hnb z)
    have := h ks ak an (upd au v 0) (upd ao b (bv_hd t)) (Or.inl rfl) (bv_S_cut hS hp hoth hus (by
        show bv_ch _ (bv_cn kf (bv_rm m v) K)
        rw [hnew, List.append_assoc]; exact hch3) (fun x _ hx => pk_un (fun e => hx (e ▸ hcK b (by simp)))) (by
        show _ = bv_hd (bv_cn kf (bv_rm m v) K)
        rw [hnew, hn, List.append_assoc, List.append_assoc]
        exact bv_hd_app) (fun i hi => rfl) (by
        show bv_cn kf (bv_rm m v) K ≠ []
        rw [hnew]; simp))
    rw [hLe] at this
    exact this
/-- destroy's loop over the directory -/
theorem bx_destroy18 {post : Int32 → SX → Prop} (hS : bv_S m ks kf ak an au ao) (hl : ks.length ≤ 24) {v j : Nat} (hv : v ∈ m) (hj : ks[j]? = some (kf v))
    (h : ∀ ks' ak' an' au' ao', bv_S (bv_rm m v) ks' kf ak' an' au' ao' → post (nI (bv_rm m v).length) (xt, xb, nI ks'.length, xm, nI (bv_rm m v).length, ak', an', au', am, ac, ar, ao', ap, aq, av)) : ∀ n i, i ≤ j → j + 2 - i < n → wX_destroy_18 post (nI v) n 0 (nI i) xt xb (nI ks.length) xm (nI m.length) ak an au am ac ar ao ap aq av := by
  have hjl := bv_ilt hj
  have hS' := hS
  obtain ⟨s1, s2, s3, s4, s5, s6, s7⟩ := hS'
  intro n
  induction n with
  | zero => intro i _ h; omega
  | succ n ih =>
    intro i hi hn
    refine pk_le ks.length i (fun z => by omega) (fun z => br_t rfl ?_)
    obtain ⟨K, hK⟩ := bv_get z
    by_cases e : i = j
    · subst e
      refine bx_unchain hS hj hl hv rfl (fun ks' ak' an' au' ao' _ hS2 => nm_e ?_)
      cases n with
      | zero => omega
      | succ n => exact br_c (fun _ => h ks' ak' an' au' ao' hS2) (fun _ => br_f (by decide) (h ks' ak' an' au' ao' hS2))
    · refine bx_unchain_no hS hK (by omega) (s2 v hv) (fun y => ?_) (nm_r (nI_1 i) (ih (i + 1) (by omega) (by omega)))
      have := (bv_cn_mem.mp y).2
      exact e (bv_so_inj s4 hK (this ▸ hj))
theorem bx_destroy {post : Int32 → SX → Prop} (hS : bv_S m ks kf ak an au ao) (hl : ks.length ≤ 24) {x : Int32}
    (h0 : (∀ v, v ∈ m → am v ≠ x) → post (-4) (xt, xb, nI ks.length, xm, nI m.length, ak, an, au, am, ac, ar, ao, ap, aq, av))
    (h : ∀ v, v ∈ m → am v = x → ∀ ks' ak' an' au' ao', bv_S (bv_rm m v) ks' kf ak' an' au' ao' → post (nI (bv_rm m v).length) (xt, xb, nI ks'.length, xm, nI (bv_rm m v).length, ak', an', au', am, ac, ar, ao', ap, aq, av)) : wpX_destroy post (xt, xb, nI ks.length, xm, nI m.length, ak, an, au, am, ac, ar, ao, ap, aq, av) x := by
  have hS' := hS
  obtain ⟨s1, s2, s3, s4, s5, s6, s7⟩ := hS'
  unfold wpX_destroy
  refine bx_slot s3 s2 (fun v hv e => ?_) (fun g => br_f (by decide) (h0 g))
  have := s2 v hv
  refine br_t (nI_pos' (by omega)) ?_
  obtain ⟨j, hj⟩ := List.getElem?_of_mem ((s5 (kf v)).mpr ⟨v, hv, rfl⟩)
  exact ⟨j + 3, bx_destroy18 hS hl hv hj (fun ks' ak' an' au' ao' => h v hv e ks' ak' an' au' ao') (j + 3) 0 (by omega) (by omega)⟩
end
/-! Y takes a version away -/
section
variable {yb yl yn yc : Int32} {bn bk bo bc bu bh bv : Nat → Int32} {am ac ar : Nat → Int32} {m : List Nat} {kf : Nat → Nat}
theorem bv_ob_nar (x : Int32) : vp_nar .boolean (bv_ob x) = bv_ob x := by
  by_cases z : x = 0
  · rw [bv_ob, if_pos z]; rfl
  · rw [bv_ob, if_neg z]; rfl
theorem by_take2 {post : SY → Prop} (hY : bv_Y m kf am ac ar bn bk bo bc) {a L : Nat} (ha : a ≤ L) (hL : m.length = L + 1) (h24 : L < 24)
    (h : ∀ bn' bk' bo' bc', bv_Y (m.eraseIdx a) kf am ac ar bn' bk' bo' bc' → post (yb, yl, yn, nI L, bn', bk', bo', bc', bu, bh, bv)) :
    ∀ n i cn ck co cc, a ≤ i → i ≤ L → L - i < n → (∀ j, i ≤ j → cn j = bn j ∧ ck j = bk j ∧ co j = bo j ∧ cc j = bc j) → (∀ j v, j < i → (m.eraseIdx a)[j]? = some v → cn j = am v ∧ ck j = nI (bv_rv (kf v)) ∧ co j = bv_ob (ar v) ∧ cc j = ac v) → wY_take_2 post yb yl yn (nI (L + 1)) n (nI i) cn ck co cc bu bh bv := by
  intro n
  induction n with
  | zero => intro i cn ck co cc _ _ h; omega
  | succ n ih =>
    intro i cn ck co cc hai hiL hn g1 g2
    rw [wY_take_2, nI_pred]
    refine pk_le L i (fun z => nm_e ?_) (fun z => ?_)
    · refine h cn ck co cc (fun j v hj => g2 j v ?_ hj)
      have := bv_ilt hj
      rw [List.length_eraseIdx_of_lt (by omega)] at this
      omega
    · rw [nI_1]
      have i1 : vp_in (nI (i + 1)) 24 := vp_in_nI (by omega) (by omega)
      have i0 : vp_in (nI i) 24 := vp_in_nI (by omega) (by omega)
      obtain ⟨w, hw⟩ := bv_get (l := m) (i := i + 1) (by omega)
      obtain ⟨q1, q2, q3, q4⟩ := g1 (i + 1) (by omega)
      obtain ⟨y1, y2, y3, y4⟩ := hY (i + 1) w hw
      refine ⟨i1, i0, nm_r (e' := upd cn i (bn (i + 1))) (by rw [nI_clamp (by omega), nI_clamp (by omega), q1]) ⟨i1, i0, nm_r (e' := upd ck i (bk (i + 1))) (by rw [nI_clamp (by omega), nI_clamp (by omega), q2]) ⟨i1, i0, nm_r (e' := upd co i (bo (i + 1))) (by rw [nI_clamp (by omega), nI_clamp (by omega), q3, y3, bv_ob_nar]) ⟨i1, i0, nm_r (e' := upd cc i (bc (i + 1))) (by rw [nI_clamp (by omega), nI_clamp (by omega), q4]) (nm_e ?_)⟩⟩⟩⟩
      refine ih (i + 1) _ _ _ _ (by omega) (by omega) (by omega) (fun j hj => ?_) (fun j v hj hv => ?_)
      · have : j ≠ i := by omega
        rw [pk_un this, pk_un this, pk_un this, pk_un this]
        exact g1 j (by omega)
      · by_cases e : j = i
        · subst e
          rw [List.getElem?_eraseIdx_of_ge hai, hw] at hv
          cases hv
          rw [pk_us, pk_us, pk_us, pk_us]
          exact ⟨y1, y2, y3, y4⟩
        · rw [pk_un e, pk_un e, pk_un e, pk_un e]
          exact g2 j v (by omega) hv
theorem by_take {post : SY → Prop} (hY : bv_Y m kf am ac ar bn bk bo bc) {a : Nat} (ha : a < m.length) (h24 : m.length ≤ 24)
    (h : ∀ bn' bk' bo' bc', bv_Y (m.eraseIdx a) kf am ac ar bn' bk' bo' bc' → post (yb, yl, yn, nI (m.eraseIdx a).length, bn', bk', bo', bc', bu, bh, bv)) : wpY_take post (yb, yl, yn, nI m.length, bn, bk, bo, bc, bu, bh, bv) (nI a) := by
  obtain ⟨L, hL⟩ : ∃ L, m.length = L + 1 := ⟨m.length - 1, by omega⟩
  rw [List.length_eraseIdx_of_lt ha, hL, Nat.add_sub_cancel] at h
  rw [hL]
  refine Exists.intro (L + 1) ?_
  refine by_take2 hY (by omega) hL (by omega) h _ a bn bk bo bc (Nat.le_refl _) (by omega) (by omega) (fun j _ => ⟨rfl, rfl, rfl, rfl⟩) (fun j v hj hv => ?_)
  rw [List.getElem?_eraseIdx_of_lt hj] at hv
  exact hY j v hv
theorem by_destroy {post : Int32 → SY → Prop} (hY : bv_Y m kf am ac ar bn bk bo bc) (hn : m.Nodup) (h24 : m.length ≤ 24) {x : Int32}
    (h0 : (∀ v, v ∈ m → am v ≠ x) → post (-4) (yb, yl, yn, nI m.length, bn, bk, bo, bc, bu, bh, bv))
    (h : ∀ v, v ∈ m → am v = x → ∀ bn' bk' bo' bc', bv_Y (bv_rm m v) kf am ac ar bn' bk' bo' bc' → post (nI (bv_rm m v).length) (yb, yl, yn, nI (bv_rm m v).length, bn', bk', bo', bc', bu, bh, bv)) : wpY_destroy post (yb, yl, yn, nI m.length, bn, bk, bo, bc, bu, bh, bv) x := by
  unfold wpY_destroy
  refine by_find hY h24 (fun j v hj e => ?_) (fun g => br_f (by decide) (h0 g))
  have hjl := bv_ilt hj
  refine br_t (nI_pos' (by omega)) ?_
  refine by_take hY hjl h24 (fun bn' bk' bo' bc' hY' => ?_)
  have er : m.eraseIdx j = bv_rm m v := bv_er hn hj
  rw [er] at hY' ⊢
  exact h v (List.mem_of_getElem? hj) e bn' bk' bo' bc' hY'
end
end
section
/-! uploads: bits of parts, Y's table of booleans -/
def bv_bi : Bool → Int32
  | true => 1
  | false => 0
def bv_U (U : Nat → Nat) (ap aq bu bh : Nat → Int32) : Prop :=
  ∀ u, u < 3 → ap u = nI (U u) ∧ bu u = nI (bv_rv (U u)) ∧ U u < 2401 ∧ ∀ i, i < 8 → bh (u * 8 + i) = bv_bi (bt (aq u) i)
def bv_cnt (f : Nat → Bool) : Nat → Nat
  | 0 => 0
  | n + 1 => bv_cnt f n + (if f n then 1 else 0)
theorem bv_cnt_le (f : Nat → Bool) : ∀ n, bv_cnt f n ≤ n
  | 0 => Nat.le_refl _
  | n + 1 => by
    have := bv_cnt_le f n
    show bv_cnt f n + _ ≤ n + 1
    by_cases h : f n = true
    · rw [if_pos h]; omega
    · rw [if_neg h]; omega
theorem bv_bt1 : ∀ k, k < 32 → bt 1 k = decide (k = 0) := by decide +kernel
theorem bv_bit (x : Int32) {i : Nat} (hi : i < 8) : (x >>> (nI i &&& 31)) &&& 1 = bv_bi (bt x i) := by
  apply b_ext
  intro k hk
  rw [b_and, bv_bt1 k hk, b_sshr i (by omega) x hk]
  by_cases e : k = 0
  · subst e
    rw [if_pos (by omega), Nat.add_zero, decide_eq_true rfl, Bool.and_true]
    cases bt x i
    · rfl
    · rfl
  · rw [decide_eq_false e, Bool.and_false]
    cases bt x i
    · exact (b_0 k).symm
    · rw [bv_bi, bv_bt1 k hk, decide_eq_false e]
theorem bv_sh {p i : Nat} (hp : p < 8) (hi : i < 8) : bt ((1 : Int32) <<< (nI p &&& 31)) i = decide (i = p) := by
  rw [b_shl p (by omega) 1 (by omega), bv_bt1 _ (by omega)]
  by_cases e : i = p
  · subst e
    simp
  · rw [decide_eq_false e]
    by_cases h : p ≤ i
    · rw [decide_eq_false (by omega : ¬ i - p = 0), Bool.and_false]
    · rw [decide_eq_false h, Bool.false_and]
theorem bv_ix (u i : Nat) : nI u * 8 + nI i = nI (u * 8 + i) := by
  rw [show (8 : Int32) = nI 8 from rfl, pk_mul, nI_add]
theorem bv_bi0 {b : Bool} : bv_bi b = 0 ↔ b = false := by
  cases b
  · exact ⟨fun _ => rfl, fun _ => rfl⟩
  · exact ⟨fun z => absurd z (by decide), fun z => (nomatch z)⟩
theorem bv_bi1 {b : Bool} : bv_bi b = 1 ↔ b = true := by
  cases b
  · exact ⟨fun z => absurd z (by decide), fun z => (nomatch z)⟩
  · exact ⟨fun _ => rfl, fun _ => rfl⟩
/-- an upload's number that is in use -/
def bv_up (U : Nat → Nat) (x : Int32) (u : Nat) : Prop := u < 3 ∧ x = nI u ∧ 0 < U u
section
variable {xt xb xk xm xh : Int32} {ak an au am ac ar ao ap aq av : Nat → Int32} {yb yl yn yc : Int32} {bn bk bo bc bu bh bv : Nat → Int32} {U : Nat → Nat}
theorem bx_noUp {post : Int32 → Prop} (hU : bv_U U ap aq bu bh) {x : Int32} (h0 : ∀ u, bv_up U x u → post 0) (h1 : (∀ u, ¬ bv_up U x u) → post 1) : wpX_noUpload post (xt, xb, xk, xm, xh, ak, an, au, am, ac, ar, ao, ap, aq, av) x := by
  unfold wpX_noUpload
  rcases pk_ix x (n := 3) (by decide) with h | h | ⟨u, hu, rfl⟩
  · refine br_t h (h1 fun u hu => ?_)
    rw [hu.2.1] at h
    exact nI_pos (by have := hu.1; omega) h
  · have h2 : (2 : Int32) < x := Int32.lt_of_lt_of_le (by decide) h
    refine br_f (Int32.not_lt.mpr (Int32.le_trans (by decide) h)) (br_t h2 (h1 fun u hu => ?_))
    rw [hu.2.1] at h
    exact nI_ge hu.1 (by decide) h
  · obtain ⟨u1, u2, u3, u4⟩ := hU u hu
    refine br_f (nI_pos (by omega)) (pk_lt 2 u (fun z => by omega) (fun _ => ⟨vp_in_nI hu (by decide), ?_⟩))
    rw [nI_clamp (by omega), u1]
    refine pk_eq (U u) 0 (fun z => h1 fun u' hu' => ?_) (fun z => h0 u ⟨hu, rfl, by omega⟩)
    obtain ⟨a, b, c⟩ := hu'
    rw [nI_eq (by omega) (by omega)] at b
    subst b
    omega
theorem by_noUp {post : Int32 → Prop} (hU : bv_U U ap aq bu bh) {x : Int32} (h0 : ∀ u, bv_up U x u → post 0) (h1 : (∀ u, ¬ bv_up U x u) → post 1) : wpY_noUpload post (yb, yl, yn, yc, bn, bk, bo, bc, bu, bh, bv) x := by
  unfold wpY_noUpload
  rcases pk_ix x (n := 3) (by decide) with h | h | ⟨u, hu, rfl⟩
  · refine br_t h (h1 fun u hu => ?_)
    rw [hu.2.1] at h
    exact nI_pos (by have := hu.1; omega) h
  · have h2 : (2 : Int32) < x := Int32.lt_of_lt_of_le (by decide) h
    refine br_f (Int32.not_lt.mpr (Int32.le_trans (by decide) h)) (br_t h2 (h1 fun u hu => ?_))
    rw [hu.2.1] at h
    exact nI_ge hu.1 (by decide) h
  · obtain ⟨u1, u2, u3, u4⟩ := hU u hu
    have hr := bv_rv_lt u3
    refine br_f (nI_pos (by omega)) (pk_lt 2 u (fun z => by omega) (fun _ => ⟨vp_in_nI hu (by decide), ?_⟩))
    rw [nI_clamp (by omega), u2]
    refine pk_eq (bv_rv (U u)) 0 (fun z => h1 fun u' hu' => ?_) (fun z => h0 u ⟨hu, rfl, ?_⟩)
    · obtain ⟨a, b, c⟩ := hu'
      rw [nI_eq (by omega) (by omega)] at b
      subst b
      have := bv_rv_pos u3 c
      omega
    · apply Nat.pos_of_ne_zero
      intro e
      rw [e, bv_rv_0] at z
      exact z rfl
theorem bx_bits4 {post : Int32 → Prop} {x : Int32} (h : post (nI (bv_cnt (bt x) 8))) : ∀ n i, i ≤ 8 → 8 - i < n → wX_bits_4 post x n (nI (bv_cnt (bt x) i)) (nI i) := by
  intro n
  induction n with
  | zero => intro i _ h; omega
  | succ n ih =>
    intro i hi hn
    refine pk_le 8 i (fun z => ?_) (fun z => nm_r (e' := nI (bv_cnt (bt x) (i + 1))) ?_ (nm_r (nI_1 i) (ih (i + 1) (by omega) (by omega))))
    · have e : i = 8 := by omega
      subst e
      exact h
    · rw [bv_bit x (by omega)]
      show _ = nI (bv_cnt (bt x) i + (if bt x i then 1 else 0))
      rw [← nI_add]
      cases bt x i
      · rfl
      · rfl
theorem bx_bits {post : Int32 → Prop} {x : Int32} (h : post (nI (bv_cnt (bt x) 8))) : wpX_bits post x :=
  Exists.intro 9 (bx_bits4 h 9 0 (by omega) (by omega))
theorem by_parts4 {post : Int32 → Prop} {f : Nat → Bool} {u : Nat} (hu : u < 3) (hf : ∀ i, i < 8 → bh (u * 8 + i) = bv_bi (f i)) (h : post (nI (bv_cnt f 8))) : ∀ n i, i ≤ 8 → 8 - i < n → wY_parts_4 post (nI u) yb yl yn yc bn bk bo bc bu bh bv n (nI (bv_cnt f i)) (nI i) := by
  intro n
  induction n with
  | zero => intro i _ h; omega
  | succ n ih =>
    intro i hi hn
    refine pk_le 8 i (fun z => ?_) (fun z => ?_)
    · have e : i = 8 := by omega
      subst e
      exact h
    · rw [bv_ix]
      refine ⟨vp_in_nI (by omega) (by omega), ?_⟩
      rw [nI_clamp (by omega), hf i (by omega)]
      have q := ih (i + 1) (by omega) (by omega)
      have e : bv_cnt f (i + 1) = bv_cnt f i + (if f i then 1 else 0) := rfl
      rw [e] at q
      cases hfi : f i
      · rw [hfi] at q
        exact br_t rfl (nm_r (nI_1 i) q)
      · rw [hfi] at q
        exact br_f (by decide) (nm_r (nI_1 _) (nm_r (nI_1 i) q))
theorem by_parts {post : Int32 → Prop} {f : Nat → Bool} {u : Nat} (hu : u < 3) (hf : ∀ i, i < 8 → bh (u * 8 + i) = bv_bi (f i)) (h : post (nI (bv_cnt f 8))) : wpY_parts post (yb, yl, yn, yc, bn, bk, bo, bc, bu, bh, bv) (nI u) :=
  Exists.intro 9 (by_parts4 hu hf h 9 0 (by omega) (by omega))
/-- where begin finds a free upload -/
theorem bv_free3 (U : Nat → Nat) : ∃ u, u ≤ 3 ∧ (∀ j, j < u → 0 < U j) ∧ (u < 3 → U u = 0) := by
  by_cases h0 : U 0 = 0
  · exact ⟨0, by omega, fun j h => absurd h (Nat.not_lt_zero j), fun _ => h0⟩
  · by_cases h1 : U 1 = 0
    · refine ⟨1, by omega, fun j h => ?_, fun _ => h1⟩
      have : j = 0 := by omega
      subst this; omega
    · by_cases h2 : U 2 = 0
      · refine ⟨2, by omega, fun j h => ?_, fun _ => h2⟩
        have : j = 0 ∨ j = 1 := by omega
        rcases this with rfl | rfl <;> omega
      · refine ⟨3, by omega, fun j h => ?_, fun z => by omega⟩
        have : j = 0 ∨ j = 1 ∨ j = 2 := by omega
        rcases this with rfl | rfl | rfl <;> omega
theorem bx_begin12 {post : Int32 → SX → Prop} (hU : bv_U U ap aq bu bh) {u : Nat} (hu : u ≤ 3) (h1 : ∀ j, j < u → 0 < U j) (h2 : u < 3 → U u = 0) (h : wX_begin_32 post (nI u) xt xb xk xm xh ak an au am ac ar ao ap aq av) : ∀ n i, i ≤ u → u - i < n → wX_begin_12 post xt xb xk xm xh ak an au am ac ar ao ap aq av n (nI i) := by
  intro n
  induction n with
  | zero => intro i _ h; omega
  | succ n ih =>
    intro i hi hn
    refine pk_le 3 i (fun z => ?_) (fun z => ⟨vp_in_nI (by omega) (by omega), ?_⟩)
    · have e : i = u := by omega
      subst e
      exact h
    · obtain ⟨u1, u2, u3, u4⟩ := hU i (by omega)
      rw [nI_clamp (by omega), u1]
      by_cases e : i = u
      · subst e
        rw [h2 (by omega)]
        exact br_t rfl h
      · exact br_f (nI_ne0 (h1 i (by omega)) (by omega)) (nm_r (nI_1 i) (ih (i + 1) (by omega) (by omega)))
theorem bx_begin32 {post : Int32 → SX → Prop} {u : Nat} (hu : u < 3) (h : post (nI u) (xt, xb, xk, xm, xh, ak, an, au, am, ac, ar, ao, upd ap u xb, upd aq u 0, av)) : wX_begin_32 post (nI u) xt xb xk xm xh ak an au am ac ar ao ap aq av := by
  unfold wX_begin_32
  refine pk_eq u 3 (fun z => by omega) (fun _ => ⟨vp_in_nI hu (by decide), nm_r (e' := upd ap u xb) (by rw [nI_clamp (by omega)]) ⟨vp_in_nI hu (by decide), nm_r (e' := upd aq u 0) (by rw [nI_clamp (by omega)]) h⟩⟩)
theorem bx_begin32_f {post : Int32 → SX → Prop} (h : post (-2) (xt, xb, xk, xm, xh, ak, an, au, am, ac, ar, ao, ap, aq, av)) : wX_begin_32 post (nI 3) xt xb xk xm xh ak an au am ac ar ao ap aq av := by
  unfold wX_begin_32
  exact br_t rfl h
theorem by_begin38 {post : Int32 → SY → Prop} {u : Nat} (hu : u < 3) (h : ∀ bh', (∀ i, i < 8 → bh' (u * 8 + i) = 0) → (∀ j, j < u * 8 ∨ u * 8 + 8 ≤ j → bh' j = bh j) → post (nI u) (yb, yl, yn, yc, bn, bk, bo, bc, bu, bh', bv)) : ∀ n i ch, i ≤ 8 → 8 - i < n → (∀ j, j < i → ch (u * 8 + j) = 0) → (∀ j, j < u * 8 ∨ u * 8 + 8 ≤ j → ch j = bh j) → wY_begin_38 post (nI u) yb yl yn yc n (nI i) bn bk bo bc bu ch bv := by
  intro n
  induction n with
  | zero => intro i ch _ h; omega
  | succ n ih =>
    intro i ch hi hn g1 g2
    refine pk_le 8 i (fun z => ?_) (fun z => ?_)
    · have e : i = 8 := by omega
      subst e
      exact h ch g1 g2
    · rw [bv_ix]
      refine ⟨vp_in_nI (by omega) (by omega), nm_r (e' := upd ch (u * 8 + i) 0) (by rw [nI_clamp (by omega)]; rfl) (nm_r (nI_1 i) (ih (i + 1) _ (by omega) (by omega) (fun j hj => ?_) (fun j hj => ?_)))⟩
      · by_cases e : j = i
        · subst e; exact pk_us
        · rw [pk_un (by omega)]
          exact g1 j (by omega)
      · rw [pk_un (by omega)]
        exact g2 j hj
theorem by_begin12 {post : Int32 → SY → Prop} (hU : bv_U U ap aq bu bh) {u : Nat} (hu : u ≤ 3) (h1 : ∀ j, j < u → 0 < U j) (h2 : u < 3 → U u = 0) (h3 : u = 3 → post (-2) (yb, yl, yn, yc, bn, bk, bo, bc, bu, bh, bv)) (h : u < 3 → ∀ bh', (∀ i, i < 8 → bh' (u * 8 + i) = 0) → (∀ j, j < u * 8 ∨ u * 8 + 8 ≤ j → bh' j = bh j) → post (nI u) (yb, yl, yn, yc, bn, bk, bo, bc, upd bu u yb, bh', bv)) : ∀ n i, i ≤ u → u - i < n → wY_begin_12 post yb yl yn yc bn bk bo bc bu bh bv n (nI i) := by
  intro n
  induction n with
  | zero => intro i _ h; omega
  | succ n ih =>
    intro i hi hn
    refine pk_le 3 i (fun z => h3 (by omega)) (fun z => ⟨vp_in_nI (by omega) (by omega), ?_⟩)
    obtain ⟨u1, u2, u3, u4⟩ := hU i (by omega)
    have hr := bv_rv_lt u3
    rw [nI_clamp (by omega), u2]
    by_cases e : i = u
    · subst e
      rw [h2 (by omega)]
      refine br_t rfl ⟨vp_in_nI (by omega) (by omega), nm_e (Exists.intro 9 ?_)⟩
      exact by_begin38 (by omega) (h (by omega)) 9 0 bh (by omega) (by omega) (fun j hj => absurd hj (Nat.not_lt_zero j)) (fun j _ => rfl)
    · exact br_f (nI_ne0 (bv_rv_pos u3 (h1 i (by omega))) (by omega)) (nm_r (nI_1 i) (ih (i + 1) (by omega) (by omega)))
/-- a new upload -/
theorem bv_U_new (hU : bv_U U ap aq bu bh) {u B : Nat} {bh' : Nat → Int32} (hu : u < 3) (hB : B < 2401) (g1 : ∀ i, i < 8 → bh' (u * 8 + i) = 0) (g2 : ∀ j, j < u * 8 ∨ u * 8 + 8 ≤ j → bh' j = bh j) : bv_U (bv_uk U u B) (upd ap u (nI B)) (upd aq u 0) (upd bu u (nI (bv_rv B))) bh' := by
  intro w hw
  by_cases e : w = u
  · subst e
    rw [bv_uk_s, pk_us, pk_us, pk_us]
    refine ⟨rfl, rfl, hB, fun i hi => ?_⟩
    rw [g1 i hi, b_0]; rfl
  · rw [bv_uk_n e, pk_un e, pk_un e, pk_un e]
    obtain ⟨u1, u2, u3, u4⟩ := hU w hw
    refine ⟨u1, u2, u3, fun i hi => ?_⟩
    rw [g2 _ (by omega)]
    exact u4 i hi
/-- an upload's end -/
theorem bv_U_end (hU : bv_U U ap aq bu bh) {u : Nat} : bv_U (bv_uk U u 0) (upd ap u 0) aq (upd bu u 0) bh := by
  intro w hw
  obtain ⟨u1, u2, u3, u4⟩ := hU w hw
  by_cases e : w = u
  · subst e
    rw [bv_uk_s, pk_us, pk_us]
    exact ⟨rfl, rfl, by omega, u4⟩
  · rw [bv_uk_n e, pk_un e, pk_un e]
    exact ⟨u1, u2, u3, u4⟩
/-- a part more -/
theorem bv_U_part (hU : bv_U U ap aq bu bh) {u p : Nat} (hu : u < 3) (hp : p < 8) : bv_U U ap (upd aq u (aq u ||| ((1 : Int32) <<< (nI p &&& 31)))) bu (upd bh (u * 8 + p) 1) := by
  intro w hw
  obtain ⟨u1, u2, u3, u4⟩ := hU w hw
  refine ⟨u1, u2, u3, fun i hi => ?_⟩
  by_cases e : w = u
  · subst e
    rw [pk_us, b_or, bv_sh hp hi]
    by_cases e2 : i = p
    · subst e2
      rw [pk_us, decide_eq_true rfl, Bool.or_true]; rfl
    · rw [pk_un (by omega), decide_eq_false e2, Bool.or_false]
      exact u4 i hi
  · rw [pk_un e, pk_un (by omega)]
    exact u4 i hi
end
end
section
/-! part, complete, abort, begin: both sides -/
def bv_co (f : Nat → Bool) (g : Nat → Int32) : Nat → Int32
  | 0 => 0
  | n + 1 => if f n then bv_co f g n * 31 + g n else bv_co f g n
/-- the wanted parts are not (all) there -/
def bv_bad (s y : Int32) : Prop := s &&& 255 = 0 ∨ ∃ i, i < 8 ∧ bt s i = true ∧ bt y i = false
theorem bv_mask (s y : Int32) : ((s &&& 255) &&& (y ^^^ (-1))) = 0 ↔ ∀ i, i < 8 → bt s i = true → bt y i = true := by
  constructor
  · intro h i hi hs
    have e : bt ((s &&& 255) &&& (y ^^^ (-1))) i = false := by rw [h]; exact b_0 i
    rw [b_and, b_and, b_xor, b_255, b_m1 i (by omega), hs, decide_eq_true hi] at e
    cases hy : bt y i
    · rw [hy] at e; exact absurd e (by decide)
    · rfl
  · intro h
    apply b_ext
    intro i hi
    rw [b_and, b_and, b_xor, b_255, b_m1 i hi, b_0]
    by_cases h8 : i < 8
    · cases hs : bt s i
      · rfl
      · rw [h i h8 hs, decide_eq_true h8]; rfl
    · rw [decide_eq_false h8, Bool.and_false, Bool.false_and]
theorem bv_set {s : Int32} {i : Nat} (hi : i < 8) : bt (s &&& 255) i = bt s i := by
  rw [b_and, b_255, decide_eq_true hi, Bool.and_true]
section
variable {xt xb xk xm xh : Int32} {ak an au am ac ar ao ap aq av : Nat → Int32} {yb yl yn yc : Int32} {bn bk bo bc bu bh bv : Nat → Int32} {U : Nat → Nat} {m ks : List Nat} {kf : Nat → Nat} {M : Nat}
theorem bx_comp55 {post : Int32 → SX → Prop} (hA : bv_A m kf M am ar) (hS : bv_S m ks kf ak an au ao) (hl : m.length < 24) {u q : Nat} (hu : u < 3) (hq0 : 0 < q) (hq : q < 2401) (hap : ap u = nI q) {s : Int32}
    (h : ∀ v ks' ak' an' au' ao', v < 24 → v ∉ m → bv_S (m ++ [v]) ks' (bv_uk kf v q) ak' an' au' ao' → post (nI M) (xt, xb, nI ks'.length, nI (M + 1), nI (m.length + 1), ak', an', au', upd am v (nI M), upd ac v (bv_co (bt s) (fun i => av (u * 8 + i)) 8), upd ar v 0, ao', upd ap u 0, aq, av)) :
    ∀ n i, i ≤ 8 → 8 - i < n → wX_complete_55 post (nI u) (s &&& 255) xt xb (nI ks.length) (nI M) (nI m.length) ak an au am ac ar ao ap aq av n (bv_co (bt s) (fun i => av (u * 8 + i)) i) (nI i) := by
  intro n
  induction n with
  | zero => intro i _ h; omega
  | succ n ih =>
    intro i hi hn
    have hui : vp_in (nI u) 3 := vp_in_nI hu (by decide)
    refine pk_le 8 i (fun z => ?_) (fun z => ?_)
    · have e : i = 8 := by omega
      subst e
      refine ⟨hui, nm_r (e' := nI q) (by rw [nI_clamp (by omega)]; exact hap) ⟨hui, nm_r (e' := upd ap u 0) (by rw [nI_clamp (by omega)]) ?_⟩⟩
      exact bx_add hA hS hl hq0 hq (Or.inl rfl) h
    · rw [bv_bit _ (by omega), bv_set (by omega), bv_ix]
      have qq := ih (i + 1) (by omega) (by omega)
      have e : bv_co (bt s) (fun i => av (u * 8 + i)) (i + 1) = if bt s i then bv_co (bt s) (fun i => av (u * 8 + i)) i * 31 + av (u * 8 + i) else bv_co (bt s) (fun i => av (u * 8 + i)) i := rfl
      rw [e] at qq
      cases hb : bt s i
      · rw [hb] at qq
        exact br_f (by decide) (nm_r (nI_1 i) qq)
      · rw [hb] at qq
        refine br_t rfl ⟨vp_in_nI (by omega) (by omega), nm_r (e' := bv_co (bt s) (fun i => av (u * 8 + i)) i * 31 + av (u * 8 + i)) ?_ (nm_r (nI_1 i) qq)⟩
        rw [nI_clamp (by omega)]
theorem bx_complete {post : Int32 → SX → Prop} (hU : bv_U U ap aq bu bh) (hA : bv_A m kf M am ar) (hS : bv_S m ks kf ak an au ao) (hl : m.length ≤ 24) {x s : Int32}
    (h5 : (∀ u, ¬ bv_up U x u) → post (-5) (xt, xb, nI ks.length, nI M, nI m.length, ak, an, au, am, ac, ar, ao, ap, aq, av))
    (h6 : ∀ u, bv_up U x u → bv_bad s (aq u) → post (-6) (xt, xb, nI ks.length, nI M, nI m.length, ak, an, au, am, ac, ar, ao, ap, aq, av))
    (h2 : ∀ u, bv_up U x u → ¬ bv_bad s (aq u) → m.length = 24 → post (-2) (xt, xb, nI ks.length, nI M, nI m.length, ak, an, au, am, ac, ar, ao, ap, aq, av))
    (h : ∀ u, bv_up U x u → ¬ bv_bad s (aq u) → m.length < 24 → ∀ v ks' ak' an' au' ao', v < 24 → v ∉ m → bv_S (m ++ [v]) ks' (bv_uk kf v (U u)) ak' an' au' ao' → post (nI M) (xt, xb, nI ks'.length, nI (M + 1), nI (m.length + 1), ak', an', au', upd am v (nI M), upd ac v (bv_co (bt s) (fun i => av (u * 8 + i)) 8), upd ar v 0, ao', upd ap u 0, aq, av)) :
    wpX_complete post (xt, xb, nI ks.length, nI M, nI m.length, ak, an, au, am, ac, ar, ao, ap, aq, av) x s := by
  unfold wpX_complete
  refine bx_noUp hU (fun u hu => br_t rfl (nm_e ?_)) (fun g => br_f (by decide) (h5 g))
  obtain ⟨u1, u2, u3, u4⟩ := hU u hu.1
  have hu3 := hu.1
  by_cases c1 : s &&& 255 = 0
  · exact br_t c1 (h6 u hu (Or.inl c1))
  · refine br_f c1 ?_
    rw [hu.2.1]
    refine ⟨vp_in_nI hu.1 (by decide), ?_⟩
    rw [nI_clamp (by omega)]
    by_cases c2 : ((s &&& 255) &&& (aq u ^^^ (-1))) = 0
    · have c3 := (bv_mask s (aq u)).mp c2
      have hg : ¬ bv_bad s (aq u) := by
        intro z
        rcases z with z | ⟨i, hi, z1, z2⟩
        · exact c1 z
        · rw [c3 i hi z1] at z2; exact absurd z2 (by decide)
      refine br_t c2 (pk_lt m.length 24 (fun z => ⟨9, ?_⟩) (fun z => h2 u hu hg (by omega)))
      exact bx_comp55 hA hS z hu.1 hu.2.2 u3 u1 (h u hu hg z) 9 0 (by omega) (by omega)
    · refine br_f c2 (h6 u hu (Or.inr ?_))
      apply Classical.byContradiction
      intro z
      apply c2
      rw [bv_mask]
      intro i hi hs
      cases hy : bt (aq u) i
      · exact absurd ⟨i, hi, hs, hy⟩ z
      · rfl
theorem by_comp27 {post : Int32 → SY → Prop} {u : Nat} {y s : Int32} (hu : u < 3) (hM : M < 2 ^ 30) (hl : m.length ≤ 24) (hf : ∀ i, i < 8 → bh (u * 8 + i) = bv_bi (bt y i)) (hs0 : ¬ s &&& 255 = 0)
    (h6 : bv_bad s y → post (-6) (yb, yl, nI M, nI m.length, bn, bk, bo, bc, bu, bh, bv))
    (h2 : ¬ bv_bad s y → m.length = 24 → post (-2) (yb, yl, nI M, nI m.length, bn, bk, bo, bc, bu, bh, bv))
    (h : ¬ bv_bad s y → m.length < 24 → post (nI M) (yb, yl, nI (M + 1), nI (m.length + 1), upd bn m.length (nI M), upd bk m.length (bu u), upd bo m.length 1, upd bc m.length (bv_co (bt s) (fun i => bv (u * 8 + i)) 8), upd bu u 0, bh, bv)) :
    ∀ n i, i ≤ 8 → 8 - i < n → (∀ j, j < i → bt s j = true → bt y j = true) → wY_complete_27 post (nI u) s yb yl (nI M) (nI m.length) bn bk bo bc bu bh bv n (bv_co (bt s) (fun i => bv (u * 8 + i)) i) (nI i) := by
  intro n
  induction n with
  | zero => intro i _ h; omega
  | succ n ih =>
    intro i hi hn g
    have hui : vp_in (nI u) 3 := vp_in_nI hu (by decide)
    refine pk_le 8 i (fun z => ?_) (fun z => ?_)
    · have e : i = 8 := by omega
      subst e
      have hg : ¬ bv_bad s y := by
        intro w
        rcases w with w | ⟨i, hi, z1, z2⟩
        · exact hs0 w
        · rw [g i hi z1] at z2; exact absurd z2 (by decide)
      refine ⟨hui, ?_⟩
      rw [nI_clamp (by omega)]
      rcases Nat.lt_or_ge m.length 24 with c | c
      · refine by_make c (Or.inr rfl) ?_
        exact br_f (nI_pos (by omega)) ⟨hui, nm_e (h hg c)⟩
      · have c' : m.length = 24 := by omega
        refine by_make_full c' ?_
        exact br_t (by decide) (h2 hg c')
    · rw [bv_bit _ (by omega), bv_ix]
      have qq := ih (i + 1) (by omega) (by omega)
      have e : bv_co (bt s) (fun i => bv (u * 8 + i)) (i + 1) = if bt s i then bv_co (bt s) (fun i => bv (u * 8 + i)) i * 31 + bv (u * 8 + i) else bv_co (bt s) (fun i => bv (u * 8 + i)) i := rfl
      rw [e] at qq
      cases hb : bt s i
      · rw [hb] at qq
        refine br_f (by decide) (nm_r (nI_1 i) (qq fun j hj hsj => ?_))
        by_cases ej : j = i
        · subst ej; rw [hb] at hsj; exact absurd hsj (by decide)
        · exact g j (by omega) hsj
      · rw [hb] at qq
        refine br_t rfl ⟨vp_in_nI (by omega) (by omega), ?_⟩
        rw [nI_clamp (by omega), hf i (by omega)]
        cases hy : bt y i
        · exact br_t rfl (h6 (Or.inr ⟨i, by omega, hb, hy⟩))
        · refine br_f (by decide) ⟨vp_in_nI (by omega) (by omega), nm_e (nm_r (nI_1 i) (qq fun j hj hsj => ?_))⟩
          by_cases ej : j = i
          · subst ej; exact hy
          · exact g j (by omega) hsj
theorem by_complete {post : Int32 → SY → Prop} (hU : bv_U U ap aq bu bh) (hM : M < 2 ^ 30) (hl : m.length ≤ 24) {x s : Int32}
    (h5 : (∀ u, ¬ bv_up U x u) → post (-5) (yb, yl, nI M, nI m.length, bn, bk, bo, bc, bu, bh, bv))
    (h6 : ∀ u, bv_up U x u → bv_bad s (aq u) → post (-6) (yb, yl, nI M, nI m.length, bn, bk, bo, bc, bu, bh, bv))
    (h2 : ∀ u, bv_up U x u → ¬ bv_bad s (aq u) → m.length = 24 → post (-2) (yb, yl, nI M, nI m.length, bn, bk, bo, bc, bu, bh, bv))
    (h : ∀ u, bv_up U x u → ¬ bv_bad s (aq u) → m.length < 24 → post (nI M) (yb, yl, nI (M + 1), nI (m.length + 1), upd bn m.length (nI M), upd bk m.length (nI (bv_rv (U u))), upd bo m.length 1, upd bc m.length (bv_co (bt s) (fun i => bv (u * 8 + i)) 8), upd bu u 0, bh, bv)) :
    wpY_complete post (yb, yl, nI M, nI m.length, bn, bk, bo, bc, bu, bh, bv) x s := by
  unfold wpY_complete
  refine by_noUp hU (fun u hu => br_t rfl ?_) (fun g => br_f (by decide) (h5 g))
  obtain ⟨u1, u2, u3, u4⟩ := hU u hu.1
  by_cases c1 : s &&& 255 = 0
  · exact br_t c1 (h6 u hu (Or.inl c1))
  · refine br_f c1 ?_
    rw [hu.2.1]
    refine ⟨9, by_comp27 hu.1 hM hl u4 c1 (h6 u hu) (h2 u hu) (fun z c => ?_) 9 0 (by omega) (by omega) (fun j hj => absurd hj (Nat.not_lt_zero j))⟩
    rw [u2]
    exact h u hu z c
theorem bx_part {post : Int32 → SX → Prop} (hU : bv_U U ap aq bu bh) {x n v : Int32}
    (h5 : (∀ u, ¬ bv_up U x u) → post (-5) (xt, xb, xk, xm, xh, ak, an, au, am, ac, ar, ao, ap, aq, av))
    (h6 : ∀ u, bv_up U x u → (∀ p, p < 8 → n ≠ nI p) → post (-6) (xt, xb, xk, xm, xh, ak, an, au, am, ac, ar, ao, ap, aq, av))
    (h : ∀ u p, bv_up U x u → p < 8 → n = nI p → post (nI (bv_cnt (bt (aq u ||| ((1 : Int32) <<< (nI p &&& 31)))) 8)) (xt, xb, xk, xm, xh, ak, an, au, am, ac, ar, ao, ap, upd aq u (aq u ||| ((1 : Int32) <<< (nI p &&& 31))), upd av (u * 8 + p) v)) :
    wpX_part post (xt, xb, xk, xm, xh, ak, an, au, am, ac, ar, ao, ap, aq, av) x n v := by
  unfold wpX_part
  refine bx_noUp hU (fun u hu => br_t rfl ?_) (fun g => br_f (by decide) (h5 g))
  have hu3 := hu.1
  rcases pk_ix n (n := 8) (by decide) with c | c | ⟨p, hp, rfl⟩
  · refine br_t c (h6 u hu fun p hp e => ?_)
    rw [e] at c
    exact nI_pos (by omega) c
  · refine br_f (Int32.not_lt.mpr (Int32.le_trans (by decide) c)) (br_f (fun z => ?_) (h6 u hu fun p hp e => ?_))
    · exact absurd (Int32.le_trans c z) (by decide)
    · rw [e] at c
      exact nI_ge hp (by decide) c
  · refine br_f (nI_pos (by omega)) (pk_le p 7 (fun _ => ?_) (fun z => by omega))
    rw [hu.2.1, bv_ix]
    have hui : vp_in (nI u) 3 := vp_in_nI hu.1 (by decide)
    refine ⟨hui, hui, nm_r (e' := upd aq u (aq u ||| ((1 : Int32) <<< (nI p &&& 31)))) (by rw [nI_clamp (by omega)]) ⟨vp_in_nI (by omega) (by decide), nm_r (e' := upd av (u * 8 + p) v) (by rw [nI_clamp (by omega)]) ⟨hui, ?_⟩⟩⟩
    rw [nI_clamp (by omega), pk_us]
    exact bx_bits (h u p hu hp rfl)
theorem by_part {post : Int32 → SY → Prop} (hU : bv_U U ap aq bu bh) {x n v : Int32}
    (h5 : (∀ u, ¬ bv_up U x u) → post (-5) (yb, yl, yn, yc, bn, bk, bo, bc, bu, bh, bv))
    (h6 : ∀ u, bv_up U x u → (∀ p, p < 8 → n ≠ nI p) → post (-6) (yb, yl, yn, yc, bn, bk, bo, bc, bu, bh, bv))
    (h : ∀ u p, bv_up U x u → p < 8 → n = nI p → post (nI (bv_cnt (bt (aq u ||| ((1 : Int32) <<< (nI p &&& 31)))) 8)) (yb, yl, yn, yc, bn, bk, bo, bc, bu, upd bh (u * 8 + p) 1, upd bv (u * 8 + p) v)) :
    wpY_part post (yb, yl, yn, yc, bn, bk, bo, bc, bu, bh, bv) x n v := by
  unfold wpY_part
  refine by_noUp hU (fun u hu => br_t rfl ?_) (fun g => br_f (by decide) (h5 g))
  have hu3 := hu.1
  rcases pk_ix n (n := 8) (by decide) with c | c | ⟨p, hp, rfl⟩
  · refine br_t c (h6 u hu fun p hp e => ?_)
    rw [e] at c
    exact nI_pos (by omega) c
  · refine br_f (Int32.not_lt.mpr (Int32.le_trans (by decide) c)) (br_f (fun z => ?_) (h6 u hu fun p hp e => ?_))
    · exact absurd (Int32.le_trans c z) (by decide)
    · rw [e] at c
      exact nI_ge hp (by decide) c
  · refine br_f (nI_pos (by omega)) (pk_le p 7 (fun _ => ?_) (fun z => by omega))
    rw [hu.2.1, bv_ix]
    have hi : vp_in (nI (u * 8 + p)) 24 := vp_in_nI (by omega) (by decide)
    refine ⟨hi, nm_r (e' := upd bh (u * 8 + p) 1) (by rw [nI_clamp (by omega)]; rfl) ⟨hi, nm_r (e' := upd bv (u * 8 + p) v) (by rw [nI_clamp (by omega)]) ?_⟩⟩
    have hU' := bv_U_part hU hu.1 hp u hu.1
    rw [pk_us] at hU'
    exact by_parts hu.1 hU'.2.2.2 (h u p hu hp rfl)
theorem bx_abort {post : Int32 → SX → Prop} (hU : bv_U U ap aq bu bh) {x : Int32}
    (h5 : (∀ u, ¬ bv_up U x u) → post (-5) (xt, xb, xk, xm, xh, ak, an, au, am, ac, ar, ao, ap, aq, av)) (h : ∀ u, bv_up U x u → post (nI (bv_cnt (bt (aq u)) 8)) (xt, xb, xk, xm, xh, ak, an, au, am, ac, ar, ao, upd ap u 0, aq, av)) : wpX_abort post (xt, xb, xk, xm, xh, ak, an, au, am, ac, ar, ao, ap, aq, av) x := by
  unfold wpX_abort
  refine bx_noUp hU (fun u hu => br_t rfl ?_) (fun g => br_f (by decide) (h5 g))
  have hu3 := hu.1
  rw [hu.2.1]
  have hui : vp_in (nI u) 3 := vp_in_nI hu.1 (by decide)
  refine ⟨hui, nm_r (e' := upd ap u 0) (by rw [nI_clamp (by omega)]) ⟨hui, ?_⟩⟩
  rw [nI_clamp (by omega)]
  exact bx_bits (h u hu)
theorem by_abort {post : Int32 → SY → Prop} (hU : bv_U U ap aq bu bh) {x : Int32}
    (h5 : (∀ u, ¬ bv_up U x u) → post (-5) (yb, yl, yn, yc, bn, bk, bo, bc, bu, bh, bv)) (h : ∀ u, bv_up U x u → post (nI (bv_cnt (bt (aq u)) 8)) (yb, yl, yn, yc, bn, bk, bo, bc, upd bu u 0, bh, bv)) : wpY_abort post (yb, yl, yn, yc, bn, bk, bo, bc, bu, bh, bv) x := by
  unfold wpY_abort
  refine by_noUp hU (fun u hu => br_t rfl ?_) (fun g => br_f (by decide) (h5 g))
  have hu3 := hu.1
  rw [hu.2.1]
  have hui : vp_in (nI u) 3 := vp_in_nI hu.1 (by decide)
  refine ⟨hui, nm_r (e' := upd bu u 0) (by rw [nI_clamp (by omega)]) ?_⟩
  exact by_parts hu.1 (hU u hu.1).2.2.2 (h u hu)
end
end
section
/-! expire: X's side -/
/-- a chain of which a lone marker goes -/
def bv_f2 (ar : Nat → Int32) (c : List Nat) : List Nat := match c with
  | [w] => if ar w = 0 then [w] else []
  | d => d
def bv_fin (ar : Nat → Int32) (s : Nat) (c : List Nat) : List Nat := bv_f2 ar (c.take s)
theorem bv_f2_one {ar : Nat → Int32} {w : Nat} : bv_f2 ar [w] = if ar w = 0 then [w] else [] := rfl
theorem bv_f2_two {ar : Nat → Int32} {c : List Nat} (h : c.length ≠ 1) : bv_f2 ar c = c := by
  match c with
  | [] => rfl
  | [w] => exact absurd rfl h
  | a :: b :: t => rfl
/-- the versions behind the first s of a key's chain go -/
def bv_ct (kf : Nat → Nat) (m : List Nat) (K s : Nat) : List Nat := m.filter (fun v => decide (v ∉ (bv_cn kf m K).drop s))
theorem bv_fil_cons {m r : List Nat} {x : Nat} : m.filter (fun v => decide (v ∉ x :: r)) = (m.filter (fun v => decide (v ∉ r))).filter (fun v => decide (v ≠ x)) := by
  rw [List.filter_filter]
  refine List.filter_congr fun v _ => ?_
  by_cases h1 : v = x
  · subst h1; simp
  · by_cases h2 : v ∈ r
    · simp [h2]
    · simp [h1, h2]
theorem bv_out_len {m : List Nat} (hm : m.Nodup) : ∀ {r : List Nat}, r.Nodup → (∀ x, x ∈ r → x ∈ m) → (m.filter (fun v => decide (v ∉ r))).length + r.length = m.length := by
  intro r
  induction r with
  | nil =>
    intro _ _
    rw [List.filter_eq_self.mpr (fun a _ => decide_eq_true List.not_mem_nil)]
    rfl
  | cons x r ih =>
    intro hn hs
    have hn' := List.nodup_cons.mp hn
    have h1 := ih hn'.2 (fun y hy => hs y (List.mem_cons_of_mem _ hy))
    have h2 := bv_fil_len (m := m.filter (fun v => decide (v ∉ r))) (v := x) (bv_nd_fil hm) (List.mem_filter.mpr ⟨hs x List.mem_cons_self, decide_eq_true hn'.1⟩)
    rw [bv_fil_cons]
    have h3 : (x :: r).length = r.length + 1 := rfl
    omega
theorem bv_take_fil {c : List Nat} {s : Nat} (hc : c.Nodup) : c.filter (fun v => decide (v ∉ c.drop s)) = c.take s := by
  have e : c = c.take s ++ c.drop s := (List.take_append_drop s c).symm
  have hn : (c.take s ++ c.drop s).Nodup := e ▸ hc
  have hn' := List.nodup_append.mp hn
  generalize hd : c.drop s = d at *
  generalize c.take s = a at *
  subst e
  have f1 : a.filter (fun v => decide (v ∉ d)) = a := List.filter_eq_self.mpr (fun x hx => decide_eq_true (fun z => hn'.2.2 x hx x z rfl))
  have f2 : d.filter (fun v => decide (v ∉ d)) = [] := List.filter_eq_nil_iff.mpr (fun x hx => by simp [hx])
  rw [List.filter_append, f1, f2, List.append_nil]
theorem bv_ct_K {kf : Nat → Nat} {m : List Nat} {K s : Nat} (hm : m.Nodup) : bv_cn kf (bv_ct kf m K s) K = (bv_cn kf m K).take s := by
  unfold bv_ct
  rw [bv_cn_fil]
  exact bv_take_fil (bv_cn_nd hm)
theorem bv_ct_n {kf : Nat → Nat} {m : List Nat} {K K' s : Nat} (h : K' ≠ K) : bv_cn kf (bv_ct kf m K s) K' = bv_cn kf m K' := by
  unfold bv_ct
  rw [bv_cn_fil]
  refine List.filter_eq_self.mpr (fun x hx => decide_eq_true (fun z => ?_))
  have h1 := (bv_cn_mem.mp hx).2
  have h2 := (bv_cn_mem.mp (List.drop_subset _ _ z)).2
  exact h (h1.symm.trans h2)
theorem bv_ct_len {kf : Nat → Nat} {m : List Nat} {K s : Nat} (hm : m.Nodup) : (bv_ct kf m K s).length + ((bv_cn kf m K).drop s).length = m.length :=
  bv_out_len hm (List.Sublist.nodup (List.drop_sublist _ _) (bv_cn_nd hm)) (fun x hx => (bv_cn_mem.mp (List.drop_subset _ _ hx)).1)
section
variable {xt xb xk xm xh : Int32} {ak an au am ac ar ao ap aq av : Nat → Int32} {m ks : List Nat} {kf : Nat → Nat} {M : Nat}
theorem bx_cut60 {post : Int32 → SX → Prop} {H : Nat} : ∀ (r : List Nat) (n i c : Nat) (au : Nat → Int32), i + r.length ≤ 24 → r.length < n → (∀ x, x ∈ r → x < 24) → bv_ch ao r →
    (∀ au', (∀ x, x ∈ r → au' x = 0) → (∀ x, x ∉ r → au' x = au x) → post (nI (c + r.length)) (xt, xb, xk, xm, nI H, ak, an, au', am, ac, ar, ao, ap, aq, av)) → wX_cutChain_60 post xt xb xk xm n (nI c) (bv_hd r) (nI i) (nI (H + r.length)) ak an au am ac ar ao ap aq av := by
  intro r
  induction r with
  | nil =>
    intro n i c au h1 h2 h3 h4 h
    cases n with
    | zero => exact absurd h2 (Nat.not_lt_zero _)
    | succ n =>
      have hp := h au (fun x hx => absurd hx List.not_mem_nil) (fun x _ => rfl)
      exact br_c (fun _ => hp) (fun _ => br_t (by decide) hp)
  | cons a r ih =>
    intro n i c au h1 h2 h3 h4 h
    have ha := h3 a List.mem_cons_self
    have hl : (a :: r).length = r.length + 1 := rfl
    cases n with
    | zero => exact absurd h2 (Nat.not_lt_zero _)
    | succ n =>
      refine pk_le 24 i (fun z => by omega) (fun _ => br_f (nI_pos (by omega)) ⟨vp_in_nI ha (by omega), ?_⟩)
      refine nm_r (e' := upd au a 0) ?_ (nm_r (e' := nI (H + r.length)) ?_ (nm_r (nI_1 c) ⟨vp_in_nI ha (by omega), nm_r (e' := bv_hd r) ?_ (nm_r (nI_1 i) ?_)⟩))
      · show upd au (nI a).toNatClampNeg _ = _
        rw [nI_clamp (by omega)]; rfl
      · rw [hl, ← Nat.add_assoc, nI_pred]
      · show ao (nI a).toNatClampNeg = _
        rw [nI_clamp (by omega)]
        exact h4.1
      · refine ih n (i + 1) (c + 1) _ (by omega) (by omega) (fun x hx => h3 x (List.mem_cons_of_mem _ hx)) h4.2 (fun au' g1 g2 => ?_)
        have q := h au' (fun x hx => ?_) (fun x hx => ?_)
        · have e : c + 1 + r.length = c + (a :: r).length := by omega
          rw [e]
          exact q
        · rcases List.mem_cons.mp hx with e | e
          · by_cases y : x ∈ r
            · exact g1 x y
            · rw [g2 x y, e, pk_us]
          · exact g1 x e
        · have y1 : x ≠ a := fun e => hx (e ▸ List.mem_cons_self)
          have y2 : x ∉ r := fun e => hx (List.mem_cons_of_mem _ e)
          rw [g2 x y2, pk_un y1]
theorem bx_cut10 {post : Int32 → SX → Prop} {s : Nat} (hs : s < 100) : ∀ (t : List Nat) (n i : Nat), i ≤ s → t.length < n → (∀ x, x ∈ t → x < 24) → bv_ch ao t → wX_cutChain_33 post (bv_hd (t.drop (s - i))) xt xb xk xm xh ak an au am ac ar ao ap aq av → wX_cutChain_10 post (nI s) xt xb xk xm xh ak an au am ac ar ao ap aq av n (bv_hd t) (nI i) := by
  intro t
  induction t with
  | nil =>
    intro n i h1 h2 h3 h4 h
    rw [List.drop_nil] at h
    cases n with
    | zero => exact absurd h2 (Nat.not_lt_zero _)
    | succ n => exact br_c (fun _ => h) (fun _ => br_t (by decide) h)
  | cons a t ih =>
    intro n i h1 h2 h3 h4 h
    have ha := h3 a List.mem_cons_self
    have hl : (a :: t).length = t.length + 1 := rfl
    cases n with
    | zero => exact absurd h2 (Nat.not_lt_zero _)
    | succ n =>
      refine pk_le s i (fun z => ?_) (fun z => ?_)
      · have e : s - i = 0 := by omega
        rw [e] at h
        exact h
      · refine br_f (nI_pos (by omega)) ⟨vp_in_nI ha (by omega), nm_r (e' := bv_hd t) ?_ (nm_r (nI_1 i) ?_)⟩
        · show ao (nI a).toNatClampNeg = _
          rw [nI_clamp (by omega)]
          exact h4.1
        · refine ih n (i + 1) (by omega) (by omega) (fun x hx => h3 x (List.mem_cons_of_mem _ hx)) h4.2 ?_
          have e : s - i = (s - (i + 1)) + 1 := by omega
          rw [e] at h
          exact h
theorem bx_cutChain {post : Int32 → SX → Prop} (hS : bv_S m ks kf ak an au ao) {p K s : Nat} (hp : ks[p]? = some K) (hp24 : p < 24) (hs0 : 0 < s) (hs : s < 100)
    (h : ∀ au' ao', bv_S (bv_ct kf m K s) ks kf ak an au' ao' → post (nI (m.length - (bv_ct kf m K s).length)) (xt, xb, xk, xm, nI (bv_ct kf m K s).length, ak, an, au', am, ac, ar, ao', ap, aq, av)) : wpX_cutChain post (xt, xb, xk, xm, nI m.length, ak, an, au, am, ac, ar, ao, ap, aq, av) (nI p) (nI s) := by
  have hS' := hS
  obtain ⟨s1, s2, s3, s4, s5, s6, s7⟩ := hS'
  have hlen := bv_ct_len (kf := kf) (K := K) (s := s) s1
  have hcl := bv_cn_len (kf := kf) (m := m) (K := K)
  have hm24 := bv_len24 s1 s2
  have hc24 : ∀ x, x ∈ bv_cn kf m K → x < 24 := fun x hx => s2 x (bv_cn_mem.mp hx).1
  have hcK : ∀ x, x ∈ bv_cn kf m K → kf x = K := fun x hx => (bv_cn_mem.mp hx).2
  have hnd := bv_cn_nd (kf := kf) (K := K) s1
  have hch := s7 K
  have hctK := bv_ct_K (kf := kf) (K := K) (s := s) s1
  unfold wpX_cutChain
  refine ⟨vp_in_nI hp24 (by omega), nm_r (e' := bv_hd (bv_cn kf m K)) (by rw [nI_clamp (by omega)]; exact (s6 p K hp).2) (Exists.intro 25 ?_)⟩
  refine bx_cut10 hs _ 25 1 (by omega) (by omega) hc24 hch ?_
  unfold wX_cutChain_33
  cases hd : (bv_cn kf m K).drop (s - 1) with
  | nil =>
    refine br_f (by decide) ?_
    have e0 : (bv_cn kf m K).drop s = [] := by
      have : (bv_cn kf m K).length ≤ s - 1 := List.drop_eq_nil_iff.mp hd
      exact List.drop_eq_nil_iff.mpr (by omega)
    have e1 : bv_ct kf m K s = m := by
      unfold bv_ct
      rw [e0]
      exact List.filter_eq_self.mpr (fun a _ => decide_eq_true List.not_mem_nil)
    have q := h au ao (by rw [e1]; exact hS)
    rw [e1, Nat.sub_self] at q
    exact q
  | cons b r =>
    have e2 : (bv_cn kf m K).drop s = r := by
      have : (bv_cn kf m K).drop (s - 1 + 1) = ((bv_cn kf m K).drop (s - 1)).drop 1 := by rw [List.drop_drop]
      rw [hd, show s - 1 + 1 = s by omega] at this
      exact this
    have e3 : bv_cn kf m K = (bv_cn kf m K).take (s - 1) ++ b :: r := by
      rw [← hd, List.take_append_drop]
    have e4 : (bv_cn kf m K).take s = (bv_cn kf m K).take (s - 1) ++ [b] := by
      have h1 : (bv_cn kf m K)[s - 1]? = some b := by
        have : ((bv_cn kf m K).drop (s - 1))[0]? = some b := by rw [hd]; rfl
        rw [List.getElem?_drop] at this
        exact this
      have := List.take_add_one (l := bv_cn kf m K) (i := s - 1)
      rw [show s - 1 + 1 = s by omega, h1] at this
      exact this
    generalize hA : (bv_cn kf m K).take (s - 1) = A at *
    rw [e3] at hch hnd hc24 hcK hcl
    have hnd' := List.nodup_append.mp hnd
    have hnd2 := List.nodup_cons.mp hnd'.2.1
    have hb24 : b < 24 := hc24 b (by simp)
    have hob : ao b = bv_hd r := (bv_ch_suf hch).1
    have hrl : r.length ≤ 24 := by
      rw [List.length_append] at hcl
      have : (b :: r).length = r.length + 1 := rfl
      omega
    rw [e2] at hlen
    have hHm : m.length = (bv_ct kf m K s).length + r.length := hlen.symm
    refine br_t (nI_pos' (by omega)) ⟨vp_in_nI hb24 (by omega), nm_r (e' := bv_hd r) (by
      show ao (nI b).toNatClampNeg = _
      rw [nI_clamp (by omega)]; exact hob) ⟨vp_in_nI hb24 (by omega), nm_r (e' := upd ao b (-1)) (by
      show upd ao (nI b).toNatClampNeg _ = _
      rw [nI_clamp (by omega)]) (Exists.intro 25 ?_)⟩⟩
    rw [hHm]
    refine bx_cut60 r 25 0 0 au (by omega) (by omega) (fun x hx => hc24 x (by simp [hx])) (bv_ch_cg (fun x hx => pk_un (fun e => hnd2.1 (e ▸ hx))) (bv_ch_suf hch).2) (fun au' g1 g2 => ?_)
    have q := h au' (upd ao b (-1)) (bv_S_cut hS hp (fun K' hK' => bv_ct_n hK') (fun w hw => ?_) ?_ (fun x hx hxK => pk_un (fun e => hxK (e ▸ hcK b (by simp)))) ?_ (fun i _ => rfl) ?_)
    · have e5 : m.length - (bv_ct kf m K s).length = 0 + r.length := by omega
      rw [e5] at q
      exact q
    · have hmem : w ∈ bv_ct kf m K s ↔ w ∈ m ∧ w ∉ r := by
        unfold bv_ct
        rw [List.mem_filter, decide_eq_true_iff, e2]
      refine ⟨fun z => ?_, fun z => ?_⟩
      · have := hmem.mp z
        rw [g2 w this.2]
        exact (s3 w hw).1 this.1
      · by_cases y : w ∈ r
        · exact g1 w y
        · rw [g2 w y]
          exact (s3 w hw).2 (fun x => z (hmem.mpr ⟨x, y⟩))
    · show bv_ch _ (bv_cn kf (bv_ct kf m K s) K)
      rw [hctK, e4]
      exact bv_ch_ex hch (fun x hx => pk_un (fun e => hnd'.2.2 x hx b List.mem_cons_self e)) pk_us trivial
    · show an p = bv_hd (bv_cn kf (bv_ct kf m K s) K)
      rw [hctK, e4, (s6 p K hp).2, e3]
      exact bv_hd_app
    · show bv_cn kf (bv_ct kf m K s) K ≠ []
      rw [hctK, e4]
      simp
/-- one step of expire at a place of the directory: cut, then drop a lone marker; what becomes of the list -/
def bv_st (kf : Nat → Nat) (ar : Nat → Int32) (m m' : List Nat) (K s : Nat) : Prop := m'.Sublist m ∧ bv_cn kf m' K = bv_fin ar s (bv_cn kf m K) ∧ ∀ K', K' ≠ K → bv_cn kf m' K' = bv_cn kf m K'
theorem bv_rm_sub {m : List Nat} {v : Nat} : (bv_rm m v).Sublist m := List.filter_sublist
theorem bv_ct_sub {kf : Nat → Nat} {m : List Nat} {K s : Nat} : (bv_ct kf m K s).Sublist m := List.filter_sublist
/-- where X's loop stands: places below n are as at the start -/
def bv_xi (kf : Nat → Nat) (ar : Nat → Int32) (m0 ks0 m ks : List Nat) (s n : Nat) : Prop :=
  m.Sublist m0 ∧ n ≤ ks.length ∧ (∀ i, i < n → ks[i]? = ks0[i]?) ∧ ∀ K, ((∃ i, i < n ∧ ks0[i]? = some K) → bv_cn kf m K = bv_cn kf m0 K) ∧ ((¬ ∃ i, i < n ∧ ks0[i]? = some K) → bv_cn kf m K = bv_fin ar s (bv_cn kf m0 K))
theorem bv_xi_step {ar : Nat → Int32} {m0 ks0 m' ks' : List Nat} {s n K : Nat} (so : bv_so ks0) (hI : bv_xi kf ar m0 ks0 m ks s (n + 1)) (hK : ks[n]? = some K) (hst : bv_st kf ar m m' K s) (hks : ks' = ks ∨ ks' = ks.eraseIdx n) : bv_xi kf ar m0 ks0 m' ks' s n := by
  obtain ⟨i1, i2, i3, i4⟩ := hI
  obtain ⟨t1, t2, t3⟩ := hst
  have hK0 : ks0[n]? = some K := (i3 n (by omega)).symm.trans hK
  refine ⟨t1.trans i1, ?_, fun i hi => ?_, fun K' => ?_⟩
  · rcases hks with rfl | rfl
    · omega
    · rw [List.length_eraseIdx_of_lt (bv_ilt hK)]; omega
  · rcases hks with rfl | rfl
    · exact i3 i (by omega)
    · rw [List.getElem?_eraseIdx_of_lt hi]
      exact i3 i (by omega)
  · by_cases e : K' = K
    · subst e
      refine ⟨fun ⟨i, hi, z⟩ => ?_, fun _ => ?_⟩
      · have := bv_so_inj so z hK0; omega
      · rw [t2, (i4 K').1 ⟨n, by omega, hK0⟩]
    · rw [t3 K' e]
      refine ⟨fun ⟨i, hi, z⟩ => (i4 K').1 ⟨i, by omega, z⟩, fun z => (i4 K').2 (fun ⟨i, hi, y⟩ => ?_)⟩
      by_cases c : i = n
      · subst c
        rw [hK0] at y
        exact e (Option.some.inj y).symm
      · exact z ⟨i, by omega, y⟩
theorem bx_exp33 {post : Int32 → SX → Prop} {m0 ks0 : List Nat} {s : Nat} (so : bv_so ks0) (hs0 : 0 < s) (hs : s < 100) (hm0 : m0.length ≤ 24) (hr : ∀ v, v ∈ m0 → ar v = 0 ∨ ar v = 1)
    (h : ∀ m' ks' ak' an' au' ao', bv_xi kf ar m0 ks0 m' ks' s 0 → bv_S m' ks' kf ak' an' au' ao' → post (nI (m0.length - m'.length)) (xt, xb, nI ks'.length, xm, nI m'.length, ak', an', au', am, ac, ar, ao', ap, aq, av)) :
    ∀ f n m ks ak an au ao, n < f → bv_xi kf ar m0 ks0 m ks s n → bv_S m ks kf ak an au ao → wX_expire_33 post (nI s) f (nI (m0.length - m.length)) (nI n - 1) xt xb (nI ks.length) xm (nI m.length) ak an au am ac ar ao ap aq av := by
  intro f
  induction f with
  | zero => intro n m ks ak an au ao hf; omega
  | succ f ih =>
    intro n m ks ak an au ao hf hI hS
    cases n with
    | zero => exact br_t (by decide) (h m ks ak an au ao hI hS)
    | succ n =>
      rw [nI_pred]
      have hS' := hS
      obtain ⟨s1, s2, s3, s4, s5, s6, s7⟩ := hS'
      have hI' := hI
      obtain ⟨i1, i2, i3, i4⟩ := hI'
      have hkl : ks.length ≤ 24 := Nat.le_trans (bv_dir_len s4 (fun K hK => (s5 K).mp hK)) (bv_len24 s1 s2)
      obtain ⟨K, hK⟩ := bv_get (l := ks) (i := n) (by omega)
      have hl0 := i1.length_le
      refine br_f (nI_pos (by omega)) ?_
      refine bx_cutChain hS hK (by omega) hs0 hs (fun au1 ao1 hS1 => ?_)
      have c1 := bv_ct_K (kf := kf) (K := K) (s := s) s1
      have hsub1 := bv_ct_sub (kf := kf) (m := m) (K := K) (s := s)
      have hl1 := hsub1.length_le
      obtain ⟨a, t, hat, ha24, ham, hak, han⟩ := bv_newest hS1 hK
      have hS1' := hS1
      obtain ⟨q1, q2, q3, q4, q5, q6, q7⟩ := hS1'
      refine nm_r (e' := nI (m0.length - (bv_ct kf m K s).length)) ?_ ⟨vp_in_nI (by omega) (by omega), nm_r (e' := nI a) (by rw [nI_clamp (by omega)]; exact han) ⟨vp_in_nI ha24 (by omega), ?_⟩⟩
      · rw [nI_add]
        exact congrArg nI (by omega)
      · have hstay : ar a = 0 ∨ t ≠ [] → bv_st kf ar m (bv_ct kf m K s) K s := by
          intro z
          refine ⟨hsub1, ?_, fun K' hK' => bv_ct_n hK'⟩
          rw [bv_fin, ← c1, hat]
          cases t with
          | nil =>
            rcases z with z | z
            · rw [bv_f2_one, if_pos z]
            · exact absurd rfl z
          | cons b t => rfl
        have ht24 : ∀ x, x ∈ t → x < 24 := fun x hx => q2 x (bv_cn_mem.mp (hat ▸ List.mem_cons_of_mem a hx)).1
        have hoa : ao1 a = bv_hd t := by
          have := q7 K
          rw [hat] at this
          exact this.1
        rw [nI_clamp (by omega)]
        refine br_c (fun z => nm_r (bv_m1 n) (ih n _ ks ak an au1 ao1 (by omega) (bv_xi_step so hI hK (hstay (Or.inl z)) (Or.inl rfl)) hS1)) (fun z => ⟨vp_in_nI ha24 (by omega), ?_⟩)
        rw [hoa]
        refine br_c (fun y => nm_r (bv_m1 n) (ih n _ ks ak an au1 ao1 (by omega) (bv_xi_step so hI hK (hstay (Or.inr (fun e => Int32.not_lt.mpr y ((bv_hd_neg ht24).mpr e)))) (Or.inl rfl)) hS1)) (fun y => ?_)
        have ht : t = [] := (bv_hd_neg ht24).mp (Int32.not_le.mp y)
        refine bx_unchain hS1 hK hkl ham hak (fun ks2 ak2 an2 au2 ao2 hks2 hS2 => ?_)
        have hl2 := bv_rm_len q1 ham
        refine nm_r (e' := nI (m0.length - (bv_rm (bv_ct kf m K s) a).length)) ?_ (nm_r (bv_m1 n) (ih n _ ks2 ak2 an2 au2 ao2 (by omega) (bv_xi_step so hI hK ⟨bv_rm_sub.trans hsub1, ?_, fun K' hK' => ?_⟩ hks2) hS2))
        · rw [nI_1]
          exact congrArg nI (by omega)
        · rw [bv_fin, ← c1, hat, ht, bv_f2_one, if_neg z]
          unfold bv_rm
          rw [bv_cn_fil, hat, ht, List.filter_cons_of_neg (by simp)]
          rfl
        · rw [bv_cn_rm (fun e => hK' (e.symm.trans hak))]
          exact bv_ct_n hK'
theorem bx_exp22 {post : Int32 → SX → Prop} {s : Nat} (hs0 : 0 < s) (hs : s < 100) (hA : bv_A m kf M am ar) (hS : bv_S m ks kf ak an au ao)
    (h : ∀ m' ks' ak' an' au' ao', m'.Sublist m → (∀ K, bv_cn kf m' K = bv_fin ar s (bv_cn kf m K)) → bv_S m' ks' kf ak' an' au' ao' → post (nI (m.length - m'.length)) (xt, xb, nI ks'.length, xm, nI m'.length, ak', an', au', am, ac, ar, ao', ap, aq, av)) : wX_expire_22 post (nI s) xt xb (nI ks.length) xm (nI m.length) ak an au am ac ar ao ap aq av := by
  have hS' := hS
  obtain ⟨s1, s2, s3, s4, s5, s6, s7⟩ := hS'
  unfold wX_expire_22
  refine nm_e (Exists.intro (ks.length + 1) ?_)
  have q := bx_exp33 (post := post) (s := s) (m0 := m) (ks0 := ks) (kf := kf) (xt := xt) (xb := xb) (xm := xm) (am := am) (ac := ac) (ar := ar) (ap := ap) (aq := aq) (av := av) s4 hs0 hs (bv_len24 s1 s2) (fun v hv => (hA.1 v hv).2.1) (fun m' ks' ak' an' au' ao' hI hS2 => h m' ks' ak' an' au' ao' hI.1 (fun K => (hI.2.2.2 K).2 (fun ⟨i, hi, _⟩ => absurd hi (Nat.not_lt_zero i))) hS2) (ks.length + 1) ks.length m ks ak an au ao (by omega) ⟨List.Sublist.refl m, Nat.le_refl _, fun i _ => rfl, fun K => ⟨fun _ => rfl, fun z => ?_⟩⟩ hS
  · rw [Nat.sub_self] at q
    exact q
  · have e : bv_cn kf m K = [] := Classical.byContradiction fun y => by
      obtain ⟨i, hi⟩ := List.getElem?_of_mem ((s5 K).mpr (bv_cn_ne.mp y))
      exact z ⟨i, bv_ilt hi, hi⟩
    rw [e, bv_fin, List.take_nil]; rfl
/-- how many of each key stay: X's number, from 1 to 25 -/
def bv_stay (x : Int32) (s : Nat) : Prop := (x < 0 ∧ s = 1) ∨ (∃ j, j ≤ 24 ∧ x = nI j ∧ s = j + 1) ∨ (nI 25 ≤ x ∧ s = 25)
theorem bv_stay_ex (x : Int32) : ∃ s, bv_stay x s ∧ 0 < s ∧ s < 100 := by
  rcases pk_ix x (n := 25) (by decide) with c | c | ⟨j, hj, e⟩
  · exact ⟨1, Or.inl ⟨c, rfl⟩, by omega, by omega⟩
  · exact ⟨25, Or.inr (Or.inr ⟨c, rfl⟩), by omega, by omega⟩
  · exact ⟨j + 1, Or.inr (Or.inl ⟨j, by omega, e, rfl⟩), by omega, by omega⟩
theorem bx_expire {post : Int32 → SX → Prop} {s : Nat} {x : Int32} (hx : bv_stay x s) (hs0 : 0 < s) (hs : s < 100) (hA : bv_A m kf M am ar) (hS : bv_S m ks kf ak an au ao)
    (h : ∀ m' ks' ak' an' au' ao', m'.Sublist m → (∀ K, bv_cn kf m' K = bv_fin ar s (bv_cn kf m K)) → bv_S m' ks' kf ak' an' au' ao' → post (nI (m.length - m'.length)) (xt, xb, nI ks'.length, xm, nI m'.length, ak', an', au', am, ac, ar, ao', ap, aq, av)) : wpX_expire post (xt, xb, nI ks.length, xm, nI m.length, ak, an, au, am, ac, ar, ao, ap, aq, av) x := by
  have q := bx_exp22 (xt := xt) (xb := xb) (xm := xm) (ac := ac) (ap := ap) (aq := aq) (av := av) hs0 hs hA hS h
  unfold wpX_expire
  rcases hx with ⟨c, rfl⟩ | ⟨j, hj, rfl, rfl⟩ | ⟨c, rfl⟩
  · exact br_f (Int32.not_le.mpr c) q
  · refine br_t (nI_pos' (by omega)) (pk_le j 24 (fun _ => ?_) (fun z => by omega))
    rw [nI_1]
    exact q
  · refine br_t (Int32.le_trans (by decide) c) (br_f (fun z => ?_) q)
    exact absurd (Int32.le_trans c z) (by decide)
end
end
section
/-! expire: Y's side -/
/-- the first pass: a version stays if fewer than s of its key are newer -/
def bv_p1 (kf : Nat → Nat) (s : Nat) : List Nat → List Nat
  | [] => []
  | v :: t => if (bv_cn kf t (kf v)).length < s then v :: bv_p1 kf s t else bv_p1 kf s t
theorem bv_p1_sub {kf : Nat → Nat} {s : Nat} : ∀ l : List Nat, (bv_p1 kf s l).Sublist l
  | [] => List.Sublist.refl _
  | v :: t => by
    show (if (bv_cn kf t (kf v)).length < s then v :: bv_p1 kf s t else bv_p1 kf s t).Sublist (v :: t)
    by_cases h : (bv_cn kf t (kf v)).length < s
    · rw [if_pos h]; exact List.Sublist.cons_cons v (bv_p1_sub t)
    · rw [if_neg h]; exact List.Sublist.cons v (bv_p1_sub t)
theorem bv_p1_cn {kf : Nat → Nat} {s K : Nat} : ∀ l : List Nat, bv_cn kf (bv_p1 kf s l) K = (bv_cn kf l K).take s := by
  intro l
  induction l with
  | nil => show [] = ([] : List Nat).take s; rw [List.take_nil]
  | cons v t ih =>
    show bv_cn kf (if (bv_cn kf t (kf v)).length < s then v :: bv_p1 kf s t else bv_p1 kf s t) K = _
    rw [bv_cn_cons (v := v) (t := t)]
    by_cases e : kf v = K
    · rw [bv_cn_one e, e]
      by_cases h : (bv_cn kf t K).length < s
      · rw [if_pos h, bv_cn_cons, bv_cn_one e, ih, List.take_of_length_le (by omega), List.take_of_length_le (by rw [List.length_append, List.length_singleton]; omega)]
      · rw [if_neg h, ih, List.take_append_of_le_length (by omega)]
    · rw [bv_cn_one' e, List.append_nil]
      by_cases h : (bv_cn kf t (kf v)).length < s
      · rw [if_pos h, bv_cn_cons, bv_cn_one' e, List.append_nil, ih]
      · rw [if_neg h, ih]
/-- the second pass over the list l -/
def bv_p2 (kf : Nat → Nat) (ar : Nat → Int32) (l B : List Nat) : List Nat := B.filter (fun w => decide (w ∈ bv_f2 ar (bv_cn kf l (kf w))))
theorem bv_f2_sub {ar : Nat → Int32} {c : List Nat} {w : Nat} (h : w ∈ bv_f2 ar c) : w ∈ c := by
  by_cases e : c.length = 1
  · obtain ⟨a, rfl⟩ := List.length_eq_one_iff.mp e
    rw [bv_f2_one] at h
    by_cases z : ar a = 0
    · rw [if_pos z] at h; exact h
    · rw [if_neg z] at h; exact absurd h List.not_mem_nil
  · rw [bv_f2_two e] at h; exact h
theorem bv_p2_cn {kf : Nat → Nat} {ar : Nat → Int32} {l : List Nat} {K : Nat} : bv_cn kf (bv_p2 kf ar l l) K = bv_f2 ar (bv_cn kf l K) := by
  unfold bv_p2
  rw [bv_cn_fil]
  have e0 : (bv_cn kf l K).filter (fun w => decide (w ∈ bv_f2 ar (bv_cn kf l (kf w)))) = (bv_cn kf l K).filter (fun w => decide (w ∈ bv_f2 ar (bv_cn kf l K))) := by
    refine List.filter_congr fun w hw => ?_
    rw [(bv_cn_mem.mp hw).2]
  rw [e0]
  by_cases e : (bv_cn kf l K).length = 1
  · obtain ⟨a, ha⟩ := List.length_eq_one_iff.mp e
    rw [ha, bv_f2_one]
    by_cases z : ar a = 0
    · rw [if_pos z, List.filter_cons_of_pos (by simp)]; rfl
    · rw [if_neg z, List.filter_cons_of_neg (by simp)]; rfl
  · rw [bv_f2_two e]
    exact List.filter_eq_self.mpr (fun w hw => decide_eq_true hw)
/-- a version that the second pass comes to: its chain is still whole -/
theorem bv_p2_at {kf : Nat → Nat} {ar : Nat → Int32} {A B : List Nat} {v : Nat} : bv_cn kf (A ++ [v] ++ bv_p2 kf ar (A ++ [v] ++ B) B) (kf v) = bv_cn kf (A ++ [v] ++ B) (kf v) := by
  rw [bv_cn_app (a := A ++ [v]), bv_cn_app (a := A ++ [v]) (b := B)]
  congr 1
  unfold bv_p2
  rw [bv_cn_fil]
  refine List.filter_eq_self.mpr fun w hw => decide_eq_true ?_
  have hwk := (bv_cn_mem.mp hw).2
  rw [hwk]
  have hlen : (bv_cn kf (A ++ [v] ++ B) (kf v)).length ≠ 1 := by
    rw [bv_cn_app, bv_cn_app, bv_cn_one rfl]
    have := List.length_pos_of_mem hw
    rw [List.length_append, List.length_append, List.length_singleton]
    omega
  rw [bv_f2_two hlen, bv_cn_app]
  exact List.mem_append_left _ hw
section
variable {yb yl yn yc : Int32} {bn bk bo bc bu bh bv : Nat → Int32} {am ac ar : Nat → Int32} {kf : Nat → Nat}
theorem bv_idx_mid {A R : List Nat} {v : Nat} : (A ++ [v] ++ R)[A.length]? = some v := by
  rw [List.append_assoc, List.getElem?_append_right (Nat.le_refl _), Nat.sub_self]; rfl
theorem bv_drop_mid {A R : List Nat} {v : Nat} : (A ++ [v] ++ R).drop (A.length + 1) = R := by
  have : (A ++ [v]).length = A.length + 1 := by rw [List.length_append, List.length_singleton]
  rw [← this, List.drop_left]
theorem bv_er_mid {A R : List Nat} {v : Nat} : (A ++ [v] ++ R).eraseIdx A.length = A ++ R := by
  rw [List.append_assoc, List.eraseIdx_append_of_length_le (Nat.le_refl _), Nat.sub_self]; rfl
theorem by_exp34 {post : Int32 → SY → Prop} {x2 : Int32} {s : Nat} (hs0 : 0 < s) (hs : s < 100) {m0 : List Nat} (hm0 : m0.length ≤ 24) (hk : ∀ v, v ∈ m0 → kf v < 2401)
    (h : ∀ bn bk bo bc, bv_Y (bv_p1 kf s m0) kf am ac ar bn bk bo bc → ∃ n69, wY_expire_69 post x2 n69 (nI (bv_p1 kf s m0).length - 1) yb yl yn (nI (bv_p1 kf s m0).length) bn bk bo bc bu bh bv) :
    ∀ f n A B bn bk bo bc, A.length = n → m0 = A ++ B → n < f → bv_Y (A ++ bv_p1 kf s B) kf am ac ar bn bk bo bc → wY_expire_34 post x2 (nI (s - 1)) f (nI n - 1) yb yl yn (nI (A ++ bv_p1 kf s B).length) bn bk bo bc bu bh bv := by
  intro f
  induction f with
  | zero => intro n A B bn bk bo bc _ _ hf; omega
  | succ f ih =>
    intro n A B bn bk bo bc hn hAB hf hY
    have hsub : (A ++ bv_p1 kf s B).Sublist m0 := hAB ▸ (List.Sublist.append (List.Sublist.refl A) (bv_p1_sub B))
    have hl := hsub.length_le
    have hk' : ∀ v, v ∈ A ++ bv_p1 kf s B → kf v < 2401 := fun v hv => hk v (hsub.subset hv)
    rcases List.eq_nil_or_concat A with hA | ⟨A0, v, hA⟩
    · subst hA
      have e : n = 0 := hn.symm
      subst e
      have e2 : m0 = B := hAB
      subst e2
      exact br_t (by decide) (nm_e (h bn bk bo bc hY))
    · rw [List.concat_eq_append] at hA
      subst hA
      have e : n = A0.length + 1 := by rw [← hn, List.length_append, List.length_singleton]
      subst e
      rw [nI_pred]
      have hA24 : A0.length < 24 := by
        rw [List.length_append, List.length_append, List.length_singleton] at hl
        omega
      refine br_f (nI_pos (by omega)) ?_
      refine by_newer hY (by omega) hk' bv_idx_mid ?_
      rw [bv_drop_mid, bv_p1_cn]
      have hB : m0 = A0 ++ v :: B := by rw [hAB, List.append_assoc]; rfl
      have hlt : ((bv_cn kf B (kf v)).take s).length = min s (bv_cn kf B (kf v)).length := List.length_take
      refine pk_le ((bv_cn kf B (kf v)).take s).length (s - 1) (fun z => ?_) (fun z => ?_)
      · have c : (bv_cn kf B (kf v)).length < s := by omega
        have e3 : A0 ++ [v] ++ bv_p1 kf s B = A0 ++ bv_p1 kf s (v :: B) := by
          show _ = A0 ++ (if (bv_cn kf B (kf v)).length < s then v :: bv_p1 kf s B else bv_p1 kf s B)
          rw [if_pos c, List.append_assoc]; rfl
        rw [e3] at hY ⊢
        exact nm_r (bv_m1 _) (ih A0.length A0 (v :: B) bn bk bo bc rfl hB (by omega) hY)
      · have c : ¬ (bv_cn kf B (kf v)).length < s := by omega
        refine by_take hY (by rw [List.length_append, List.length_append, List.length_singleton]; omega) (by omega) (fun bn' bk' bo' bc' hY' => ?_)
        have e3 : A0 ++ bv_p1 kf s B = A0 ++ bv_p1 kf s (v :: B) := by
          show _ = A0 ++ (if (bv_cn kf B (kf v)).length < s then v :: bv_p1 kf s B else bv_p1 kf s B)
          rw [if_neg c]
        rw [bv_er_mid, e3] at hY' ⊢
        exact nm_r (bv_m1 _) (ih A0.length A0 (v :: B) bn' bk' bo' bc' rfl hB (by omega) hY')
theorem by_exp69 {post : Int32 → SY → Prop} {x2 : Int32} {l : List Nat} (hl24 : l.length ≤ 24) (hk : ∀ v, v ∈ l → kf v < 2401) (hr : ∀ v, v ∈ l → ar v = 0 ∨ ar v = 1)
    (h : ∀ bn bk bo bc, bv_Y (bv_p2 kf ar l l) kf am ac ar bn bk bo bc → post (x2 - nI (bv_p2 kf ar l l).length) (yb, yl, yn, nI (bv_p2 kf ar l l).length, bn, bk, bo, bc, bu, bh, bv)) :
    ∀ f n A B bn bk bo bc, A.length = n → l = A ++ B → n < f → bv_Y (A ++ bv_p2 kf ar l B) kf am ac ar bn bk bo bc → wY_expire_69 post x2 f (nI n - 1) yb yl yn (nI (A ++ bv_p2 kf ar l B).length) bn bk bo bc bu bh bv := by
  intro f
  induction f with
  | zero => intro n A B bn bk bo bc _ _ hf; omega
  | succ f ih =>
    intro n A B bn bk bo bc hn hAB hf hY
    have hsub : (A ++ bv_p2 kf ar l B).Sublist l := by
      have : (A ++ bv_p2 kf ar l B).Sublist (A ++ B) := List.Sublist.append (List.Sublist.refl A) List.filter_sublist
      rw [← hAB] at this
      exact this
    have hl := hsub.length_le
    have hk' : ∀ v, v ∈ A ++ bv_p2 kf ar l B → kf v < 2401 := fun v hv => hk v (hsub.subset hv)
    rcases List.eq_nil_or_concat A with hA | ⟨A0, v, hA⟩
    · subst hA
      have e : n = 0 := hn.symm
      subst e
      have e2 : B = l := hAB.symm
      subst e2
      exact br_t (by decide) (h bn bk bo bc hY)
    · rw [List.concat_eq_append] at hA
      subst hA
      have e : n = A0.length + 1 := by rw [← hn, List.length_append, List.length_singleton]
      subst e
      rw [nI_pred]
      have hA24 : A0.length < 24 := by
        rw [List.length_append, List.length_append, List.length_singleton] at hl
        omega
      have hB : l = A0 ++ v :: B := by rw [hAB, List.append_assoc]; rfl
      have hvl : v ∈ l := by rw [hB]; simp
      have hvc : v ∈ bv_cn kf l (kf v) := bv_cn_mem.mpr ⟨hvl, rfl⟩
      obtain ⟨y1, y2, y3, y4⟩ := hY A0.length v bv_idx_mid
      have hcn : bv_cn kf (A0 ++ [v] ++ bv_p2 kf ar l B) (kf v) = bv_cn kf l (kf v) := by
        rw [hAB]; exact bv_p2_at
      have e0 : bv_p2 kf ar l (v :: B) = if v ∈ bv_f2 ar (bv_cn kf l (kf v)) then v :: bv_p2 kf ar l B else bv_p2 kf ar l B := by
        unfold bv_p2
        by_cases z : v ∈ bv_f2 ar (bv_cn kf l (kf v))
        · rw [if_pos z, List.filter_cons_of_pos (by rw [decide_eq_true_iff]; exact z)]
        · rw [if_neg z, List.filter_cons_of_neg (by rw [decide_eq_true_iff]; exact z)]
      have keep : v ∈ bv_f2 ar (bv_cn kf l (kf v)) → wY_expire_69 post x2 f (nI A0.length - 1) yb yl yn (nI (A0 ++ [v] ++ bv_p2 kf ar l B).length) bn bk bo bc bu bh bv := by
        intro z
        have e3 : A0 ++ [v] ++ bv_p2 kf ar l B = A0 ++ bv_p2 kf ar l (v :: B) := by
          rw [e0, if_pos z, List.append_assoc]; rfl
        rw [e3] at hY ⊢
        exact ih A0.length A0 (v :: B) bn bk bo bc rfl hB (by omega) hY
      refine br_f (nI_pos (by omega)) ⟨vp_in_nI hA24 (by omega), ?_⟩
      rw [nI_clamp (by omega), y3, y2]
      have one : ∀ {w}, bv_cn kf l (kf v) = [w] → w = v := fun {w} e => by
        rw [e] at hvc
        exact (List.mem_singleton.mp hvc).symm
      by_cases z : ar v = 0
      · rw [bv_ob, if_pos z]
        refine br_f (by decide) (nm_r (bv_m1 _) (keep ?_))
        by_cases e1 : (bv_cn kf l (kf v)).length = 1
        · obtain ⟨w, hw⟩ := List.length_eq_one_iff.mp e1
          have := one hw
          subst this
          rw [hw, bv_f2_one, if_pos z]
          exact List.mem_singleton.mpr rfl
        · rw [bv_f2_two e1]; exact hvc
      · rw [bv_ob, if_neg z]
        refine br_t rfl ⟨vp_in_nI hA24 (by omega), ?_⟩
        refine by_versionsOf hY (by omega) hk' (hk v hvl) ?_
        rw [hcn]
        have hcl := bv_cn_len (kf := kf) (m := l) (K := kf v)
        refine pk_eq (bv_cn kf l (kf v)).length 1 (fun e1 => ?_) (fun e1 => nm_r (bv_m1 _) (keep (by rw [bv_f2_two e1]; exact hvc)))
        obtain ⟨w, hw⟩ := List.length_eq_one_iff.mp e1
        have hwv := one hw
        subst hwv
        refine by_take hY (by rw [List.length_append, List.length_append, List.length_singleton]; omega) (by omega) (fun bn' bk' bo' bc' hY' => ?_)
        have e3 : A0 ++ bv_p2 kf ar l B = A0 ++ bv_p2 kf ar l (w :: B) := by
          rw [e0, if_neg]
          rw [hw, bv_f2_one, if_neg z]
          exact List.not_mem_nil
        rw [bv_er_mid, e3] at hY' ⊢
        exact nm_r (bv_m1 _) (ih A0.length A0 (w :: B) bn' bk' bo' bc' rfl hB (by omega) hY')
theorem by_expire {post : Int32 → SY → Prop} {m : List Nat} {s : Nat} {x : Int32} (hx : bv_stay x s) (hs0 : 0 < s) (hs : s < 100) (hm : m.length ≤ 24) (hk : ∀ v, v ∈ m → kf v < 2401) (hr : ∀ v, v ∈ m → ar v = 0 ∨ ar v = 1) (hY : bv_Y m kf am ac ar bn bk bo bc)
    (h : ∀ m' bn' bk' bo' bc', m'.Sublist m → (∀ K, bv_cn kf m' K = bv_fin ar s (bv_cn kf m K)) → bv_Y m' kf am ac ar bn' bk' bo' bc' → post (nI (m.length - m'.length)) (yb, yl, yn, nI m'.length, bn', bk', bo', bc', bu, bh, bv)) : wpY_expire post (yb, yl, yn, nI m.length, bn, bk, bo, bc, bu, bh, bv) x := by
  have hs1 := bv_p1_sub (kf := kf) (s := s) m
  have q : ∃ n34, wY_expire_34 post (nI m.length) (nI (s - 1)) n34 (nI m.length - 1) yb yl yn (nI m.length) bn bk bo bc bu bh bv := by
    refine ⟨m.length + 1, ?_⟩
    have e : bv_p1 kf s [] = [] := rfl
    have q1 := by_exp34 (post := post) (x2 := nI m.length) (s := s) (m0 := m) (kf := kf) (am := am) (ac := ac) (ar := ar) (yb := yb) (yl := yl) (yn := yn) (bu := bu) (bh := bh) (bv := bv) hs0 hs hm hk (fun bn bk bo bc hY1 => ?_) (m.length + 1) m.length m [] bn bk bo bc rfl (List.append_nil m).symm (by omega) (by rw [e, List.append_nil]; exact hY)
    · rw [e, List.append_nil] at q1
      exact q1
    · refine ⟨(bv_p1 kf s m).length + 1, ?_⟩
      have e2 : bv_p2 kf ar (bv_p1 kf s m) [] = [] := rfl
      have q2 := by_exp69 (post := post) (x2 := nI m.length) (l := bv_p1 kf s m) (kf := kf) (am := am) (ac := ac) (ar := ar) (yb := yb) (yl := yl) (yn := yn) (bu := bu) (bh := bh) (bv := bv) (Nat.le_trans hs1.length_le hm) (fun v hv => hk v (hs1.subset hv)) (fun v hv => hr v (hs1.subset hv)) (fun bn bk bo bc hY2 => ?_) ((bv_p1 kf s m).length + 1) (bv_p1 kf s m).length (bv_p1 kf s m) [] bn bk bo bc rfl (List.append_nil _).symm (by omega) (by rw [e2, List.append_nil]; exact hY1)
      · rw [e2, List.append_nil] at q2
        exact q2
      · have hs2 : (bv_p2 kf ar (bv_p1 kf s m) (bv_p1 kf s m)).Sublist m := List.Sublist.trans List.filter_sublist hs1
        rw [pk_sub hs2.length_le]
        exact h _ bn bk bo bc hs2 (fun K => by rw [bv_p2_cn, bv_p1_cn]; rfl) hY2
  unfold wpY_expire
  rcases hx with ⟨c, rfl⟩ | ⟨j, hj, rfl, rfl⟩ | ⟨c, rfl⟩
  · exact br_f (Int32.not_le.mpr c) (nm_e q)
  · exact br_t (nI_pos' (by omega)) (pk_le j 24 (fun _ => nm_e q) (fun z => by omega))
  · refine br_t (Int32.le_trans (by decide) c) (br_f (fun z => ?_) (nm_e q))
    exact absurd (Int32.le_trans c z) (by decide)
end
end
section
/-! listing: X's side -/
/-- the key's newest version is an object -/
def bv_pr (kf : Nat → Nat) (ar : Nat → Int32) (m : List Nat) (K : Nat) : Prop := ¬ bv_pv ar (bv_cn kf m K) = 0
/-- the key is listed under the buffer -/
def bv_ls (kf : Nat → Nat) (ar : Nat → Int32) (m : List Nat) (t B K : Nat) : Prop := bv_pr kf ar m K ∧ B ≤ K ∧ K < B + bv_sp t
theorem bv_un_sp {t : Nat} (h : t < 4) : bv_un t = bv_sp (t + 1) := by
  rcases bv_p4 h with rfl | rfl | rfl | rfl <;> rfl
theorem bv_ps_ex {ks : List Nat} (so : bv_so ks) (q : Nat) : ∃ p, bv_ps ks q p := by
  obtain ⟨p, h1, h2⟩ := pk_least (fun p => ∀ K, ks[p]? = some K → q ≤ K) ⟨ks.length, fun K hK => absurd (bv_ilt hK) (Nat.lt_irrefl _)⟩
  refine ⟨p, ?_, fun i K hi hK => ?_, fun i K hi hK => ?_⟩
  · apply Nat.le_of_not_lt
    intro z
    exact h2 ks.length z (fun K hK => absurd (bv_ilt hK) (Nat.lt_irrefl _))
  · apply Nat.lt_of_not_le
    intro z
    refine h2 i hi (fun K' hK' => ?_)
    rw [hK] at hK'
    cases hK'
    exact z
  · rcases Nat.eq_or_lt_of_le hi with e | e
    · subst e
      exact h1 K hK
    · obtain ⟨K', hK'⟩ := bv_get (l := ks) (i := p) (by have := bv_ilt hK; omega)
      have := h1 K' hK'
      have := so _ _ _ _ e hK' hK
      omega
theorem bv_ps_un {ks : List Nat} {q p p' : Nat} (h : bv_ps ks q p) (h' : bv_ps ks q p') : p = p' := by
  obtain ⟨a1, a2, a3⟩ := h
  obtain ⟨b1, b2, b3⟩ := h'
  rcases Nat.lt_trichotomy p p' with z | z | z
  · obtain ⟨K, hK⟩ := bv_get (l := ks) (i := p) (by omega)
    have := a3 p K (Nat.le_refl _) hK
    have := b2 p K z hK
    omega
  · exact z
  · obtain ⟨K, hK⟩ := bv_get (l := ks) (i := p') (by omega)
    have := b3 p' K (Nat.le_refl _) hK
    have := a2 p' K z hK
    omega
section
variable {xt xb xk xm xh : Int32} {ak an au am ac ar ao ap aq av : Nat → Int32} {post : Int32 → Prop} {m ks : List Nat} {kf : Nat → Nat} {t B : Nat}
theorem bx_digitAt {K p : Nat} (hK : K < 2401) (hp : p < 4) (h : post (nI (bv_dg K p))) : wpX_digitAt post (nI K) (nI p) := by
  unfold wpX_digitAt
  have hu := bv_un_in (p := p)
  refine bx_unit hp ⟨nI_ne0 hu.1 (by omega), by decide, ?_⟩
  have hle : K / bv_un p ≤ K := Nat.div_le_self _ _
  rw [pk_div (by omega) hu.1 (by omega)]
  have e : nI (K / bv_un p) - nI (K / bv_un p) / 7 * 7 = nI (bv_dg K p) := (pk_rem (a := K / bv_un p) (d := 7) (by omega) (by omega) (by omega)).trans (congrArg nI (bv_dg_x hp))
  rw [e]
  exact h
theorem bx_fold5 {K : Nat} (hK : K < 2401) (h1 : ∀ p, p < 4 → t ≤ p → bv_dg K p = 6 → (∀ p', t ≤ p' → p' < p → bv_dg K p' ≠ 6) → post (nI p)) (h0 : (∀ p, t ≤ p → p < 4 → bv_dg K p ≠ 6) → post (-1)) :
    ∀ n p, t ≤ p → p ≤ 4 → 4 - p < n → (∀ p', t ≤ p' → p' < p → bv_dg K p' ≠ 6) → wX_folderPlace_5 post (nI K) xt xb xk xm xh ak an au am ac ar ao ap aq av n (nI p) := by
  intro n
  induction n with
  | zero => intro p _ _ h; omega
  | succ n ih =>
    intro p htp hp hn g
    refine pk_le 4 p (fun z => h0 fun p' h1 h2 => g p' h1 (by omega)) (fun z => ?_)
    have hd := bv_dg_lt (k := K) (p := p)
    refine bx_digitAt hK (by omega) (pk_eq (bv_dg K p) 6 (fun e => h1 p (by omega) htp e g) (fun e => nm_r (nI_1 p) (ih (p + 1) (by omega) (by omega) (by omega) (fun p' h1 h2 => ?_))))
    by_cases c : p' = p
    · subst c; exact e
    · exact g p' h1 (by omega)
theorem bx_folderPlace {K : Nat} (hK : K < 2401) (ht : t ≤ 4) (h1 : ∀ p, p < 4 → t ≤ p → bv_dg K p = 6 → (∀ p', t ≤ p' → p' < p → bv_dg K p' ≠ 6) → post (nI p)) (h0 : (∀ p, t ≤ p → p < 4 → bv_dg K p ≠ 6) → post (-1)) : wpX_folderPlace post (nI t, xb, xk, xm, xh, ak, an, au, am, ac, ar, ao, ap, aq, av) (nI K) :=
  Exists.intro 5 (bx_fold5 hK h1 h0 5 t (Nat.le_refl _) ht (by omega) (fun p' h1 h2 => by omega))
theorem bx_end (hB : bv_B t B) (h : post (nI (B + bv_sp t))) : wpX_endOfBuffer post (nI t, nI B, xk, xm, xh, ak, an, au, am, ac, ar, ao, ap, aq, av) := by
  unfold wpX_endOfBuffer
  have ht := hB.1
  refine pk_eq t 0 (fun z => ?_) (fun z => ?_)
  · subst z
    have := bv_B_0 hB
    subst this
    exact h
  · obtain ⟨t, rfl⟩ : ∃ t', t = t' + 1 := ⟨t - 1, by omega⟩
    rw [nI_pred]
    refine bx_unit (by omega) ?_
    rw [nI_add, bv_un_sp (by omega)]
    exact h
theorem bx_next7 (hd : bv_dk ks ak) (hS : bv_S m ks kf ak an au ao) {E f : Nat} (hE : E < 10000)
    (h1 : ∀ i K, f ≤ i → ks[i]? = some K → bv_pr kf ar m K → K < E → (∀ i' K', f ≤ i' → i' < i → ks[i']? = some K' → ¬ bv_pr kf ar m K') → post (nI i))
    (h0 : (∀ i K, f ≤ i → ks[i]? = some K → K < E → ¬ bv_pr kf ar m K) → post (-1)) :
    ∀ n i, f ≤ i → i ≤ ks.length → ks.length - i < n → (∀ i' K', f ≤ i' → i' < i → ks[i']? = some K' → ¬ bv_pr kf ar m K') → wX_nextListed_7 post (nI E) xt xb (nI ks.length) xm xh ak an au am ac ar ao ap aq av n (nI i) := by
  have hl := hd.2.1
  intro n
  induction n with
  | zero => intro i _ _ h; omega
  | succ n ih =>
    intro i hfi hi hn g
    refine pk_le ks.length i (fun z => h0 fun i' K' h1 hK' _ => g i' K' h1 (by have := bv_ilt hK'; omega) hK') (fun z => ⟨vp_in_nI (by omega) (by omega), ?_⟩)
    obtain ⟨K, hK⟩ := bv_get z
    have hb := hd.2.2 _ _ hK
    rw [nI_clamp (by omega), hb.1]
    refine pk_le E K (fun y => h0 fun i' K' h1 hK' hlt => ?_) (fun y => ⟨vp_in_nI (by omega) (by omega), ?_⟩)
    · rcases Nat.lt_or_ge i' i with c | c
      · exact g i' K' h1 c hK'
      · rcases Nat.eq_or_lt_of_le c with e | e
        · subst e
          rw [hK] at hK'
          cases hK'
          omega
        · have := hd.1 _ _ _ _ e hK hK'
          omega
    · obtain ⟨a, tl, e, ha, _, _, hna⟩ := bv_newest hS hK
      rw [hna]
      refine ⟨vp_in_nI ha (by omega), ?_⟩
      rw [nI_clamp (by omega)]
      refine br_c (fun w => h1 i K hfi hK ?_ y g) (fun w => nm_r (nI_1 i) (ih (i + 1) (by omega) (by omega) (by omega) (fun i' K' h1 h2 hK' => ?_)))
      · unfold bv_pr
        rw [e]
        show ¬ bv_ob (ar a) = 0
        rw [bv_ob, if_pos w]
        decide
      · by_cases c : i' = i
        · subst c
          rw [hK] at hK'
          cases hK'
          unfold bv_pr
          rw [e]
          show ¬ ¬ bv_ob (ar a) = 0
          rw [bv_ob, if_neg w]
          exact fun q => q rfl
        · exact g i' K' h1 (by omega) hK'
theorem bx_nextListed (hB : bv_B t B) (hd : bv_dk ks ak) (hS : bv_S m ks kf ak an au ao) {f : Nat} (hf : f ≤ ks.length)
    (h1 : ∀ i K, f ≤ i → ks[i]? = some K → bv_pr kf ar m K → K < B + bv_sp t → (∀ i' K', f ≤ i' → i' < i → ks[i']? = some K' → ¬ bv_pr kf ar m K') → post (nI i))
    (h0 : (∀ i K, f ≤ i → ks[i]? = some K → K < B + bv_sp t → ¬ bv_pr kf ar m K) → post (-1)) : wpX_nextListed post (nI t, nI B, nI ks.length, xm, xh, ak, an, au, am, ac, ar, ao, ap, aq, av) (nI f) := by
  unfold wpX_nextListed
  have hE : B + bv_sp t < 10000 := by have := hB.2.1; omega
  exact bx_end hB (Exists.intro (ks.length + 1) (bx_next7 hd hS hE h1 h0 _ f (Nat.le_refl _) hf (by omega) (fun i' K' h1 h2 => by omega)))
/-- one round of findEntry at a listed key -/
theorem bx_fe92 {J : Int32 → Int32 → Int32 → Prop} (hd : bv_dk ks ak) {x1 fo : Int32} {K i s w : Nat} (hK : ks[i]? = some K) (hs : s < 24) {x7 : Int32} (hw : w ≤ 343)
    (h7 : (x7 = -1 ∧ w = 1) ∨ ∃ p, p < 4 ∧ x7 = nI p ∧ w = bv_un p)
    (hfound : nI s = x1 → post (nI (K - K % w)))
    (hnext : nI s ≠ x1 → ∀ f, bv_ps ks (K - K % w + w) f → wpX_nextListed (fun r => ∀ y : Int32, y = nI s + 1 → J (nI (s + 1)) r y) (xt, xb, nI ks.length, xm, xh, ak, an, au, am, ac, ar, ao, ap, aq, av) (nI f)) :
    wX_findEntry_92 post J x1 fo (nI s) (nI i) (nI s) x7 (nI (K - K % w)) xt xb (nI ks.length) xm xh ak an au am ac ar ao ap aq av := by
  have hb := hd.2.2 _ _ hK
  have hil := bv_ilt hK
  unfold wX_findEntry_92
  refine br_c hfound (fun hne => nm_r (nI_1 s) (nm_r (nI_1 i) ?_))
  rcases h7 with ⟨rfl, rfl⟩ | ⟨p, hp, rfl, rfl⟩
  · refine br_t (by decide) (hnext hne (i + 1) ⟨by omega, fun j K' hj hK' => ?_, fun j K' hj hK' => ?_⟩)
    · rcases Nat.eq_or_lt_of_le (Nat.le_of_lt_succ hj) with e | e
      · subst e
        rw [hK] at hK'
        cases hK'
        omega
      · have := hd.1 _ _ _ _ e hK' hK
        omega
    · have := hd.1 _ _ _ _ hj hK hK'
      omega
  · refine br_f (nI_pos (by omega)) (bx_unit hp ?_)
    refine nm_r (nI_add _ _) ?_
    exact bx_seek hd (by omega) (fun f hf => hnext hne f hf)
theorem bx_fe54 {J : Int32 → Int32 → Int32 → Prop} (hd : bv_dk ks ak) {x1 fo : Int32} {K i s w : Nat} (hK : ks[i]? = some K) (hs : s < 24) {x7 : Int32} (hw : w ≤ 343)
    (h7 : (x7 = -1 ∧ w = 1) ∨ ∃ p, p < 4 ∧ x7 = nI p ∧ w = bv_un p)
    (hfound : nI s = x1 → post (nI (K - K % w)))
    (hnext : nI s ≠ x1 → ∀ f, bv_ps ks (K - K % w + w) f → wpX_nextListed (fun r => ∀ y : Int32, y = nI s + 1 → J (nI (s + 1)) r y) (xt, xb, nI ks.length, xm, xh, ak, an, au, am, ac, ar, ao, ap, aq, av) (nI f)) :
    wX_findEntry_54 post J x1 fo (nI s) (nI i) (nI s) x7 xt xb (nI ks.length) xm xh ak an au am ac ar ao ap aq av := by
  have hb := hd.2.2 _ _ hK
  have hil := bv_ilt hK
  have hl := hd.2.1
  have h92 := bx_fe92 (fo := fo) (x1 := x1) hd hK hs hw h7 hfound hnext
  have hii : vp_in (nI i) 24 := vp_in_nI (by omega) (by omega)
  unfold wX_findEntry_54
  rw [nI_clamp (by omega), hb.1]
  rcases h7 with ⟨rfl, rfl⟩ | ⟨p, hp, rfl, rfl⟩
  · refine br_f (by decide) ⟨hii, ?_⟩
    rw [Nat.mod_one, Nat.sub_zero] at h92
    exact h92
  · refine br_t (nI_pos' (by omega)) ⟨hii, hii, bx_unit hp ?_⟩
    have hu := bv_un_in (p := p)
    refine ⟨nI_ne0 hu.1 (by omega), ?_⟩
    rw [pk_rem (by omega) hu.1 (by omega), pk_sub (Nat.mod_le _ _)]
    exact h92
theorem bx_feBody {J : Int32 → Int32 → Int32 → Prop} (hd : bv_dk ks ak) (ht : t ≤ 4) {x1 fo : Int32} {K i s : Nat} (hK : ks[i]? = some K) (hs : s < 24)
    (hfound : nI s = x1 → post (nI (bv_en fo t K)))
    (hnext : nI s ≠ x1 → ∀ f, bv_ps ks (bv_en fo t K + bv_wf fo t K) f → wpX_nextListed (fun r => ∀ y : Int32, y = nI s + 1 → J (nI (s + 1)) r y) (nI t, xb, nI ks.length, xm, xh, ak, an, au, am, ac, ar, ao, ap, aq, av) (nI f)) :
    (fo = 0 → wX_findEntry_54 post J x1 fo (nI s) (nI i) (nI s) (-1) (nI t) xb (nI ks.length) xm xh ak an au am ac ar ao ap aq av) ∧ (¬ fo = 0 → (vp_in (nI i) 24 ∧ wpX_folderPlace (fun r => wX_findEntry_54 post J x1 fo (nI s) (nI i) (nI s) r (nI t) xb (nI ks.length) xm xh ak an au am ac ar ao ap aq av) (nI t, xb, nI ks.length, xm, xh, ak, an, au, am, ac, ar, ao, ap, aq, av) (ak (nI i).toNatClampNeg))) := by
  have hb := hd.2.2 _ _ hK
  have hil := bv_ilt hK
  have hl := hd.2.1
  have hw := (bv_wf_in fo t K).2
  unfold bv_en at hfound hnext
  refine br_c (fun z => ?_) (fun z => ⟨vp_in_nI (by omega) (by omega), ?_⟩)
  · exact bx_fe54 hd hK hs hw (Or.inl ⟨rfl, if_pos z⟩) hfound hnext
  · rw [nI_clamp (by omega), hb.1]
    have e : bv_wf fo t K = bv_wd t K := if_neg z
    refine bx_folderPlace (by omega) ht (fun p hp htp h6 hlt => ?_) (fun hno => ?_)
    · exact bx_fe54 hd hK hs hw (Or.inr ⟨p, hp, rfl, e.trans (bv_wd_at hp htp h6 hlt)⟩) hfound hnext
    · exact bx_fe54 hd hK hs hw (Or.inl ⟨rfl, e.trans (bv_wd_no hno)⟩) hfound hnext
end
end
section
/-! listing: Y's side -/
section
variable {yb yl yn yc : Int32} {bn bk bo bc bu bh bv : Nat → Int32} {am ac ar : Nat → Int32} {post : Int32 → Prop} {m : List Nat} {kf : Nat → Nat} {t B : Nat}
theorem by_power {p : Nat} (hp : p ≤ 4) (h : post (nI (bv_pw p))) : wpY_power post (yb, yl, yn, yc, bn, bk, bo, bc, bu, bh, bv) (nI p) := by
  unfold wpY_power
  rcases bv_t4 hp with rfl | rfl | rfl | rfl | rfl
  · exact br_t rfl h
  · exact br_f (by decide) (br_t rfl h)
  · exact br_f (by decide) (br_f (by decide) (br_t rfl h))
  · exact br_f (by decide) (br_f (by decide) (br_f (by decide) (br_t rfl h)))
  · exact br_f (by decide) (br_f (by decide) (br_f (by decide) (br_f (by decide) h)))
theorem by_digit {K p : Nat} (hK : K < 2401) (hp : p < 4) (h : post (nI (bv_dg K p))) : wpY_digit post (yb, yl, yn, yc, bn, bk, bo, bc, bu, bh, bv) (nI (bv_rv K)) (nI p) := by
  have hr := bv_rv_lt hK
  have key : ∀ d : Nat, 0 < d → d < 2 ^ 31 → nI (bv_rv K) / nI d = nI (bv_rv K / d) := fun d h1 h2 => pk_div (by omega) h1 h2
  have rem : ∀ a : Nat, a ≤ bv_rv K → nI a - nI a / 7 * 7 = nI (a % 7) := fun a ha => pk_rem (a := a) (d := 7) (by omega) (by omega) (by omega)
  have e := bv_dg_y hK hp
  unfold wpY_digit
  rcases bv_p4 hp with rfl | rfl | rfl | rfl
  · refine br_t rfl ⟨by decide, ?_⟩
    rw [rem _ (Nat.le_refl _)]
    rw [bv_pw0, Nat.div_one] at e
    rw [e]
    exact h
  · refine br_f (by decide) (br_t rfl ⟨by decide, nm_r (key 7 (by omega) (by omega)) ⟨by decide, ?_⟩⟩)
    rw [rem _ (Nat.div_le_self _ _)]
    rw [bv_pw1] at e
    rw [e]
    exact h
  · refine br_f (by decide) (br_f (by decide) (br_t rfl ⟨by decide, nm_r (key 49 (by omega) (by omega)) ⟨by decide, ?_⟩⟩))
    rw [rem _ (Nat.div_le_self _ _)]
    rw [bv_pw2] at e
    rw [e]
    exact h
  · refine br_f (by decide) (br_f (by decide) (br_f (by decide) ⟨by decide, nm_r (key 343 (by omega) (by omega)) ⟨by decide, ?_⟩⟩))
    rw [rem _ (Nat.div_le_self _ _)]
    rw [bv_pw3] at e
    rw [e]
    exact h
theorem bv_pw_in {p : Nat} : 0 < bv_pw p ∧ bv_pw p ≤ 2401 := by
  match p with
  | 0 => exact ⟨by decide, by decide⟩
  | 1 => exact ⟨by decide, by decide⟩
  | 2 => exact ⟨by decide, by decide⟩
  | 3 => exact ⟨by decide, by decide⟩
  | _ + 4 => exact ⟨show 0 < 2401 by decide, Nat.le_refl _⟩
theorem by_ent51 {K : Nat} (hK : K < 2401) {fo : Int32} (h : post (nI (bv_rv (bv_en fo t K)))) : ∀ n p, t ≤ p → p ≤ 4 → 4 - p < n → (¬ fo = 0 → ∀ p', t ≤ p' → p' < p → bv_dg K p' ≠ 6) → wY_entryOf_51 post (nI (bv_rv K)) fo yb yl yn yc bn bk bo bc bu bh bv n (nI p) := by
  have hr := bv_rv_lt hK
  intro n
  induction n with
  | zero => intro p _ _ h; omega
  | succ n ih =>
    intro p htp hp hn g
    refine pk_le 4 p (fun z => ?_) (fun z => br_c (fun f0 => nm_r (nI_1 p) (ih (p + 1) (by omega) (by omega) (by omega) (fun c => absurd f0 c))) (fun f0 => ?_))
    · have e : bv_en fo t K = K := by
        unfold bv_en bv_wf
        by_cases c : fo = 0
        · rw [if_pos c]; omega
        · rw [if_neg c, bv_wd_no (fun p' h1 h2 => g c p' h1 (by omega))]; omega
      rw [e] at h
      exact h
    · have hd := bv_dg_lt (k := K) (p := p)
      refine by_digit hK (by omega) (pk_eq (bv_dg K p) 6 (fun e => ?_) (fun e => nm_r (nI_1 p) (ih (p + 1) (by omega) (by omega) (by omega) (fun c p' h1 h2 => ?_))))
      · rw [nI_1]
        refine by_power (by omega) ?_
        have hpw := bv_pw_in (p := p + 1)
        refine br_f (nI_nle hpw.1 (by omega)) ⟨nI_ne0 hpw.1 (by omega), ?_⟩
        rw [pk_rem (by omega) hpw.1 (by omega), bv_rv_tr hK (by omega)]
        have e2 : bv_en fo t K = K - K % bv_un p := by
          unfold bv_en bv_wf
          rw [if_neg f0, bv_wd_at (by omega) htp e (g f0)]
        rw [e2] at h
        exact h
      · by_cases c2 : p' = p
        · subst c2; exact e
        · exact g c p' h1 (by omega)
theorem by_ent12 {K : Nat} (hB : bv_B t B) (hK : K < 2401) {fo : Int32} (h1 : B ≤ K ∧ K < B + bv_sp t → post (nI (bv_rv (bv_en fo t K)))) (h0 : ¬ (B ≤ K ∧ K < B + bv_sp t) → post (-1)) : ∀ n p, p ≤ t → t - p < n → (∀ p', p' < p → bv_dg K p' = bv_dg B p') → wY_entryOf_12 post (nI (bv_rv K)) fo (nI (bv_rv B)) (nI t) yn yc bn bk bo bc bu bh bv n (nI p) := by
  have hB2 := bv_B_lt hB
  have ht := hB.1
  intro n
  induction n with
  | zero => intro p _ h; omega
  | succ n ih =>
    intro p hp hn g
    refine pk_le t p (fun z => ?_) (fun z => ?_)
    · have e : p = t := by omega
      subst e
      exact Exists.intro 5 (by_ent51 hK (h1 ((bv_range hB hK).mp g)) 5 p (Nat.le_refl _) ht (by omega) (fun _ p' a b => by omega))
    · have d1 := bv_dg_lt (k := K) (p := p)
      have d2 := bv_dg_lt (k := B) (p := p)
      refine by_digit hK (by omega) (by_digit hB2 (by omega) (pk_eq (bv_dg K p) (bv_dg B p) (fun e => nm_r (nI_1 p) (ih (p + 1) (by omega) (by omega) (fun p' hp' => ?_))) (fun e => h0 fun c => ?_)))
      · by_cases c : p' = p
        · subst c; exact e
        · exact g p' (by omega)
      · exact e ((bv_range hB hK).mpr c p z)
theorem by_entryOf (hY : bv_Y m kf am ac ar bn bk bo bc) (hl : m.length ≤ 24) (hk : ∀ v, v ∈ m → kf v < 2401) (hB : bv_B t B) {K : Nat} (hK : K < 2401) {fo : Int32} (h1 : bv_ls kf ar m t B K → post (nI (bv_rv (bv_en fo t K)))) (h0 : ¬ bv_ls kf ar m t B K → post (-1)) : wpY_entryOf post (nI (bv_rv B), nI t, yn, nI m.length, bn, bk, bo, bc, bu, bh, bv) (nI (bv_rv K)) fo := by
  unfold wpY_entryOf
  refine by_isPresent hY hl hk hK (br_c (fun z => h0 fun c => c.1 z) (fun z => Exists.intro 5 ?_))
  have ht := hB.1
  exact by_ent12 hB hK (fun c => h1 ⟨z, c⟩) (fun c => h0 fun d => c d.2) 5 0 (by omega) (by omega) (fun p' h => absurd h (Nat.not_lt_zero p'))
theorem by_before2 {a b : Nat} (ha : a < 2401) (hb : b < 2401) (h1 : a < b → post 1) (h0 : ¬ a < b → post 0) : ∀ n p, p ≤ 4 → 4 - p < n → (∀ p', p' < p → bv_dg a p' = bv_dg b p') → wY_before_2 post (nI (bv_rv a)) (nI (bv_rv b)) yb yl yn yc bn bk bo bc bu bh bv n (nI p) := by
  intro n
  induction n with
  | zero => intro p _ h; omega
  | succ n ih =>
    intro p hp hn g
    refine pk_le 4 p (fun z => h0 ?_) (fun z => ?_)
    · have := bv_cmp4 ha hb (fun p' h => g p' (by omega))
      omega
    · have d1 := bv_dg_lt (k := a) (p := p)
      have d2 := bv_dg_lt (k := b) (p := p)
      refine by_digit ha (by omega) (by_digit hb (by omega) (pk_eq (bv_dg a p) (bv_dg b p) (fun e => nm_r (nI_1 p) (ih (p + 1) (by omega) (by omega) (fun p' hp' => ?_))) (fun e => ?_)))
      · by_cases c : p' = p
        · subst c; exact e
        · exact g p' (by omega)
      · have c := bv_cmp ha hb (by omega : p < 4) g e
        refine by_digit ha (by omega) (by_digit hb (by omega) (pk_le (bv_dg b p) (bv_dg a p) (fun y => h0 ?_) (fun y => h1 ?_)))
        · rw [c]; omega
        · rw [c]; omega
theorem by_before {a b : Nat} (ha : a < 2401) (hb : b < 2401) (h1 : a < b → post 1) (h0 : ¬ a < b → post 0) : wpY_before post (yb, yl, yn, yc, bn, bk, bo, bc, bu, bh, bv) (nI (bv_rv a)) (nI (bv_rv b)) :=
  Exists.intro 5 (by_before2 ha hb h1 h0 5 0 (by omega) (by omega) (fun p' h => absurd h (Nat.not_lt_zero p')))
/-- the best entry behind L among the first i versions -/
def bv_be (kf : Nat → Nat) (ar : Nat → Int32) (m : List Nat) (t B L i : Nat) (fo x : Int32) : Prop :=
  (x = -1 ∧ ∀ j v, j < i → m[j]? = some v → bv_ls kf ar m t B (kf v) → ¬ L < bv_en fo t (kf v)) ∨
  (∃ K, x = nI (bv_rv (bv_en fo t K)) ∧ (∃ v, v ∈ m ∧ kf v = K) ∧ bv_ls kf ar m t B K ∧ L < bv_en fo t K ∧ ∀ j v, j < i → m[j]? = some v → bv_ls kf ar m t B (kf v) → L < bv_en fo t (kf v) → bv_en fo t K ≤ bv_en fo t (kf v))
theorem by_behind5 (hY : bv_Y m kf am ac ar bn bk bo bc) (hl : m.length ≤ 24) (hk : ∀ v, v ∈ m → 0 < kf v ∧ kf v < 2401) (hB : bv_B t B) {L : Nat} (hL : L < 2401) {fo : Int32} (h : ∀ x, bv_be kf ar m t B L m.length fo x → post x) :
    ∀ n i x, i ≤ m.length → m.length - i < n → bv_be kf ar m t B L i fo x → wY_behind_5 post (nI (bv_rv L)) fo (nI (bv_rv B)) (nI t) yn (nI m.length) bn bk bo bc bu bh bv n x (nI i) := by
  intro n
  induction n with
  | zero => intro i x _ h; omega
  | succ n ih =>
    intro i x hi hn g
    refine pk_le m.length i (fun z => ?_) (fun z => ⟨vp_in_nI (by omega) (by omega), ?_⟩)
    · have e : i = m.length := by omega
      subst e
      exact h x g
    · obtain ⟨v, hv⟩ := bv_get z
      have hvm := List.mem_of_getElem? hv
      have hkv := hk v hvm
      have next : ∀ x', bv_be kf ar m t B L (i + 1) fo x' → wY_behind_5 post (nI (bv_rv L)) fo (nI (bv_rv B)) (nI t) yn (nI m.length) bn bk bo bc bu bh bv n x' (nI (i + 1)) := fun x' g' => ih (i + 1) x' (by omega) (by omega) g'
      -- the best stays
      have stay : (bv_ls kf ar m t B (kf v) → L < bv_en fo t (kf v) → ∃ K, x = nI (bv_rv (bv_en fo t K)) ∧ K < 2401 ∧ bv_en fo t K ≤ bv_en fo t (kf v)) → bv_be kf ar m t B L (i + 1) fo x := by
        intro c
        rcases g with ⟨rfl, g2⟩ | ⟨K, rfl, g2, g3, g4, g5⟩
        · refine Or.inl ⟨rfl, fun j w hj hw hls hlt => ?_⟩
          by_cases e : j = i
          · subst e
            rw [hv] at hw
            cases hw
            obtain ⟨K', e', hK', _⟩ := c hls hlt
            have q : ¬ (-1 : Int32) < 0 := by
              rw [e']
              exact nI_pos (by have := bv_rv_lt (Nat.lt_of_le_of_lt (bv_en_le (fo := fo) (t := t)) hK'); omega)
            exact q (by decide)
          · exact g2 j w (by omega) hw hls hlt
        · refine Or.inr ⟨K, rfl, g2, g3, g4, fun j w hj hw hls hlt => ?_⟩
          by_cases e : j = i
          · subst e
            rw [hv] at hw
            cases hw
            obtain ⟨K', e', hK', hle⟩ := c hls hlt
            obtain ⟨v', hv', hkv'⟩ := g2
            have hK := (hk v' hv').2
            rw [hkv'] at hK
            have b1 := bv_rv_lt (Nat.lt_of_le_of_lt (bv_en_le (fo := fo) (t := t)) hK)
            have b2 := bv_rv_lt (Nat.lt_of_le_of_lt (bv_en_le (fo := fo) (t := t)) hK')
            rw [nI_eq (by omega) (by omega)] at e'
            have := bv_rv_inj (Nat.lt_of_le_of_lt (bv_en_le (fo := fo) (t := t)) hK) (Nat.lt_of_le_of_lt (bv_en_le (fo := fo) (t := t)) hK') e'
            omega
          · exact g5 j w (by omega) hw hls hlt
      -- the new one is the best
      have take : bv_ls kf ar m t B (kf v) → L < bv_en fo t (kf v) → (x = -1 ∨ ∃ K, x = nI (bv_rv (bv_en fo t K)) ∧ K < 2401 ∧ bv_en fo t (kf v) ≤ bv_en fo t K) → bv_be kf ar m t B L (i + 1) fo (nI (bv_rv (bv_en fo t (kf v)))) := by
        intro hls hlt c
        refine Or.inr ⟨kf v, rfl, ⟨v, hvm, rfl⟩, hls, hlt, fun j w hj hw hls' hlt' => ?_⟩
        by_cases e : j = i
        · subst e
          rw [hv] at hw
          cases hw
          exact Nat.le_refl _
        · rcases g with ⟨rfl, g2⟩ | ⟨K, rfl, g2, g3, g4, g5⟩
          · exact absurd hlt' (g2 j w (by omega) hw hls')
          · have h1 := g5 j w (by omega) hw hls' hlt'
            obtain ⟨v', hv', hkv'⟩ := g2
            have hK := (hk v' hv').2
            rw [hkv'] at hK
            have b1 := bv_rv_lt (Nat.lt_of_le_of_lt (bv_en_le (fo := fo) (t := t)) hK)
            rcases c with c | ⟨K', e', hK', hle⟩
            · exact absurd (by rw [c]; decide) (nI_pos (n := bv_rv (bv_en fo t K)) (by omega))
            · have b2 := bv_rv_lt (Nat.lt_of_le_of_lt (bv_en_le (fo := fo) (t := t)) hK')
              rw [nI_eq (by omega) (by omega)] at e'
              have := bv_rv_inj (Nat.lt_of_le_of_lt (bv_en_le (fo := fo) (t := t)) hK) (Nat.lt_of_le_of_lt (bv_en_le (fo := fo) (t := t)) hK') e'
              omega
      rw [nI_clamp (by omega), (hY i v hv).2.1]
      refine by_entryOf hY hl (fun v hv => (hk v hv).2) hB hkv.2 (fun hls => ?_) (fun hls => br_t (by decide) (nm_r (nI_1 i) (next x (stay fun c => absurd c hls))))
      have he := Nat.lt_of_le_of_lt (bv_en_le (fo := fo) (t := t)) hkv.2
      have b1 := bv_rv_lt he
      have b0 := bv_rv_pos he (bv_en_pos (fo := fo) (t := t) hkv.1)
      refine br_f (nI_nle b0 (by omega)) (by_before hL he (fun hlt => br_f (by decide) ?_) (fun hlt => br_t rfl (nm_r (nI_1 i) (next x (stay fun _ c => absurd c hlt)))))
      have g' := g
      rcases g' with ⟨e, _⟩ | ⟨K, e, g2, _⟩
      · refine br_t (by rw [e]; decide) (nm_r (nI_1 i) (next _ (take hls hlt (Or.inl e))))
      · obtain ⟨v', hv', hkv'⟩ := g2
        have hK := (hk v' hv').2
        rw [hkv'] at hK
        have heK := Nat.lt_of_le_of_lt (bv_en_le (fo := fo) (t := t)) hK
        have b2 := bv_rv_lt heK
        refine br_f (by rw [e]; exact nI_pos (by omega)) ?_
        have q : wpY_before (fun r => (r = 0 → ∀ y : Int32, y = nI i + 1 → wY_behind_5 post (nI (bv_rv L)) fo (nI (bv_rv B)) (nI t) yn (nI m.length) bn bk bo bc bu bh bv n x y) ∧ (¬ r = 0 → ∀ y : Int32, y = nI i + 1 → wY_behind_5 post (nI (bv_rv L)) fo (nI (bv_rv B)) (nI t) yn (nI m.length) bn bk bo bc bu bh bv n (nI (bv_rv (bv_en fo t (kf v)))) y)) (nI (bv_rv B), nI t, yn, nI m.length, bn, bk, bo, bc, bu, bh, bv) (nI (bv_rv (bv_en fo t (kf v)))) (nI (bv_rv (bv_en fo t K))) :=
          by_before he heK (fun c => br_f (by decide) (nm_r (nI_1 i) (next _ (take hls hlt (Or.inr ⟨K, e, hK, by omega⟩))))) (fun c => br_t rfl (nm_r (nI_1 i) (next x (stay fun _ _ => ⟨K, e, hK, by omega⟩))))
        rw [← e] at q
        exact q
theorem by_behind (hY : bv_Y m kf am ac ar bn bk bo bc) (hl : m.length ≤ 24) (hk : ∀ v, v ∈ m → 0 < kf v ∧ kf v < 2401) (hB : bv_B t B) {L : Nat} (hL : L < 2401) {fo : Int32} (h : ∀ x, bv_be kf ar m t B L m.length fo x → post x) : wpY_behind post (nI (bv_rv B), nI t, yn, nI m.length, bn, bk, bo, bc, bu, bh, bv) (nI (bv_rv L)) fo :=
  Exists.intro (m.length + 1) (by_behind5 hY hl hk hB hL h _ 0 (-1) (Nat.zero_le _) (by omega) (Or.inl ⟨rfl, fun j v hj => absurd hj (Nat.not_lt_zero j)⟩))
end
end
section
/-! listing: both sides in step -/
def bv_St (kf : Nat → Nat) (ar : Nat → Int32) (m ks : List Nat) (t B : Nat) (fo a e : Int32) : Prop :=
  (a = -1 ∧ e = -1) ∨ ∃ i K, ks[i]? = some K ∧ bv_ls kf ar m t B K ∧ a = nI i ∧ e = nI (bv_rv (bv_en fo t K))
def bv_cd (e : Nat) : Nat → Nat → Nat
  | 0, c => c
  | p + 1, c => bv_cd e p (c * 7 + bv_dg e p)
theorem bv_cd_rv {e : Nat} (he : e < 2401) : bv_cd e 4 0 = bv_rv e := by
  rw [← bv_code he]
  show (((0 * 7 + bv_dg e 3) * 7 + bv_dg e 2) * 7 + bv_dg e 1) * 7 + bv_dg e 0 = _
  rw [Nat.zero_mul, Nat.zero_add]
section
variable {xt xb xk xm xh : Int32} {ak an au am ac ar ao ap aq av : Nat → Int32} {yb yl yn yc : Int32} {bn bk bo bc bu bh bv : Nat → Int32} {m ks : List Nat} {kf : Nat → Nat} {t B M : Nat} {fo : Int32}
theorem bz_nx (hA : bv_A m kf M am ar) (hS : bv_S m ks kf ak an au ao) (hY : bv_Y m kf am ac ar bn bk bo bc) (hB : bv_B t B) {L f : Nat} (hL : L < 2401) (hf : f ≤ ks.length) (hlo : ∀ i K, f ≤ i → ks[i]? = some K → B ≤ K) (hC : ∀ i K, ks[i]? = some K → bv_ls kf ar m t B K → (f ≤ i ↔ L < bv_en fo t K)) :
    ∃ a e, bv_St kf ar m ks t B fo a e ∧ (∀ post : Int32 → Prop, post a → wpX_nextListed post (nI t, nI B, nI ks.length, xm, xh, ak, an, au, am, ac, ar, ao, ap, aq, av) (nI f)) ∧ (∀ post : Int32 → Prop, post e → wpY_behind post (nI (bv_rv B), nI t, yn, nI m.length, bn, bk, bo, bc, bu, bh, bv) (nI (bv_rv L)) fo) := by
  have hd := bv_dk_of hA hS
  have hS' := hS
  obtain ⟨s1, s2, s3, s4, s5, s6, s7⟩ := hS'
  have hl := bv_len24 s1 s2
  have hk : ∀ v, v ∈ m → 0 < kf v ∧ kf v < 2401 := fun v hv => (hA.1 v hv).1
  have idx : ∀ K, (∃ v, v ∈ m ∧ kf v = K) → ∃ i, ks[i]? = some K := fun K hK => List.getElem?_of_mem ((s5 K).mpr hK)
  by_cases c : ∃ i, f ≤ i ∧ ∃ K, ks[i]? = some K ∧ bv_ls kf ar m t B K
  · obtain ⟨i, ⟨hfi, K, hK, hls⟩, hmin⟩ := pk_least _ c
    have hKb := hd.2.2 i K hK
    refine ⟨nI i, nI (bv_rv (bv_en fo t K)), Or.inr ⟨i, K, hK, hls, rfl, rfl⟩, fun post hp => ?_, fun post hp => ?_⟩
    · refine bx_nextListed hB hd hS hf (fun i2 K2 hf2 hK2 hpr2 hlt2 hbet => ?_) (fun g => absurd hls.1 (g i K hfi hK hls.2.2))
      have h1 : ¬ i2 < i := fun z => hmin i2 z ⟨hf2, K2, hK2, hpr2, hlo i2 K2 hf2 hK2, hlt2⟩
      have h2 : ¬ i < i2 := fun z => hbet i K hfi z hK hls.1
      have e : i2 = i := by omega
      rw [e]
      exact hp
    · refine by_behind hY hl hk hB hL (fun x hx => ?_)
      rcases hx with ⟨_, g⟩ | ⟨K', rfl, hm', hls', hlt', hbest⟩
      · obtain ⟨v, hv, hkv⟩ := (s5 K).mp (List.mem_of_getElem? hK)
        obtain ⟨j, hj⟩ := List.getElem?_of_mem hv
        exact absurd ((hC i K hK hls).mp hfi) (hkv ▸ g j v (bv_ilt hj) hj (hkv.symm ▸ hls))
      · obtain ⟨i', hi'⟩ := idx K' hm'
        have hfi' := (hC i' K' hi' hls').mpr hlt'
        have h1 : ¬ i' < i := fun z => hmin i' z ⟨hfi', K', hi', hls'⟩
        have hKK : K ≤ K' := by
          rcases Nat.lt_trichotomy i i' with z | z | z
          · have := s4 _ _ _ _ z hK hi'; omega
          · subst z; rw [hK] at hi'; cases hi'; exact Nat.le_refl _
          · omega
        have hKb' := hd.2.2 i' K' hi'
        have q1 := bv_en_mono (fo := fo) (t := t) hKb.2.2 hKb'.2.2 hKK
        obtain ⟨v, hv, hkv⟩ := (s5 K).mp (List.mem_of_getElem? hK)
        obtain ⟨j, hj⟩ := List.getElem?_of_mem hv
        have q2 := hbest j v (bv_ilt hj) hj (hkv.symm ▸ hls) (hkv.symm ▸ (hC i K hK hls).mp hfi)
        rw [hkv] at q2
        have e : bv_en fo t K' = bv_en fo t K := by omega
        rw [e]
        exact hp
  · refine ⟨-1, -1, Or.inl ⟨rfl, rfl⟩, fun post hp => ?_, fun post hp => ?_⟩
    · refine bx_nextListed hB hd hS hf (fun i2 K2 hf2 hK2 hpr2 hlt2 hbet => absurd ⟨i2, hf2, K2, hK2, hpr2, hlo i2 K2 hf2 hK2, hlt2⟩ c) (fun _ => hp)
    · refine by_behind hY hl hk hB hL (fun x hx => ?_)
      rcases hx with ⟨rfl, _⟩ | ⟨K', _, hm', hls', hlt', _⟩
      · exact hp
      · obtain ⟨i', hi'⟩ := idx K' hm'
        exact absurd ⟨i', (hC i' K' hi' hls').mpr hlt', K', hi', hls'⟩ c
/-- from one entry to the next -/
theorem bz_next (hA : bv_A m kf M am ar) (hS : bv_S m ks kf ak an au ao) (hY : bv_Y m kf am ac ar bn bk bo bc) (hB : bv_B t B) {i K : Nat} (hK : ks[i]? = some K) (hls : bv_ls kf ar m t B K) :
    ∃ a e, bv_St kf ar m ks t B fo a e ∧ (∀ post : Int32 → Prop, post a → ∀ f, bv_ps ks (bv_en fo t K + bv_wf fo t K) f → wpX_nextListed post (nI t, nI B, nI ks.length, xm, xh, ak, an, au, am, ac, ar, ao, ap, aq, av) (nI f)) ∧ (∀ post : Int32 → Prop, post e → wpY_behind post (nI (bv_rv B), nI t, yn, nI m.length, bn, bk, bo, bc, bu, bh, bv) (nI (bv_rv (bv_en fo t K))) fo) := by
  have hd := bv_dk_of hA hS
  have hKb := hd.2.2 i K hK
  obtain ⟨f, hf⟩ := bv_ps_ex hd.1 (bv_en fo t K + bv_wf fo t K)
  have hgt := bv_en_gt (fo := fo) (t := t) (K := K)
  have hle := bv_en_le (fo := fo) (t := t) (K := K)
  obtain ⟨a, e, h1, h2, h3⟩ := bz_nx (fo := fo) (xm := xm) (xh := xh) (ap := ap) (aq := aq) (av := av) (yn := yn) (bu := bu) (bh := bh) (bv := bv) hA hS hY hB (L := bv_en fo t K) (f := f) (by omega) hf.1 (fun j K' hj hK' => by
    have := hf.2.2 j K' hj hK'
    have := hls.2.1
    omega) (fun j K' hK' _ => by
    have hKb' := hd.2.2 j K' hK'
    rw [← bv_law hKb.2.2 hKb'.2.2]
    constructor
    · exact fun z => hf.2.2 j K' z hK'
    · intro z
      apply Nat.le_of_not_lt
      intro y
      have := hf.2.1 j K' y hK'
      omega)
  refine ⟨a, e, h1, fun post hp f' hf' => ?_, h3⟩
  have := bv_ps_un hf' hf
  subst this
  exact h2 post hp
theorem bz_start (hA : bv_A m kf M am ar) (hS : bv_S m ks kf ak an au ao) (hY : bv_Y m kf am ac ar bn bk bo bc) (hB : bv_B t B) :
    ∃ a e, bv_St kf ar m ks t B fo a e ∧ (∀ post : Int32 → Prop, post a → wpX_seek (fun r => wpX_nextListed post (nI t, nI B, nI ks.length, xm, xh, ak, an, au, am, ac, ar, ao, ap, aq, av) r) (nI t, nI B, nI ks.length, xm, xh, ak, an, au, am, ac, ar, ao, ap, aq, av) (nI B)) ∧ (∀ post : Int32 → Prop, post e → wpY_behind post (nI (bv_rv B), nI t, yn, nI m.length, bn, bk, bo, bc, bu, bh, bv) 0 fo) := by
  have hd := bv_dk_of hA hS
  have hB2 := bv_B_lt hB
  obtain ⟨f, hf⟩ := bv_ps_ex hd.1 B
  obtain ⟨a, e, h1, h2, h3⟩ := bz_nx (fo := fo) (xm := xm) (xh := xh) (ap := ap) (aq := aq) (av := av) (yn := yn) (bu := bu) (bh := bh) (bv := bv) hA hS hY hB (L := 0) (f := f) (by omega) hf.1 (fun j K' hj hK' => hf.2.2 j K' hj hK') (fun j K' hK' hls => by
    have hKb' := hd.2.2 j K' hK'
    have := bv_en_pos (fo := fo) (t := t) hKb'.2.1
    refine ⟨fun _ => this, fun _ => ?_⟩
    apply Nat.le_of_not_lt
    intro y
    have := hf.2.1 j K' y hK'
    have := hls.2.1
    omega)
  refine ⟨a, e, h1, fun post hp => bx_seek hd (by omega) (fun f' hf' => ?_), h3⟩
  have := bv_ps_un hf' hf
  subst this
  exact h2 post hp
theorem bv_m1ne {s : Nat} (h : s < 100) : ¬ nI s = -1 := by
  intro e
  have := nI_pos (n := s) (by omega)
  rw [e] at this
  exact this (by decide)
theorem bz_list (hA : bv_A m kf M am ar) (hS : bv_S m ks kf ak an au ao) (hY : bv_Y m kf am ac ar bn bk bo bc) (hB : bv_B t B) : ∀ d s a e, s + d = 24 → bv_St kf ar m ks t B fo a e →
    ∃ s', (∀ post : Int32 → Prop, post ((-1) - nI s') → wX_findEntry_23 post (-1) fo (nI t) (nI B) (nI ks.length) xm xh ak an au am ac ar ao ap aq av (d + 1) (nI s) a (nI s)) ∧ (∀ post : Int32 → Prop, post (nI s') → wY_list_12 post fo (nI (bv_rv B)) (nI t) yn (nI m.length) bn bk bo bc bu bh bv (d + 1) (nI s) e (nI s)) := by
  have hd := bv_dk_of hA hS
  intro d
  induction d with
  | zero =>
    intro s a e hs _
    have hs' : s = 24 := by omega
    subst hs'
    exact ⟨24, fun post hp => br_t (by decide) hp, fun post hp => br_t (by decide) hp⟩
  | succ d ih =>
    intro s a e hs hSt
    have c24 : ¬ (24 : Int32) ≤ nI s := nI_ge (b := 24) (by omega) (by decide)
    rcases hSt with ⟨rfl, rfl⟩ | ⟨i, K, hK, hls, rfl, rfl⟩
    · exact ⟨s, fun post hp => br_f c24 (br_t (by decide) hp), fun post hp => br_f c24 (br_t (by decide) hp)⟩
    · have hKb := hd.2.2 i K hK
      have hil := bv_ilt hK
      have hl := hd.2.1
      obtain ⟨a', e', hSt', hX, hYw⟩ := bz_next (fo := fo) (xm := xm) (xh := xh) (ap := ap) (aq := aq) (av := av) (yn := yn) (bu := bu) (bh := bh) (bv := bv) hA hS hY hB hK hls
      obtain ⟨s', gX, gY⟩ := ih (s + 1) a' e' (by omega) hSt'
      have he := Nat.lt_of_le_of_lt (bv_en_le (fo := fo) (t := t)) hKb.2.2
      have b1 := bv_rv_lt he
      have b0 := bv_rv_pos he (bv_en_pos (fo := fo) (t := t) hKb.2.1)
      refine ⟨s', fun post hp => br_f c24 (br_f (nI_pos (by omega)) ?_), fun post hp => br_f c24 (br_f (nI_nle b0 (by omega)) (nm_r (nI_1 s) ?_))⟩
      · exact bx_feBody hd hB.1 hK (by omega) (fun z => absurd z (bv_m1ne (by omega))) (fun _ f hf => hX _ (nm_r (nI_1 s) (gX post hp)) f hf)
      · exact hYw _ (nm_r (nI_1 s) (gY post hp))
theorem bz_entry (hA : bv_A m kf M am ar) (hS : bv_S m ks kf ak an au ao) (hY : bv_Y m kf am ac ar bn bk bo bc) (hB : bv_B t B) {x : Int32} : ∀ d s a e, s + d = 24 → bv_St kf ar m ks t B fo a e →
    (∃ n k, n < 24 ∧ x = nI n ∧ k < 2401 ∧ (∀ post : Int32 → Prop, post (nI k) → wX_findEntry_23 post x fo (nI t) (nI B) (nI ks.length) xm xh ak an au am ac ar ao ap aq av (d + 1) (nI s) a (nI s)) ∧ (∀ post : Int32 → Prop, post (nI (bv_rv k)) → wY_entry_10 post x fo (nI (bv_rv B)) (nI t) yn (nI m.length) bn bk bo bc bu bh bv (d + 1) e (nI s))) ∨
    (∃ s', s' ≤ 24 ∧ (∀ post : Int32 → Prop, post ((-1) - nI s') → wX_findEntry_23 post x fo (nI t) (nI B) (nI ks.length) xm xh ak an au am ac ar ao ap aq av (d + 1) (nI s) a (nI s)) ∧ (∀ post : Int32 → Prop, post (-7) → wY_entry_10 post x fo (nI (bv_rv B)) (nI t) yn (nI m.length) bn bk bo bc bu bh bv (d + 1) e (nI s))) := by
  have hd := bv_dk_of hA hS
  intro d
  induction d with
  | zero =>
    intro s a e hs _
    have hs' : s = 24 := by omega
    subst hs'
    exact Or.inr ⟨24, Nat.le_refl _, fun post hp => br_t (by decide) hp, fun post hp => br_t (by decide) hp⟩
  | succ d ih =>
    intro s a e hs hSt
    have c24 : ¬ (24 : Int32) ≤ nI s := nI_ge (b := 24) (by omega) (by decide)
    rcases hSt with ⟨rfl, rfl⟩ | ⟨i, K, hK, hls, rfl, rfl⟩
    · exact Or.inr ⟨s, by omega, fun post hp => br_f c24 (br_t (by decide) hp), fun post hp => br_f c24 (br_t (by decide) hp)⟩
    · have hKb := hd.2.2 i K hK
      have hil := bv_ilt hK
      have hl := hd.2.1
      have he := Nat.lt_of_le_of_lt (bv_en_le (fo := fo) (t := t)) hKb.2.2
      have b1 := bv_rv_lt he
      have b0 := bv_rv_pos he (bv_en_pos (fo := fo) (t := t) hKb.2.1)
      by_cases hx : nI s = x
      · refine Or.inl ⟨s, bv_en fo t K, by omega, hx.symm, he, fun post hp => br_f c24 (br_f (nI_pos (by omega)) ?_), fun post hp => br_f c24 (br_f (nI_nle b0 (by omega)) (br_t hx hp))⟩
        exact bx_feBody hd hB.1 hK (by omega) (fun _ => hp) (fun z => absurd hx z)
      · obtain ⟨a', e', hSt', hX, hYw⟩ := bz_next (fo := fo) (xm := xm) (xh := xh) (ap := ap) (aq := aq) (av := av) (yn := yn) (bu := bu) (bh := bh) (bv := bv) hA hS hY hB hK hls
        rcases ih (s + 1) a' e' (by omega) hSt' with ⟨n, k, hn, hxn, hk, gX, gY⟩ | ⟨s', hs', gX, gY⟩
        · refine Or.inl ⟨n, k, hn, hxn, hk, fun post hp => br_f c24 (br_f (nI_pos (by omega)) ?_), fun post hp => br_f c24 (br_f (nI_nle b0 (by omega)) (br_f hx ?_))⟩
          · exact bx_feBody hd hB.1 hK (by omega) (fun z => absurd z hx) (fun _ f hf => hX _ (nm_r (nI_1 s) (gX post hp)) f hf)
          · exact hYw _ (nm_r (nI_1 s) (gY post hp))
        · refine Or.inr ⟨s', hs', fun post hp => br_f c24 (br_f (nI_pos (by omega)) ?_), fun post hp => br_f c24 (br_f (nI_nle b0 (by omega)) (br_f hx ?_))⟩
          · exact bx_feBody hd hB.1 hK (by omega) (fun z => absurd z hx) (fun _ f hf => hX _ (nm_r (nI_1 s) (gX post hp)) f hf)
          · exact hYw _ (nm_r (nI_1 s) (gY post hp))
theorem bv_neg2 (x : Int32) : (-1 : Int32) - ((-1) - x) = x := by grind
theorem bz_list_top (hA : bv_A m kf M am ar) (hS : bv_S m ks kf ak an au ao) (hY : bv_Y m kf am ac ar bn bk bo bc) (hB : bv_B t B) : ∃ r, (∀ post : Int32 → Prop, post r → wpX_list post (nI t, nI B, nI ks.length, xm, xh, ak, an, au, am, ac, ar, ao, ap, aq, av) fo) ∧ (∀ post : Int32 → Prop, post r → wpY_list post (nI (bv_rv B), nI t, yn, nI m.length, bn, bk, bo, bc, bu, bh, bv) fo) := by
  obtain ⟨a, e, hSt, hX, hYw⟩ := bz_start (fo := fo) (xm := xm) (xh := xh) (ap := ap) (aq := aq) (av := av) (yn := yn) (bu := bu) (bh := bh) (bv := bv) hA hS hY hB
  obtain ⟨s', gX, gY⟩ := bz_list (fo := fo) (xm := xm) (xh := xh) (ap := ap) (aq := aq) (av := av) (yn := yn) (bu := bu) (bh := bh) (bv := bv) hA hS hY hB 24 0 a e rfl hSt
  refine ⟨nI s', fun post hp => ?_, fun post hp => ?_⟩
  · unfold wpX_list wpX_findEntry
    refine hX _ (Exists.intro 25 (gX _ ?_))
    rw [bv_neg2]
    exact hp
  · unfold wpY_list
    exact hYw _ (Exists.intro 25 (gY _ hp))
theorem bx_ent27 {post : Int32 → Prop} {k : Nat} (hk : k < 2401) : ∀ p c, p ≤ 4 → post (nI (bv_cd k p c)) → wX_entry_27 post (nI k) xt xb xk xm xh ak an au am ac ar ao ap aq av (p + 1) (nI c) (nI p - 1) := by
  intro p
  induction p with
  | zero => intro c _ h; exact br_t (by decide) h
  | succ p ih =>
    intro c hp h
    rw [nI_pred]
    refine br_f (nI_pos (by omega)) (bx_digitAt hk (by omega) (nm_r (e' := nI (c * 7 + bv_dg k p)) ?_ (nm_r (bv_m1 p) (ih _ (by omega) h))))
    rw [show (7 : Int32) = nI 7 from rfl, pk_mul, nI_add]
theorem bv_neg3 : ∀ s, s < 25 → ¬ (0 : Int32) ≤ (-1) - nI s := by decide +kernel
theorem bz_entry_top (hA : bv_A m kf M am ar) (hS : bv_S m ks kf ak an au ao) (hY : bv_Y m kf am ac ar bn bk bo bc) (hB : bv_B t B) (x : Int32) : ∃ r, (∀ post : Int32 → Prop, post r → wpX_entry post (nI t, nI B, nI ks.length, xm, xh, ak, an, au, am, ac, ar, ao, ap, aq, av) x fo) ∧ (∀ post : Int32 → Prop, post r → wpY_entry post (nI (bv_rv B), nI t, yn, nI m.length, bn, bk, bo, bc, bu, bh, bv) x fo) := by
  obtain ⟨a, e, hSt, hX, hYw⟩ := bz_start (fo := fo) (xm := xm) (xh := xh) (ap := ap) (aq := aq) (av := av) (yn := yn) (bu := bu) (bh := bh) (bv := bv) hA hS hY hB
  rcases bz_entry (fo := fo) (x := x) (xm := xm) (xh := xh) (ap := ap) (aq := aq) (av := av) (yn := yn) (bu := bu) (bh := bh) (bv := bv) hA hS hY hB 24 0 a e rfl hSt with ⟨n, k, hn, hxn, hk, gX, gY⟩ | ⟨s', hs', gX, gY⟩
  · refine ⟨nI (bv_rv k), fun post hp => ?_, fun post hp => ?_⟩
    · unfold wpX_entry
      refine br_t (by rw [hxn]; exact nI_pos' (by omega)) ?_
      unfold wpX_findEntry
      refine hX _ (Exists.intro 25 (gX _ (br_t (nI_pos' (by omega)) (Exists.intro 5 ?_))))
      have q := bx_ent27 (post := post) (xt := nI t) (xb := nI B) (xk := nI ks.length) (xm := xm) (xh := xh) (ak := ak) (an := an) (au := au) (am := am) (ac := ac) (ar := ar) (ao := ao) (ap := ap) (aq := aq) (av := av) hk 4 0 (by omega) (by rw [bv_cd_rv hk]; exact hp)
      have e3 : nI 4 - 1 = 3 := by decide
      rw [e3] at q
      exact q
    · unfold wpY_entry
      exact hYw _ (Exists.intro 25 (gY _ hp))
  · refine ⟨-7, fun post hp => ?_, fun post hp => ?_⟩
    · unfold wpX_entry
      refine br_c (fun _ => ?_) (fun _ => hp)
      unfold wpX_findEntry
      exact hX _ (Exists.intro 25 (gX _ (br_f (bv_neg3 s' (by omega)) hp)))
    · unfold wpY_entry
      exact hYw _ (Exists.intro 25 (gY _ hp))
end
end
section
/-! the relation, its introduction and elimination -/
def bv_R (k t B M : Nat) (m ks : List Nat) (kf U : Nat → Nat) (ak an au am ac ar ao ap aq bn bk bo bc bu bh : Nat → Int32) : Prop :=
  M ≤ k ∧ bv_B t B ∧ bv_A m kf M am ar ∧ bv_S m ks kf ak an au ao ∧ bv_Y m kf am ac ar bn bk bo bc ∧ bv_U U ap aq bu bh
/-- the relation at the head of a turn whose first cell is k -/
def i_Rel (k : Nat) (u : SX) (v : SY) : Prop :=
  ∃ (t B M : Nat) (m ks : List Nat) (kf U : Nat → Nat) (ak an au am ac ar ao ap aq av bn bk bo bc bu bh : Nat → Int32), bv_R k t B M m ks kf U ak an au am ac ar ao ap aq bn bk bo bc bu bh ∧
    u = (nI t, nI B, nI ks.length, nI M, nI m.length, ak, an, au, am, ac, ar, ao, ap, aq, av) ∧ v = (nI (bv_rv B), nI t, nI M, nI m.length, bn, bk, bo, bc, bu, bh, av)
theorem bv_mk {k t B M : Nat} {m ks : List Nat} {kf U : Nat → Nat} {ak an au am ac ar ao ap aq av bn bk bo bc bu bh : Nat → Int32} (h : bv_R k t B M m ks kf U ak an au am ac ar ao ap aq bn bk bo bc bu bh) : i_Rel k (nI t, nI B, nI ks.length, nI M, nI m.length, ak, an, au, am, ac, ar, ao, ap, aq, av) (nI (bv_rv B), nI t, nI M, nI m.length, bn, bk, bo, bc, bu, bh, av) :=
  ⟨t, B, M, m, ks, kf, U, ak, an, au, am, ac, ar, ao, ap, aq, av, bn, bk, bo, bc, bu, bh, h, rfl, rfl⟩
theorem bv_el {k : Nat} {u : SX} {v : SY} {P : SX → SY → Prop} (h : ∀ (t B M : Nat) (m ks : List Nat) (kf U : Nat → Nat) (ak an au am ac ar ao ap aq av bn bk bo bc bu bh : Nat → Int32), bv_R k t B M m ks kf U ak an au am ac ar ao ap aq bn bk bo bc bu bh → P (nI t, nI B, nI ks.length, nI M, nI m.length, ak, an, au, am, ac, ar, ao, ap, aq, av) (nI (bv_rv B), nI t, nI M, nI m.length, bn, bk, bo, bc, bu, bh, av)) (I : i_Rel k u v) : P u v := by
  obtain ⟨t, B, M, m, ks, kf, U, ak, an, au, am, ac, ar, ao, ap, aq, av, bn, bk, bo, bc, bu, bh, hR, rfl, rfl⟩ := I
  exact h t B M m ks kf U ak an au am ac ar ao ap aq av bn bk bo bc bu bh hR
theorem bv_R_up {k t B M : Nat} {m ks : List Nat} {kf U : Nat → Nat} {ak an au am ac ar ao ap aq bn bk bo bc bu bh : Nat → Int32} (h : bv_R k t B M m ks kf U ak an au am ac ar ao ap aq bn bk bo bc bu bh) : bv_R (k + 4) t B M m ks kf U ak an au am ac ar ao ap aq bn bk bo bc bu bh :=
  ⟨by have := h.1; omega, h.2⟩
/-- the relation behind a new version -/
theorem bv_mk_add {k t B M : Nat} {m ks ks' : List Nat} {kf U U' : Nat → Nat} {ak an au am ac ar ao ap aq av bn bk bo bc bu bh ak' an' au' ao' ap' bu' : Nat → Int32} (h : bv_R k t B M m ks kf U ak an au am ac ar ao ap aq bn bk bo bc bu bh) (hk : k + 4 ≤ 2048) {v q : Nat} {c x b : Int32} (hq0 : 0 < q) (hq : q < 2401) (hx : x = 0 ∨ x = 1) (hb : b = bv_ob x) (hv : v ∉ m) (hS : bv_S (m ++ [v]) ks' (bv_uk kf v q) ak' an' au' ao') (hU : bv_U U' ap' aq bu' bh) :
    i_Rel (k + 4) (nI t, nI B, nI ks'.length, nI (M + 1), nI (m.length + 1), ak', an', au', upd am v (nI M), upd ac v c, upd ar v x, ao', ap', aq, av) (nI (bv_rv B), nI t, nI (M + 1), nI (m.length + 1), upd bn m.length (nI M), upd bk m.length (nI (bv_rv q)), upd bo m.length b, upd bc m.length c, bu', bh, av) := by
  obtain ⟨r1, r2, r3, r4, r5, r6⟩ := h
  have e : (m ++ [v]).length = m.length + 1 := by rw [List.length_append, List.length_singleton]
  rw [← e, hb]
  exact bv_mk ⟨by omega, r2, bv_A_add r3 hv hq0 hq hx (by omega), hS, bv_Y_add r5 hv, hU⟩
/-- .. and behind a list made shorter -/
theorem bv_A_sub {m m' : List Nat} {kf : Nat → Nat} {M : Nat} {am ar : Nat → Int32} (h : bv_A m kf M am ar) (hs : m'.Sublist m) : bv_A m' kf M am ar :=
  ⟨fun v hv => h.1 v (hs.subset hv), fun v w hv hw => h.2 v w (hs.subset hv) (hs.subset hw)⟩
theorem i_up {k : Nat} {u : SX} {v : SY} (h : i_Rel k u v) : i_Rel (k + 4) u v := by
  refine bv_el (P := fun u v => i_Rel (k + 4) u v) ?_ h
  intro t B M m ks kf U ak an au am ac ar ao ap aq av bn bk bo bc bu bh hR
  exact bv_mk (bv_R_up hR)
theorem i_vc0 : wpX_init (fun u => wpY_init (fun v => i_Rel 0 u v)) := by
  have hR : bv_R 0 0 0 0 [] [] (fun _ => 0) (fun _ => 0) (fun _ => 0) (fun _ => 0) (fun _ => 0) (fun _ => 0) (fun _ => 0) (fun _ => 0) (fun _ => 0) (fun _ => 0) (fun _ => 0) (fun _ => 0) (fun _ => 0) (fun _ => 0) (fun _ => 0) (fun _ => 0) (fun _ => 0) := by
    refine ⟨Nat.le_refl _, ⟨by omega, by decide, by decide, fun h => absurd h (Nat.lt_irrefl _)⟩, ⟨fun v hv => absurd hv List.not_mem_nil, fun v w hv => absurd hv List.not_mem_nil⟩, ⟨List.nodup_nil, fun v hv => absurd hv List.not_mem_nil, fun v _ => ⟨fun hv => absurd hv List.not_mem_nil, fun _ => rfl⟩, fun i j a b _ hi => absurd hi (by simp), fun K => ⟨fun h => absurd h List.not_mem_nil, fun ⟨v, hv, _⟩ => absurd hv List.not_mem_nil⟩, fun i K hi => absurd hi (by simp), fun K => trivial⟩, fun j v hj => absurd hj (by simp), fun u hu => ⟨rfl, ?_, Nat.zero_lt_succ _, fun i hi => ?_⟩⟩
    · show (0 : Int32) = nI (bv_rv 0)
      rw [bv_rv_0]; rfl
    · rw [b_0]; rfl
  exact bv_mk (av := fun _ => 0) hR
end
section
/-! the owed statements, first half -/
theorem i_vc_type {k : Nat} {u : SX} {v : SY} (I : i_Rel k u v) (hk : k + 4 ≤ 2048) (v1 : Int32) : wpX_type (fun r u' => wpY_type (fun r' v' => r' = r ∧ i_Rel (k + 4) u' v') v v1) u v1 := by
  refine bv_el (P := fun u v => wpX_type (fun r u' => wpY_type (fun r' v' => r' = r ∧ i_Rel (k + 4) u' v') v v1) u v1) ?_ I
  intro t B M m ks kf U ak an au am ac ar ao ap aq av bn bk bo bc bu bh hR
  have hI := bv_mk (av := av) (bv_R_up hR)
  obtain ⟨r1, r2, r3, r4, r5, r6⟩ := hR
  have ht := r2.1
  rcases pk_ix v1 (n := 6) (by decide) with c | c | ⟨j, hj, rfl⟩
  · exact br_t c (br_t c ⟨rfl, hI⟩)
  · have c0 : ¬ v1 < 0 := Int32.not_lt.mpr (Int32.le_trans (by decide) c)
    have c5 : ¬ v1 ≤ 5 := fun z => absurd (Int32.le_trans c z) (by decide)
    exact br_f c0 (br_f c5 (br_f c0 (br_f c5 ⟨rfl, hI⟩)))
  · have c0 : ¬ nI j < 0 := nI_pos (by omega)
    have c5 : nI j ≤ 5 := nI_le (b := 5) (by omega) (by decide)
    refine br_f c0 (br_t c5 (pk_lt t 4 (fun z => ?_) (fun z => ?_)))
    · obtain ⟨q1, q2⟩ := bv_B_type r2 z hj
      refine bx_unit z (nm_r (e' := nI (B + (j + 1) * bv_un t)) (by rw [nI_1, pk_mul, nI_add]) (nm_r (nI_1 t) ?_))
      refine br_f c0 (br_t c5 (pk_eq t 4 (fun y => by omega) (fun _ => by_power ht (nm_r (e' := nI (bv_rv (B + (j + 1) * bv_un t))) (by rw [q2, nI_1, pk_mul, nI_add]) (nm_r (nI_1 t) ⟨rfl, ?_⟩)))))
      exact bv_mk ⟨by omega, q1, r3, r4, r5, r6⟩
    · exact br_f c0 (br_t c5 (pk_eq t 4 (fun _ => ⟨rfl, hI⟩) (fun y => by omega)))
theorem i_vc_erase {k : Nat} {u : SX} {v : SY} (I : i_Rel k u v) (hk : k + 4 ≤ 2048) : wpX_erase (fun u' => wpY_erase (fun v' => i_Rel (k + 4) u' v') v) u := by
  refine bv_el (P := fun u v => wpX_erase (fun u' => wpY_erase (fun v' => i_Rel (k + 4) u' v') v) u) ?_ I
  intro t B M m ks kf U ak an au am ac ar ao ap aq av bn bk bo bc bu bh hR
  obtain ⟨r1, r2, r3, r4, r5, r6⟩ := hR
  exact bv_mk (t := 0) (B := 0) ⟨by omega, ⟨by omega, by decide, by decide, fun h => absurd h (Nat.lt_irrefl _)⟩, r3, r4, r5, r6⟩
theorem i_vc_put {k : Nat} {u : SX} {v : SY} (I : i_Rel k u v) (hk : k + 4 ≤ 2048) (v1 : Int32) : wpX_put (fun r u' => wpY_put (fun r' v' => r' = r ∧ i_Rel (k + 4) u' v') v v1) u v1 := by
  refine bv_el (P := fun u v => wpX_put (fun r u' => wpY_put (fun r' v' => r' = r ∧ i_Rel (k + 4) u' v') v v1) u v1) ?_ I
  intro t B M m ks kf U ak an au am ac ar ao ap aq av bn bk bo bc bu bh hR
  have hI := bv_mk (av := av) (bv_R_up hR)
  have hR' := hR
  obtain ⟨r1, r2, r3, r4, r5, r6⟩ := hR'
  have ht := r2.1
  have hl := bv_len24 r4.1 r4.2.1
  refine pk_eq t 0 (fun z => ?_) (fun z => pk_lt m.length 24 (fun y => ?_) (fun y => ?_))
  · exact pk_eq t 0 (fun _ => ⟨rfl, hI⟩) (fun y => absurd z y)
  · refine bx_add r3 r4 y (r2.2.2.2 (by omega)) (bv_B_lt r2) (Or.inl rfl) (fun w ks' ak' an' au' ao' hw hwm hS' => ?_)
    refine pk_eq t 0 (fun x => absurd x z) (fun _ => by_make y (Or.inr rfl) ⟨rfl, ?_⟩)
    exact bv_mk_add hR hk (r2.2.2.2 (by omega)) (bv_B_lt r2) (Or.inl rfl) rfl hwm hS' r6
  · exact pk_eq t 0 (fun x => absurd x z) (fun _ => by_make_full (by omega) ⟨rfl, hI⟩)
theorem i_vc_remove {k : Nat} {u : SX} {v : SY} (I : i_Rel k u v) (hk : k + 4 ≤ 2048) : wpX_remove (fun r u' => wpY_remove (fun r' v' => r' = r ∧ i_Rel (k + 4) u' v') v) u := by
  refine bv_el (P := fun u v => wpX_remove (fun r u' => wpY_remove (fun r' v' => r' = r ∧ i_Rel (k + 4) u' v') v) u) ?_ I
  intro t B M m ks kf U ak an au am ac ar ao ap aq av bn bk bo bc bu bh hR
  have hI := bv_mk (av := av) (bv_R_up hR)
  have hR' := hR
  obtain ⟨r1, r2, r3, r4, r5, r6⟩ := hR'
  have ht := r2.1
  have hB := bv_B_lt r2
  have hd := bv_dk_of r3 r4
  have hl := bv_len24 r4.1 r4.2.1
  have hk' : ∀ v, v ∈ m → kf v < 2401 := fun v hv => (r3.1 v hv).1.2
  unfold wpX_remove
  by_cases z : t = 0
  · have Y0 : wpY_remove (fun r' v' => r' = (-3) ∧ i_Rel (k + 4) (nI t, nI B, nI ks.length, nI M, nI m.length, ak, an, au, am, ac, ar, ao, ap, aq, av) v') (nI (bv_rv B), nI t, nI M, nI m.length, bn, bk, bo, bc, bu, bh, av) := pk_eq t 0 (fun _ => ⟨rfl, hI⟩) (fun y => absurd z y)
    have c : nI t = 0 := by rw [z]; rfl
    exact bx_placeOf hd (by omega) (fun i hi => br_t c Y0) (fun hn => br_t c Y0)
  · have c : ¬ nI t = 0 := nI_ne0 (by omega) (by omega)
    have Yp : ∀ {post : Int32 → SY → Prop}, ((bv_pv ar (bv_cn kf m B) = 0 → post (-3) (nI (bv_rv B), nI t, nI M, nI m.length, bn, bk, bo, bc, bu, bh, av)) ∧ (¬ bv_pv ar (bv_cn kf m B) = 0 → wpY_make post (nI (bv_rv B), nI t, nI M, nI m.length, bn, bk, bo, bc, bu, bh, av) (nI (bv_rv B)) 0 0)) → wpY_remove post (nI (bv_rv B), nI t, nI M, nI m.length, bn, bk, bo, bc, bu, bh, av) := by
      intro post h
      exact br_f c (by_isPresent r5 hl hk' hB h)
    have key : ∀ s, s = bv_pv ar (bv_cn kf m B) → (s = 0 → wpY_remove (fun r' v' => r' = (-3) ∧ i_Rel (k + 4) (nI t, nI B, nI ks.length, nI M, nI m.length, ak, an, au, am, ac, ar, ao, ap, aq, av) v') (nI (bv_rv B), nI t, nI M, nI m.length, bn, bk, bo, bc, bu, bh, av)) ∧ (¬ s = 0 → ((nI m.length < 24 → wpX_addVersion (fun r u' => wpY_remove (fun r' v' => r' = r ∧ i_Rel (k + 4) u' v') (nI (bv_rv B), nI t, nI M, nI m.length, bn, bk, bo, bc, bu, bh, av)) (nI t, nI B, nI ks.length, nI M, nI m.length, ak, an, au, am, ac, ar, ao, ap, aq, av) (nI B) 0 1) ∧ (¬ nI m.length < 24 → wpY_remove (fun r' v' => r' = (-2) ∧ i_Rel (k + 4) (nI t, nI B, nI ks.length, nI M, nI m.length, ak, an, au, am, ac, ar, ao, ap, aq, av) v') (nI (bv_rv B), nI t, nI M, nI m.length, bn, bk, bo, bc, bu, bh, av)))) := by
      intro s hs
      subst hs
      refine br_c (fun e => Yp (br_t e ⟨rfl, hI⟩)) (fun e => pk_lt m.length 24 (fun y => ?_) (fun y => ?_))
      · refine bx_add r3 r4 y (r2.2.2.2 (by omega)) hB (Or.inr rfl) (fun w ks' ak' an' au' ao' hw hwm hS' => ?_)
        refine Yp (br_f e (by_make y (Or.inl rfl) ⟨rfl, ?_⟩))
        exact bv_mk_add hR hk (r2.2.2.2 (by omega)) hB (Or.inr rfl) rfl hwm hS' r6
      · exact Yp (br_f e (by_make_full (by omega) ⟨rfl, hI⟩))
    refine bx_placeOf hd (by omega) (fun i hi => br_f c ?_) (fun hn => br_f c ?_)
    · obtain ⟨a, tl, e, ha, _, _, hna⟩ := bv_newest r4 hi
      have := bv_ilt hi
      have := hd.2.1
      refine bx_pres_at (by omega) ha hna ?_
      exact key (bv_ob (ar a)) (by rw [e]; rfl)
    · refine bx_pres_no ?_
      exact key 0 (by rw [bv_no_newest r4 hn]; rfl)
theorem i_vc_destroy {k : Nat} {u : SX} {v : SY} (I : i_Rel k u v) (hk : k + 4 ≤ 2048) (v1 : Int32) : wpX_destroy (fun r u' => wpY_destroy (fun r' v' => r' = r ∧ i_Rel (k + 4) u' v') v v1) u v1 := by
  refine bv_el (P := fun u v => wpX_destroy (fun r u' => wpY_destroy (fun r' v' => r' = r ∧ i_Rel (k + 4) u' v') v v1) u v1) ?_ I
  intro t B M m ks kf U ak an au am ac ar ao ap aq av bn bk bo bc bu bh hR
  have hI := bv_mk (av := av) (bv_R_up hR)
  obtain ⟨r1, r2, r3, r4, r5, r6⟩ := hR
  have hd := bv_dk_of r3 r4
  have hl := bv_len24 r4.1 r4.2.1
  refine bx_destroy r4 hd.2.1 (fun h0 => ?_) (fun w hw e ks' ak' an' au' ao' hS' => ?_)
  · exact by_destroy r5 r4.1 hl (fun _ => ⟨rfl, hI⟩) (fun w hw e => absurd e (h0 w hw))
  · refine by_destroy r5 r4.1 hl (fun h0 => absurd e (h0 w hw)) (fun w' hw' e' bn' bk' bo' bc' hY' => ?_)
    have : w' = w := r3.2 w' w hw' hw (e'.trans e.symm)
    subst this
    exact ⟨rfl, bv_mk ⟨by omega, r2, bv_A_sub r3 bv_rm_sub, hS', hY', r6⟩⟩
end
section
/-! the owed statements, second half -/
theorem i_vc_begin {k : Nat} {u : SX} {v : SY} (I : i_Rel k u v) (hk : k + 4 ≤ 2048) : wpX_begin (fun r u' => wpY_begin (fun r' v' => r' = r ∧ i_Rel (k + 4) u' v') v) u := by
  refine bv_el (P := fun u v => wpX_begin (fun r u' => wpY_begin (fun r' v' => r' = r ∧ i_Rel (k + 4) u' v') v) u) ?_ I
  intro t B M m ks kf U ak an au am ac ar ao ap aq av bn bk bo bc bu bh hR
  have hI := bv_mk (av := av) (bv_R_up hR)
  obtain ⟨r1, r2, r3, r4, r5, r6⟩ := hR
  have ht := r2.1
  have hB := bv_B_lt r2
  refine pk_eq t 0 (fun z => pk_eq t 0 (fun _ => ⟨rfl, hI⟩) (fun y => absurd z y)) (fun z => ?_)
  obtain ⟨w, w1, w2, w3⟩ := bv_free3 U
  refine Exists.intro 4 ?_
  refine bx_begin12 r6 w1 w2 w3 ?_ 4 0 (Nat.zero_le _) (by omega)
  rcases Nat.lt_or_ge w 3 with c | c
  · refine bx_begin32 c ?_
    refine pk_eq t 0 (fun y => absurd y z) (fun _ => Exists.intro 4 ?_)
    refine by_begin12 r6 w1 w2 w3 (fun y => by omega) (fun _ bh' g1 g2 => ⟨rfl, ?_⟩) 4 0 (Nat.zero_le _) (by omega)
    exact bv_mk ⟨by omega, r2, r3, r4, r5, bv_U_new r6 c hB g1 g2⟩
  · have e : w = 3 := by omega
    subst e
    refine bx_begin32_f ?_
    refine pk_eq t 0 (fun y => absurd y z) (fun _ => Exists.intro 4 ?_)
    exact by_begin12 r6 w1 w2 w3 (fun _ => ⟨rfl, hI⟩) (fun y => by omega) 4 0 (Nat.zero_le _) (by omega)
theorem bv_up_un {U : Nat → Nat} {x : Int32} {u u' : Nat} (h : bv_up U x u) (h' : bv_up U x u') : u' = u := by
  obtain ⟨a, b, c⟩ := h
  obtain ⟨a', b', c'⟩ := h'
  rw [b, nI_eq (by omega) (by omega)] at b'
  exact b'.symm
theorem i_vc_part {k : Nat} {u : SX} {v : SY} (I : i_Rel k u v) (hk : k + 4 ≤ 2048) (v1 : Int32) (v2 : Int32) (v3 : Int32) : wpX_part (fun r u' => wpY_part (fun r' v' => r' = r ∧ i_Rel (k + 4) u' v') v v1 v2 v3) u v1 v2 v3 := by
  refine bv_el (P := fun u v => wpX_part (fun r u' => wpY_part (fun r' v' => r' = r ∧ i_Rel (k + 4) u' v') v v1 v2 v3) u v1 v2 v3) ?_ I
  intro t B M m ks kf U ak an au am ac ar ao ap aq av bn bk bo bc bu bh hR
  have hI := bv_mk (av := av) (bv_R_up hR)
  obtain ⟨r1, r2, r3, r4, r5, r6⟩ := hR
  refine bx_part r6 (fun h5 => ?_) (fun w hw h6 => ?_) (fun w p hw hp e => ?_)
  · exact by_part r6 (fun _ => ⟨rfl, hI⟩) (fun w hw => absurd hw (h5 w)) (fun w p hw => absurd hw (h5 w))
  · exact by_part r6 (fun h5 => absurd hw (h5 w)) (fun _ _ _ => ⟨rfl, hI⟩) (fun w' p _ hp e => absurd e (h6 p hp))
  · refine by_part r6 (fun h5 => absurd hw (h5 w)) (fun _ _ h6 => absurd e (h6 p hp)) (fun w' p' hw' hp' e' => ?_)
    have ew := bv_up_un hw hw'
    subst ew
    have ep : p' = p := by
      rw [e, nI_eq (by omega) (by omega)] at e'
      exact e'.symm
    subst ep
    exact ⟨rfl, bv_mk ⟨by omega, r2, r3, r4, r5, bv_U_part r6 hw.1 hp⟩⟩
theorem i_vc_complete {k : Nat} {u : SX} {v : SY} (I : i_Rel k u v) (hk : k + 4 ≤ 2048) (v1 : Int32) (v2 : Int32) : wpX_complete (fun r u' => wpY_complete (fun r' v' => r' = r ∧ i_Rel (k + 4) u' v') v v1 v2) u v1 v2 := by
  refine bv_el (P := fun u v => wpX_complete (fun r u' => wpY_complete (fun r' v' => r' = r ∧ i_Rel (k + 4) u' v') v v1 v2) u v1 v2) ?_ I
  intro t B M m ks kf U ak an au am ac ar ao ap aq av bn bk bo bc bu bh hR
  have hI := bv_mk (av := av) (bv_R_up hR)
  have hR' := hR
  obtain ⟨r1, r2, r3, r4, r5, r6⟩ := hR'
  have hl := bv_len24 r4.1 r4.2.1
  have hM : M < 2 ^ 30 := by omega
  refine bx_complete r6 r3 r4 hl (fun h5 => ?_) (fun w hw h6 => ?_) (fun w hw hg h24 => ?_) (fun w hw hg h24 x ks' ak' an' au' ao' hx hxm hS' => ?_)
  · exact by_complete r6 hM hl (fun _ => ⟨rfl, hI⟩) (fun w hw => absurd hw (h5 w)) (fun w hw => absurd hw (h5 w)) (fun w hw => absurd hw (h5 w))
  · refine by_complete r6 hM hl (fun h5 => absurd hw (h5 w)) (fun _ _ _ => ⟨rfl, hI⟩) (fun w' hw' hg => ?_) (fun w' hw' hg => ?_)
    · have ew := bv_up_un hw hw'
      subst ew
      exact absurd h6 hg
    · have ew := bv_up_un hw hw'
      subst ew
      exact absurd h6 hg
  · refine by_complete r6 hM hl (fun h5 => absurd hw (h5 w)) (fun w' hw' h6 => ?_) (fun _ _ _ _ => ⟨rfl, hI⟩) (fun w' hw' _ y => by omega)
    have ew := bv_up_un hw hw'
    subst ew
    exact absurd h6 hg
  · refine by_complete r6 hM hl (fun h5 => absurd hw (h5 w)) (fun w' hw' h6 => ?_) (fun _ _ _ y => by omega) (fun w' hw' _ _ => ?_)
    · have ew := bv_up_un hw hw'
      subst ew
      exact absurd h6 hg
    · have ew := bv_up_un hw hw'
      subst ew
      exact ⟨rfl, bv_mk_add hR hk hw.2.2 (r6 _ hw.1).2.2.1 (Or.inl rfl) rfl hxm hS' (bv_U_end r6)⟩
theorem i_vc_abort {k : Nat} {u : SX} {v : SY} (I : i_Rel k u v) (hk : k + 4 ≤ 2048) (v1 : Int32) : wpX_abort (fun r u' => wpY_abort (fun r' v' => r' = r ∧ i_Rel (k + 4) u' v') v v1) u v1 := by
  refine bv_el (P := fun u v => wpX_abort (fun r u' => wpY_abort (fun r' v' => r' = r ∧ i_Rel (k + 4) u' v') v v1) u v1) ?_ I
  intro t B M m ks kf U ak an au am ac ar ao ap aq av bn bk bo bc bu bh hR
  have hI := bv_mk (av := av) (bv_R_up hR)
  obtain ⟨r1, r2, r3, r4, r5, r6⟩ := hR
  refine bx_abort r6 (fun h5 => ?_) (fun w hw => ?_)
  · exact by_abort r6 (fun _ => ⟨rfl, hI⟩) (fun w hw => absurd hw (h5 w))
  · refine by_abort r6 (fun h5 => absurd hw (h5 w)) (fun w' hw' => ?_)
    have ew := bv_up_un hw hw'
    subst ew
    exact ⟨rfl, bv_mk ⟨by omega, r2, r3, r4, r5, bv_U_end r6⟩⟩
theorem i_vc_expire {k : Nat} {u : SX} {v : SY} (I : i_Rel k u v) (hk : k + 4 ≤ 2048) (v1 : Int32) : wpX_expire (fun r u' => wpY_expire (fun r' v' => r' = r ∧ i_Rel (k + 4) u' v') v v1) u v1 := by
  refine bv_el (P := fun u v => wpX_expire (fun r u' => wpY_expire (fun r' v' => r' = r ∧ i_Rel (k + 4) u' v') v v1) u v1) ?_ I
  intro t B M m ks kf U ak an au am ac ar ao ap aq av bn bk bo bc bu bh hR
  obtain ⟨r1, r2, r3, r4, r5, r6⟩ := hR
  have hl := bv_len24 r4.1 r4.2.1
  have hk' : ∀ v, v ∈ m → kf v < 2401 := fun v hv => (r3.1 v hv).1.2
  obtain ⟨s, hs, hs0, hs1⟩ := bv_stay_ex v1
  refine bx_expire hs hs0 hs1 r3 r4 (fun mX ks' ak' an' au' ao' hsX hcX hS' => ?_)
  refine by_expire hs hs0 hs1 hl hk' (fun v hv => (r3.1 v hv).2.1) r5 (fun mY bn' bk' bo' bc' hsY hcY hY' => ?_)
  have e : mY = mX := bv_ext hsY hsX r4.1 (fun K => (hcY K).trans (hcX K).symm)
  subst e
  exact ⟨rfl, bv_mk ⟨by omega, r2, bv_A_sub r3 hsX, hS', hY', r6⟩⟩
theorem i_vc_get {k : Nat} {u : SX} {v : SY} (I : i_Rel k u v) (hk : k + 4 ≤ 2048) : wpX_get (fun r => wpY_get (fun r' => r' = r ∧ i_Rel (k + 4) u v) v) u := by
  refine bv_el (P := fun u v => wpX_get (fun r => wpY_get (fun r' => r' = r ∧ i_Rel (k + 4) u v) v) u) ?_ I
  intro t B M m ks kf U ak an au am ac ar ao ap aq av bn bk bo bc bu bh hR
  have hI := bv_mk (av := av) (bv_R_up hR)
  obtain ⟨r1, r2, r3, r4, r5, r6⟩ := hR
  have hl := bv_len24 r4.1 r4.2.1
  have hB := bv_B_lt r2
  have hk' : ∀ v, v ∈ m → kf v < 2401 := fun v hv => (r3.1 v hv).1.2
  exact bx_get (bv_dk_of r3 r4) r4 (by omega) (by_get r5 hl hk' hB ⟨rfl, hI⟩)
theorem i_vc_present {k : Nat} {u : SX} {v : SY} (I : i_Rel k u v) (hk : k + 4 ≤ 2048) : wpX_present (fun r => wpY_present (fun r' => r' = r ∧ i_Rel (k + 4) u v) v) u := by
  refine bv_el (P := fun u v => wpX_present (fun r => wpY_present (fun r' => r' = r ∧ i_Rel (k + 4) u v) v) u) ?_ I
  intro t B M m ks kf U ak an au am ac ar ao ap aq av bn bk bo bc bu bh hR
  have hI := bv_mk (av := av) (bv_R_up hR)
  obtain ⟨r1, r2, r3, r4, r5, r6⟩ := hR
  have hl := bv_len24 r4.1 r4.2.1
  have hB := bv_B_lt r2
  have hk' : ∀ v, v ∈ m → kf v < 2401 := fun v hv => (r3.1 v hv).1.2
  exact bx_present (bv_dk_of r3 r4) r4 (by omega) (by_present r5 hl hk' hB ⟨rfl, hI⟩)
theorem i_vc_content {k : Nat} {u : SX} {v : SY} (I : i_Rel k u v) (hk : k + 4 ≤ 2048) (v1 : Int32) : wpX_content (fun r => wpY_content (fun r' => r' = r ∧ i_Rel (k + 4) u v) v v1) u v1 := by
  refine bv_el (P := fun u v => wpX_content (fun r => wpY_content (fun r' => r' = r ∧ i_Rel (k + 4) u v) v v1) u v1) ?_ I
  intro t B M m ks kf U ak an au am ac ar ao ap aq av bn bk bo bc bu bh hR
  have hI := bv_mk (av := av) (bv_R_up hR)
  obtain ⟨r1, r2, r3, r4, r5, r6⟩ := hR
  have hl := bv_len24 r4.1 r4.2.1
  refine bx_content r4 (fun w hw e => ?_) (fun h0 => ?_)
  · refine by_content r5 hl (fun w' hw' e' => ?_) (fun h0 => absurd e (h0 w hw))
    have : w' = w := r3.2 w' w hw' hw (e'.trans e.symm)
    subst this
    exact ⟨rfl, hI⟩
  · exact by_content r5 hl (fun w hw e => absurd e (h0 w hw)) (fun _ => ⟨rfl, hI⟩)
theorem i_vc_versionAt {k : Nat} {u : SX} {v : SY} (I : i_Rel k u v) (hk : k + 4 ≤ 2048) (v1 : Int32) : wpX_versionAt (fun r => wpY_versionAt (fun r' => r' = r ∧ i_Rel (k + 4) u v) v v1) u v1 := by
  refine bv_el (P := fun u v => wpX_versionAt (fun r => wpY_versionAt (fun r' => r' = r ∧ i_Rel (k + 4) u v) v v1) u v1) ?_ I
  intro t B M m ks kf U ak an au am ac ar ao ap aq av bn bk bo bc bu bh hR
  have hI := bv_mk (av := av) (bv_R_up hR)
  obtain ⟨r1, r2, r3, r4, r5, r6⟩ := hR
  have hl := bv_len24 r4.1 r4.2.1
  have hB := bv_B_lt r2
  have hk' : ∀ v, v ∈ m → kf v < 2401 := fun v hv => (r3.1 v hv).1.2
  refine bx_versionAt (bv_dk_of r3 r4) r4 (by omega) (fun h0 => ?_) (fun i hi e => ?_)
  · exact by_versionAt r5 r4.1 hl hk' hB (fun _ => ⟨rfl, hI⟩) (fun i hi e => absurd (e ▸ h0) (nI_pos hi))
  · refine by_versionAt r5 r4.1 hl hk' hB (fun h0 => absurd (e ▸ h0) (nI_pos hi)) (fun i' hi' e' => ?_)
    have : i' = i := by
      rw [e, nI_eq hi hi'] at e'
      exact e'.symm
    subst this
    exact ⟨rfl, hI⟩
theorem i_vc_list {k : Nat} {u : SX} {v : SY} (I : i_Rel k u v) (hk : k + 4 ≤ 2048) (v1 : Int32) : wpX_list (fun r => wpY_list (fun r' => r' = r ∧ i_Rel (k + 4) u v) v (lw_bz v1)) u (lw_bz v1) := by
  refine bv_el (P := fun u v => wpX_list (fun r => wpY_list (fun r' => r' = r ∧ i_Rel (k + 4) u v) v (lw_bz v1)) u (lw_bz v1)) ?_ I
  intro t B M m ks kf U ak an au am ac ar ao ap aq av bn bk bo bc bu bh hR
  have hI := bv_mk (av := av) (bv_R_up hR)
  obtain ⟨r1, r2, r3, r4, r5, r6⟩ := hR
  obtain ⟨r, hX, hY⟩ := bz_list_top (fo := lw_bz v1) (xm := nI M) (xh := nI m.length) (ap := ap) (aq := aq) (av := av) (yn := nI M) (bu := bu) (bh := bh) (bv := av) r3 r4 r5 r2
  exact hX _ (hY _ ⟨rfl, hI⟩)
theorem i_vc_entry {k : Nat} {u : SX} {v : SY} (I : i_Rel k u v) (hk : k + 4 ≤ 2048) (v1 : Int32) (v2 : Int32) : wpX_entry (fun r => wpY_entry (fun r' => r' = r ∧ i_Rel (k + 4) u v) v v1 (lw_bz v2)) u v1 (lw_bz v2) := by
  refine bv_el (P := fun u v => wpX_entry (fun r => wpY_entry (fun r' => r' = r ∧ i_Rel (k + 4) u v) v v1 (lw_bz v2)) u v1 (lw_bz v2)) ?_ I
  intro t B M m ks kf U ak an au am ac ar ao ap aq av bn bk bo bc bu bh hR
  have hI := bv_mk (av := av) (bv_R_up hR)
  obtain ⟨r1, r2, r3, r4, r5, r6⟩ := hR
  obtain ⟨r, hX, hY⟩ := bz_entry_top (fo := lw_bz v2) (xm := nI M) (xh := nI m.length) (ap := ap) (aq := aq) (av := av) (yn := nI M) (bu := bu) (bh := bh) (bv := av) r3 r4 r5 r2 v1
  exact hX _ (hY _ ⟨rfl, hI⟩)
end
