section
/-! rows of kit/rows (starting text) -/
theorem pk_us {f : Nat → Int32} {k : Nat} {x : Int32} : upd f k x k = x := if_pos rfl
theorem pk_un {f : Nat → Int32} {k j : Nat} {x : Int32} (h : j ≠ k) : upd f k x j = f j := if_neg h
theorem pk_sub {a b : Nat} (h : b ≤ a) : nI a - nI b = nI (a - b) := by
  obtain ⟨c, rfl⟩ : ∃ c, a = c + b := ⟨a - b, by omega⟩
  rw [← nI_add, Int32.add_sub_cancel, Nat.add_sub_cancel]
theorem pk_m1 (n : Nat) : nI (n + 1) + (-1) = nI n := by
  rw [← nI_1, Int32.add_assoc, show (1 : Int32) + (-1) = 0 from rfl, Int32.add_zero]
theorem pk_mul (a b : Nat) : nI a * nI b = nI (a * b) := (Int32.ofNat_mul a b).symm
theorem pk_div {a d : Nat} (ha : a < 2 ^ 31) (h0 : 0 < d) (hd : d < 2 ^ 31) : nI a / nI d = nI (a / d) := by
  apply Int32.toInt_inj.mp
  rw [lg_idiv_nonneg (by rw [nI_toInt ha]; omega) (by rw [nI_toInt hd]; omega), nI_toInt ha, nI_toInt hd, nI_toInt (Nat.lt_of_le_of_lt (Nat.div_le_self a d) ha)]
  first | rfl | exact (Int.natCast_ediv _ _).symm
theorem pk_rem {a d : Nat} (ha : a < 2 ^ 31) (h0 : 0 < d) (hd : d < 2 ^ 31) : nI a - nI a / nI d * nI d = nI (a % d) := by
  rw [pk_div ha h0 hd, pk_mul, pk_sub (Nat.div_mul_le_self a d)]
  exact congrArg nI (by have := Nat.div_add_mod' a d; omega)
theorem pk_ix (x : Int32) {n : Nat} (hn : n < 2 ^ 31) : x < 0 ∨ nI n ≤ x ∨ ∃ j : Nat, j < n ∧ x = nI j := by
  by_cases h : x < 0
  · exact Or.inl h
  · obtain ⟨j, hj, rfl⟩ := nI_of h
    by_cases h2 : j < n
    · exact Or.inr (Or.inr ⟨j, h2, rfl⟩)
    · exact Or.inr (Or.inl (nI_le (by omega) hj))
theorem pk_le {x y : Int32} {A B : Prop} (a b : Nat) (f : a ≤ b → A) (g : b < a → B) (hx : x = nI a := by rfl) (hy : y = nI b := by rfl) (ha : a < 2 ^ 31 := by omega) (hb : b < 2 ^ 31 := by omega) : (x ≤ y → A) ∧ (¬ x ≤ y → B) := by
  subst hx hy
  rw [nI_leI ha hb]
  exact ⟨f, fun z => g (by omega)⟩
theorem pk_lt {x y : Int32} {A B : Prop} (a b : Nat) (f : a < b → A) (g : b ≤ a → B) (hx : x = nI a := by rfl) (hy : y = nI b := by rfl) (ha : a < 2 ^ 31 := by omega) (hb : b < 2 ^ 31 := by omega) : (x < y → A) ∧ (¬ x < y → B) := by
  subst hx hy
  rw [nI_ltI ha hb]
  exact ⟨f, fun z => g (by omega)⟩
theorem pk_eq {x y : Int32} {A B : Prop} (a b : Nat) (f : a = b → A) (g : a ≠ b → B) (hx : x = nI a := by rfl) (hy : y = nI b := by rfl) (ha : a < 2 ^ 31 := by omega) (hb : b < 2 ^ 31 := by omega) : (x = y → A) ∧ (¬ x = y → B) := by
  subst hx hy
  rw [nI_eq ha hb]
  exact ⟨f, g⟩
theorem pk_in {x : Int32} (n N : Nat) (h : n < N) (hx : x = nI n := by rfl) (hN : N < 2 ^ 31 := by omega) : vp_in x N := by
  subst hx
  exact vp_in_nI h hN
theorem pk_cl {x : Int32} (n : Nat) (hx : x = nI n := by rfl) (h : n < 2 ^ 31 := by omega) : x.toNatClampNeg = n := by
  subst hx
  exact nI_clamp h
theorem pk_tn {n : Nat} (h : n < 2 ^ 32) : (nI n).toBitVec.toNat = n := Nat.mod_eq_of_lt h
theorem pk_and (x : Int32) {m : Int32} (k : Nat) (hm : m.toBitVec.toNat = 2 ^ k - 1) : x &&& m = nI (x.toBitVec.toNat % 2 ^ k) := by
  apply Int32.toBitVec_inj.mp
  apply BitVec.eq_of_toNat_eq
  rw [Int32.toBitVec_and, BitVec.toNat_and, hm, Nat.and_two_pow_sub_one_eq_mod]
  show _ = (BitVec.ofNat 32 _).toNat
  rw [BitVec.toNat_ofNat]
  exact (Nat.mod_eq_of_lt (Nat.lt_of_le_of_lt (Nat.mod_le _ _) x.toBitVec.isLt)).symm
theorem pk_andN {n : Nat} (h : n < 2 ^ 32) {m : Int32} (k : Nat) (hm : m.toBitVec.toNat = 2 ^ k - 1) : nI n &&& m = nI (n % 2 ^ k) := by
  rw [pk_and _ k hm, pk_tn h]
theorem pk_shl (a s : Int32) (k : Nat) (hs : (s.toBitVec.smod 32).toNat = k) : (a <<< s).toBitVec.toNat = a.toBitVec.toNat * 2 ^ k % 2 ^ 32 := by
  show (a.toBitVec <<< (s.toBitVec.smod 32).toNat).toNat = _
  rw [hs, BitVec.toNat_shiftLeft, Nat.shiftLeft_eq]
theorem pk_shlN {n : Nat} (s : Int32) (k : Nat) (hs : (s.toBitVec.smod 32).toNat = k) (h : n * 2 ^ k < 2 ^ 32) : nI n <<< s = nI (n * 2 ^ k) := by
  apply Int32.toBitVec_inj.mp
  apply BitVec.eq_of_toNat_eq
  have hn : n < 2 ^ 32 := Nat.lt_of_le_of_lt (Nat.le_mul_of_pos_right n (Nat.two_pow_pos k)) h
  rw [pk_shl _ _ k hs, pk_tn hn, pk_tn h, Nat.mod_eq_of_lt h]
theorem pk_shr (a s : Int32) (k : Nat) (hs : (s.toBitVec.smod 32).toNat = k) : (a >>> s).toInt = a.toInt >>> k := by
  show (a.toBitVec.sshiftRight (s.toBitVec.smod 32).toNat).toInt = _
  rw [hs, BitVec.toInt_sshiftRight]
  rfl
theorem pk_shrN {n : Nat} (h : n < 2 ^ 31) (s : Int32) (k : Nat) (hs : (s.toBitVec.smod 32).toNat = k) : nI n >>> s = nI (n / 2 ^ k) := by
  apply Int32.toInt_inj.mp
  have h2 : n / 2 ^ k ≤ n := Nat.div_le_self _ _
  rw [pk_shr _ _ k hs, nI_toInt h, nI_toInt (by omega), Int.shiftRight_eq_div_pow]
  rfl
theorem pk_least (P : Nat → Prop) (h : ∃ k, P k) : ∃ k, P k ∧ ∀ j, j < k → ¬ P j := by
  obtain ⟨k, hk⟩ := h
  induction k using Nat.strongRecOn with
  | ind k ih =>
    by_cases e : ∃ j, j < k ∧ P j
    · obtain ⟨j, hj, pj⟩ := e
      exact ih j hj pj
    · exact ⟨k, hk, fun j hj pj => e ⟨j, hj, pj⟩⟩
theorem s_l : ∀ n, n < 32 → ((nI n &&& 31).toBitVec.smod 32).toNat = n := by decide +kernel
theorem nx_and (a b : Nat) : nI a &&& nI b = nI (a &&& b) := by
  apply Int32.toBitVec_inj.1
  show BitVec.ofNat 32 a &&& BitVec.ofNat 32 b = BitVec.ofNat 32 (a &&& b)
  apply BitVec.eq_of_getLsbD_eq
  intro i hi
  simp [hi]
theorem nx_xor (a b : Nat) : nI a ^^^ nI b = nI (a ^^^ b) := by
  apply Int32.toBitVec_inj.1
  show BitVec.ofNat 32 a ^^^ BitVec.ofNat 32 b = BitVec.ofNat 32 (a ^^^ b)
  apply BitVec.eq_of_getLsbD_eq
  intro i hi
  simp [hi]
end
section
/-! basics: bits of naturals under nI, booleans as ints, folds -/
theorem zb_or (a b : Nat) : nI a ||| nI b = nI (a ||| b) := by
  apply Int32.toBitVec_inj.1
  show BitVec.ofNat 32 a ||| BitVec.ofNat 32 b = BitVec.ofNat 32 (a ||| b)
  apply BitVec.eq_of_getLsbD_eq
  intro i hi
  simp [hi]
theorem zb_bit {a i : Nat} (ha : a < 2 ^ 31) (hi : i < 32) : ((nI a >>> (nI i &&& 31)) &&& 1 = 1) ↔ a.testBit i = true := by
  rw [pk_shrN ha _ i (s_l i hi)]
  show nI (a / 2 ^ i) &&& nI 1 = nI 1 ↔ _
  have h : a / 2 ^ i ≤ a := Nat.div_le_self _ _
  rw [nx_and, Nat.and_one_is_mod, nI_eq (by omega) (by omega), Nat.testBit_eq_decide_div_mod_eq, decide_eq_true_iff]
theorem zb_bitv {a i : Nat} (ha : a < 2 ^ 31) (hi : i < 32) : ((nI a >>> (nI i &&& 31)) &&& 1) = nI (if a.testBit i then 1 else 0) := by
  rw [pk_shrN ha _ i (s_l i hi)]
  show nI (a / 2 ^ i) &&& nI 1 = _
  rw [nx_and, Nat.and_one_is_mod, Nat.testBit_eq_decide_div_mod_eq]
  apply congrArg nI
  by_cases h : a / 2 ^ i % 2 = 1
  · rw [h]; rfl
  · rw [if_neg (by simpa using h)]; omega
theorem zb_shl {a k : Nat} (hk : k < 32) (h : a * 2 ^ k < 2 ^ 32) : nI a <<< (nI k &&& 31) = nI (a * 2 ^ k) := pk_shlN _ k (s_l k hk) h
theorem zb_shr1 {a : Nat} (ha : a < 2 ^ 31) : nI a >>> ((1 : Int32) &&& 31) = nI (a / 2) := pk_shrN ha _ 1 (by decide)
theorem zb_and1 (a : Nat) : nI a &&& 1 = nI (a % 2) := by
  show nI a &&& nI 1 = _
  rw [nx_and, Nat.and_one_is_mod]
theorem zb_6 (s p : Nat) : 6 * nI s + nI p = nI (6 * s + p) := by
  show nI 6 * nI s + nI p = _
  rw [pk_mul, nI_add]
theorem zb_mk (k s : Nat) : nI k * nI s = nI (k * s) := pk_mul k s
theorem zb_le {a : Nat} (k : Nat) (ha : a < 2 ^ 31) (hk : k < 2 ^ 31) : nI k ≤ nI a ↔ k ≤ a := nI_leI hk ha

def zb_i (b : Bool) : Int32 := if b then 1 else 0
theorem zb_i0 {b : Bool} : zb_i b = 0 ↔ b = false := by cases b <;> decide
theorem zb_i1 {b : Bool} : zb_i b = 1 ↔ b = true := by cases b <;> decide
theorem zb_ij {b c : Bool} : zb_i b = zb_i c ↔ b = c := by cases b <;> cases c <;> decide
theorem zb_in (b : Bool) : narrow .boolean (.int (zb_i b)) = .int (zb_i b) := by cases b <;> rfl
theorem zb_iv (b : Bool) : vp_nar .boolean (zb_i b) = zb_i b := by cases b <;> rfl
theorem zb_v0 : vp_nar .boolean 0 = 0 := rfl
theorem zb_v1 : vp_nar .boolean 1 = 1 := rfl
theorem zb_10 : ¬ (1 : Int32) = 0 := by decide

/-! or over an initial segment -/
def zo (f : Nat → Nat) : Nat → Nat
  | 0 => 0
  | n + 1 => zo f n ||| f n
theorem zo_bit (f : Nat → Nat) (j n : Nat) : (zo f n).testBit j = true ↔ ∃ i, i < n ∧ (f i).testBit j = true := by
  induction n with
  | zero => exact ⟨fun h => by simp [zo] at h, fun ⟨i, h, _⟩ => absurd h (Nat.not_lt_zero i)⟩
  | succ n ih =>
    show (zo f n ||| f n).testBit j = true ↔ _
    rw [Nat.testBit_or, Bool.or_eq_true, ih]
    constructor
    · rintro (⟨i, h, e⟩ | e)
      · exact ⟨i, by omega, e⟩
      · exact ⟨n, by omega, e⟩
    · rintro ⟨i, h, e⟩
      rcases Nat.lt_or_ge i n with h2 | h2
      · exact Or.inl ⟨i, h2, e⟩
      · have : i = n := by omega
        subst this; exact Or.inr e
theorem zo_lt {f : Nat → Nat} {n b : Nat} (h : ∀ i, i < n → f i < 2 ^ b) : zo f n < 2 ^ b := by
  apply Nat.lt_pow_two_of_testBit
  intro j hj
  cases e : (zo f n).testBit j with
  | false => rfl
  | true =>
    obtain ⟨i, hi, h2⟩ := (zo_bit f j n).mp e
    rw [Nat.testBit_lt_two_pow (Nat.lt_of_lt_of_le (h i hi) (Nat.pow_le_pow_right (by decide) hj))] at h2
    exact absurd h2 (by decide)
theorem zo_congr {f g : Nat → Nat} {n : Nat} (h : ∀ i, i < n → f i = g i) : zo f n = zo g n := by
  induction n with
  | zero => rfl
  | succ n ih =>
    show zo f n ||| f n = zo g n ||| g n
    rw [ih (fun i hi => h i (by omega)), h n (by omega)]
theorem zb_bext {a b : Nat} (h : ∀ j, a.testBit j = true ↔ b.testBit j = true) : a = b := by
  apply Nat.eq_of_testBit_eq
  intro j
  have := h j
  cases ha : a.testBit j <;> cases hb : b.testBit j <;> simp_all
theorem zb_bge {a n j : Nat} (h : a < 2 ^ n) (hj : n ≤ j) : a.testBit j = false :=
  Nat.testBit_lt_two_pow (Nat.lt_of_lt_of_le h (Nat.pow_le_pow_right (by decide) hj))
theorem zb_blt {a n j : Nat} (h : a < 2 ^ n) (hj : a.testBit j = true) : j < n := by
  rcases Nat.lt_or_ge j n with h2 | h2
  · exact h2
  · rw [zb_bge h h2] at hj; exact absurd hj (by decide)
theorem zb_0bit {a : Nat} (h : ∀ j, a.testBit j = false) : a = 0 := Nat.eq_of_testBit_eq (fun j => by rw [h j, Nat.zero_testBit])
theorem zb_nz {a : Nat} : ¬ a = 0 ↔ ∃ j, a.testBit j = true := by
  constructor
  · intro h
    apply Classical.byContradiction
    intro h2
    exact h (zb_0bit fun j => by
      cases e : a.testBit j with
      | false => rfl
      | true => exact absurd ⟨j, e⟩ h2)
  · rintro ⟨j, h⟩ e
    rw [e, Nat.zero_testBit] at h
    exact absurd h (by decide)

/-! sums of ints -/
def zs (f : Nat → Int32) : Nat → Int32
  | 0 => 0
  | n + 1 => zs f n + f n
theorem zs_congr {f g : Nat → Int32} {n : Nat} (h : ∀ i, i < n → f i = g i) : zs f n = zs g n := by
  induction n with
  | zero => rfl
  | succ n ih =>
    show zs f n + f n = zs g n + g n
    rw [ih (fun i hi => h i (by omega)), h n (by omega)]
theorem zs_0 {f : Nat → Int32} {n : Nat} (h : ∀ i, i < n → f i = 0) : zs f n = 0 := by
  induction n with
  | zero => rfl
  | succ n ih =>
    show zs f n + f n = 0
    rw [ih (fun i hi => h i (by omega)), h n (by omega)]; rfl
theorem zs_add (f g : Nat → Int32) (n : Nat) : zs (fun i => f i + g i) n = zs f n + zs g n := by
  induction n with
  | zero => rfl
  | succ n ih =>
    show zs (fun i => f i + g i) n + (f n + g n) = (zs f n + f n) + (zs g n + g n)
    rw [ih]; grind
/-- one place changed by x -/
theorem zs_upd {f g : Nat → Int32} {n k : Nat} {x : Int32} (hk : k < n) (h : ∀ i, i < n → i ≠ k → g i = f i) (hx : g k = f k + x) : zs g n = zs f n + x := by
  induction n with
  | zero => omega
  | succ n ih =>
    show zs g n + g n = zs f n + f n + x
    rcases Nat.lt_or_ge k n with h2 | h2
    · rw [ih h2 (fun i hi => h i (by omega)), h n (by omega) (by omega)]; grind
    · have : k = n := by omega
      subst this
      rw [zs_congr (g := f) (fun i hi => h i (by omega) (by omega)), hx]; grind
/-- pairs 2 i, 2 i + 1 -/
theorem zs_two (f : Nat → Int32) (n : Nat) : zs f (2 * n) = zs (fun i => f (2 * i) + f (2 * i + 1)) n := by
  induction n with
  | zero => rfl
  | succ n ih =>
    show zs f (2 * n) + f (2 * n) + f (2 * n + 1) = zs (fun i => f (2 * i) + f (2 * i + 1)) n + (f (2 * n) + f (2 * n + 1))
    rw [ih]; grind
theorem zs_one {f : Nat → Int32} {n k : Nat} (hk : k < n) (h : ∀ i, i < n → i ≠ k → f i = 0) : zs f n = f k := by
  induction n with
  | zero => omega
  | succ n ih =>
    show zs f n + f n = f k
    rcases Nat.lt_or_ge k n with h2 | h2
    · rw [ih h2 (fun i hi => h i (by omega)), h n (by omega) (by omega)]; grind
    · have : k = n := by omega
      subst this
      rw [zs_0 (fun i hi => h i (by omega) (by omega))]; grind
theorem zb_m0 (x : Int32) : x * 0 = 0 := by grind
theorem zb_0m (x : Int32) : 0 * x = 0 := by grind

/-! rotation: Y's sets (64 the begin) in X's numbers (1 the begin) -/
def zu (t : Nat) : Nat := 2 * (t % 64) + t / 64
theorem zu_lt {t : Nat} (h : t < 128) : zu t < 128 := by unfold zu; omega
theorem zu_inj {s t : Nat} (hs : s < 128) (ht : t < 128) (h : zu s = zu t) : s = t := by unfold zu at h; omega
theorem zu_64 : zu 64 = 1 := rfl
theorem zu_lo {t : Nat} (h : t < 64) : zu t = 2 * t := by unfold zu; omega
theorem zu_half (t : Nat) (h : t < 128) : zu t / 2 = t % 64 := by unfold zu; omega
theorem zu_mod (t : Nat) (h : t < 128) : zu t % 2 = t / 64 := by unfold zu; omega
theorem zb_t6 : ∀ t, t < 128 → (t.testBit 6 = true ↔ t / 64 = 1) := by decide +kernel
theorem zb_a64 : ∀ t, t < 128 → (t &&& 64 = 0 ↔ t.testBit 6 = false) := by decide +kernel
theorem zu_b0 {t : Nat} (h : t < 128) : (zu t).testBit 0 = t.testBit 6 := by
  have h1 := zb_t6 t h
  have h2 := zu_mod t h
  rw [Nat.testBit_zero, h2]
  cases e : t.testBit 6
  · have : ¬ t / 64 = 1 := fun z => by rw [h1.mpr z] at e; exact absurd e (by decide)
    simp [this]
  · simp [h1.mp e]
theorem zu_bs {t : Nat} (h : t < 128) (p : Nat) : (zu t).testBit (p + 1) = (decide (p < 6) && t.testBit p) := by
  rw [Nat.testBit_succ, zu_half t h, show (64 : Nat) = 2 ^ 6 from rfl, Nat.testBit_mod_two_pow]
/-- every X set is a turned Y set -/
def zu' (s : Nat) : Nat := s / 2 + 64 * (s % 2)
theorem zu'_lt {s : Nat} (h : s < 128) : zu' s < 128 := by unfold zu'; omega
theorem zu_zu' {s : Nat} (h : s < 128) : zu (zu' s) = s := by unfold zu zu'; omega
theorem zu'_zu {s : Nat} (h : s < 128) : zu' (zu s) = s := by unfold zu zu'; omega
theorem zb_nn {a b : Prop} (h : ¬ a ↔ ¬ b) : a ↔ b := ⟨fun x => Classical.byContradiction fun y => h.mpr y x, fun x => Classical.byContradiction fun y => h.mp y x⟩
end
section
/-! patterns as plain data: size, empty, firsts, lasts, letters, behinds -/
abbrev PT : Type := Nat × Bool × Nat × Nat × (Nat → Nat) × (Nat → Nat)
def zp_n (P : PT) : Nat := P.1
def zp_e (P : PT) : Bool := P.2.1
def zp_F (P : PT) : Nat := P.2.2.1
def zp_L (P : PT) : Nat := P.2.2.2.1
def zp_l (P : PT) : Nat → Nat := P.2.2.2.2.1
def zp_B (P : PT) : Nat → Nat := P.2.2.2.2.2
def zp_W (P : PT) : Prop := zp_n P ≤ 6 ∧ zp_F P < 2 ^ zp_n P ∧ zp_L P < 2 ^ zp_n P ∧ ∀ p, p < zp_n P → zp_l P p < 3 ∧ zp_B P p < 2 ^ zp_n P
def zp_fit (P : PT) (p c : Nat) : Bool := zp_l P p == 2 || zp_l P p == c
/-- the places behind a set: from the begin, or from a place in it -/
def zp_to (P : PT) (t : Nat) : Nat := (if t.testBit 6 then zp_F P else 0) ||| zo (fun i => if t.testBit i then zp_B P i else 0) (zp_n P)
def zp_d (P : PT) (t c : Nat) : Nat := zo (fun p => if (zp_to P t).testBit p && zp_fit P p c then 2 ^ p else 0) (zp_n P)
def zp_a (P : PT) (t : Nat) : Bool := !(decide (t &&& zp_L P = 0)) || (t.testBit 6 && zp_e P)
theorem zp_p2 {n : Nat} (h : n ≤ 6) : 2 ^ n ≤ 64 := Nat.le_trans (Nat.pow_le_pow_right (by decide) h) (by decide)
theorem zp_d_bit (P : PT) (t c p : Nat) : (zp_d P t c).testBit p = true ↔ p < zp_n P ∧ (zp_to P t).testBit p = true ∧ zp_fit P p c = true := by
  unfold zp_d
  rw [zo_bit]
  constructor
  · rintro ⟨i, hi, h⟩
    by_cases c1 : (zp_to P t).testBit i && zp_fit P i c
    · rw [if_pos c1, Nat.testBit_two_pow] at h
      have : i = p := of_decide_eq_true h
      subst this
      exact ⟨hi, (Bool.and_eq_true _ _ ▸ c1)⟩
    · rw [if_neg c1, Nat.zero_testBit] at h
      exact absurd h (by decide)
  · rintro ⟨hp, h1, h2⟩
    refine ⟨p, hp, ?_⟩
    rw [h1, h2]
    simp
theorem zp_d_lt (P : PT) (t c : Nat) : zp_d P t c < 2 ^ zp_n P := by
  apply Nat.lt_pow_two_of_testBit
  intro j hj
  cases e : (zp_d P t c).testBit j with
  | false => rfl
  | true => exact absurd ((zp_d_bit P t c j).mp e).1 (by omega)
theorem zp_d64 {P : PT} (W : zp_W P) (t c : Nat) : zp_d P t c < 64 := Nat.lt_of_lt_of_le (zp_d_lt P t c) (zp_p2 W.1)
theorem zp_d128 {P : PT} (W : zp_W P) (t c : Nat) : zp_d P t c < 128 := Nat.lt_trans (zp_d64 W t c) (by decide)
theorem zp_to_bit (P : PT) (t p : Nat) : (zp_to P t).testBit p = true ↔ (t.testBit 6 = true ∧ (zp_F P).testBit p = true) ∨ ∃ i, i < zp_n P ∧ t.testBit i = true ∧ (zp_B P i).testBit p = true := by
  unfold zp_to
  rw [Nat.testBit_or, Bool.or_eq_true, zo_bit]
  constructor
  · rintro (h | ⟨i, hi, h⟩)
    · by_cases c : t.testBit 6 = true
      · rw [if_pos c] at h; exact Or.inl ⟨c, h⟩
      · rw [if_neg c, Nat.zero_testBit] at h; exact absurd h (by decide)
    · by_cases c : t.testBit i = true
      · simp only [c, if_true] at h; exact Or.inr ⟨i, hi, c, h⟩
      · simp only [c, Nat.zero_testBit] at h; exact absurd h (by simp)
  · rintro (⟨c, h⟩ | ⟨i, hi, c, h⟩)
    · left; rw [if_pos c]; exact h
    · right; refine ⟨i, hi, ?_⟩; simp only [c, if_true]; exact h
theorem zp_to_lt {P : PT} (W : zp_W P) (t : Nat) : zp_to P t < 2 ^ zp_n P := by
  apply Nat.lt_pow_two_of_testBit
  intro j hj
  cases e : (zp_to P t).testBit j with
  | false => rfl
  | true =>
    rcases (zp_to_bit P t j).mp e with ⟨_, h⟩ | ⟨i, hi, _, h⟩
    · exact absurd (zb_blt W.2.1 h) (by omega)
    · exact absurd (zb_blt (W.2.2.2 i hi).2 h) (by omega)

/-! X's step: by states 0 (begin), p + 1 (place p); what can come behind a state is any int -/
def zx_cb (can : Int32) (p : Nat) : Bool := decide ((can >>> (nI p &&& 31)) &&& 1 = 1)
theorem zx_cb_n {a p : Nat} (ha : a < 2 ^ 31) (hp : p < 32) : zx_cb (nI a) p = a.testBit p := by
  unfold zx_cb
  have h := zb_bit ha hp
  cases e : a.testBit p
  · apply decide_eq_false; rw [h, e]; decide
  · apply decide_eq_true; rw [h, e]
def zx_st (P : PT) (can : Int32) (c : Nat) : Nat := zo (fun p => if zx_cb can p && zp_fit P p c then 2 * 2 ^ p else 0) (zp_n P)
def zx_ss (P : PT) (can : Nat → Int32) (set c : Nat) : Nat := zo (fun s => if set.testBit s then zx_st P (can s) c else 0) 7
theorem zx_st_bit (P : PT) (can : Int32) (c q : Nat) : (zx_st P can c).testBit q = true ↔ ∃ p, q = p + 1 ∧ p < zp_n P ∧ zx_cb can p = true ∧ zp_fit P p c = true := by
  unfold zx_st
  rw [zo_bit]
  constructor
  · rintro ⟨i, hi, h⟩
    by_cases c1 : zx_cb can i && zp_fit P i c
    · rw [if_pos c1, show 2 * 2 ^ i = 2 ^ (i + 1) from by rw [Nat.pow_succ, Nat.mul_comm], Nat.testBit_two_pow] at h
      have : i + 1 = q := of_decide_eq_true h
      exact ⟨i, this.symm, hi, (Bool.and_eq_true _ _ ▸ c1)⟩
    · rw [if_neg c1, Nat.zero_testBit] at h
      exact absurd h (by decide)
  · rintro ⟨p, rfl, hp, h1, h2⟩
    refine ⟨p, hp, ?_⟩
    rw [h1, h2, if_pos (by rfl), show 2 * 2 ^ p = 2 ^ (p + 1) from by rw [Nat.pow_succ, Nat.mul_comm], Nat.testBit_two_pow]
    simp
theorem zx_st_lt {P : PT} (W : zp_W P) (can : Int32) (c : Nat) : zx_st P can c < 128 := by
  show _ < 2 ^ 7
  apply Nat.lt_pow_two_of_testBit
  intro j hj
  cases e : (zx_st P can c).testBit j with
  | false => rfl
  | true =>
    obtain ⟨p, h1, h2, _⟩ := (zx_st_bit P can c j).mp e
    have := W.1
    omega
theorem zx_ss_lt {P : PT} (W : zp_W P) (can : Nat → Int32) (set c : Nat) : zx_ss P can set c < 128 := by
  show _ < 2 ^ 7
  apply zo_lt
  intro i _
  by_cases h : set.testBit i = true
  · rw [if_pos h]; exact zx_st_lt W _ _
  · rw [if_neg h]; decide
/-- a set within the pattern's places and the begin -/
def zg (P : PT) (t : Nat) : Prop := t < 128 ∧ ∀ p, p < 6 → t.testBit p = true → p < zp_n P
theorem zg_64 (P : PT) : zg P 64 := ⟨by decide, fun p hp h => absurd h ((by decide : ∀ p, p < 6 → ¬ Nat.testBit 64 p = true) p hp)⟩
theorem zg_d {P : PT} (W : zp_W P) (t c : Nat) : zg P (zp_d P t c) := ⟨zp_d128 W t c, fun _ _ h => ((zp_d_bit P t c _).mp h).1⟩
theorem zx_ss_eq {P : PT} (W : zp_W P) {can : Nat → Int32} (h0 : can 0 = nI (zp_F P)) (hB : ∀ p, p < zp_n P → can (p + 1) = nI (zp_B P p)) {t : Nat} (G : zg P t) (c : Nat) : zx_ss P can (zu t) c = zu (zp_d P t c) := by
  have ht := G.1
  have hd := zp_d64 W t c
  have hn := W.1
  have hp2 := zp_p2 W.1
  have hF : ∀ p, p < zp_n P → zx_cb (can 0) p = (zp_F P).testBit p := fun p hp => by
    rw [h0]; exact zx_cb_n (Nat.lt_of_lt_of_le W.2.1 (by omega)) (by omega)
  have hBB : ∀ i, i < zp_n P → ∀ p, p < zp_n P → zx_cb (can (i + 1)) p = (zp_B P i).testBit p := fun i hi p hp => by
    rw [hB i hi]; exact zx_cb_n (Nat.lt_of_lt_of_le (W.2.2.2 i hi).2 (by omega)) (by omega)
  apply zb_bext
  intro q
  unfold zx_ss
  rw [zo_bit]
  constructor
  · rintro ⟨s, hs, h⟩
    by_cases c1 : (zu t).testBit s = true
    · rw [if_pos c1] at h
      obtain ⟨p, rfl, hp, h1, h2⟩ := (zx_st_bit P _ c q).mp h
      rw [zu_bs (by omega), Bool.and_eq_true]
      refine ⟨decide_eq_true (by omega), (zp_d_bit P t c p).mpr ⟨hp, (zp_to_bit P t p).mpr ?_, h2⟩⟩
      cases s with
      | zero => rw [zu_b0 ht] at c1; rw [hF p hp] at h1; exact Or.inl ⟨c1, h1⟩
      | succ s =>
        rw [zu_bs ht, Bool.and_eq_true] at c1
        have hsn := G.2 s (of_decide_eq_true c1.1) c1.2
        rw [hBB s hsn p hp] at h1
        exact Or.inr ⟨s, hsn, c1.2, h1⟩
    · rw [if_neg c1, Nat.zero_testBit] at h; exact absurd h (by decide)
  · intro h
    cases q with
    | zero =>
      rw [zu_b0 (by omega), zb_bge (n := 6) (by exact hd) (by omega)] at h
      exact absurd h (by decide)
    | succ p =>
      rw [zu_bs (by omega), Bool.and_eq_true] at h
      obtain ⟨hp, h1, h2⟩ := (zp_d_bit P t c p).mp h.2
      rcases (zp_to_bit P t p).mp h1 with ⟨h3, h4⟩ | ⟨i, hi, h3, h4⟩
      · refine ⟨0, by omega, ?_⟩
        rw [if_pos (by rw [zu_b0 ht]; exact h3)]
        exact (zx_st_bit P _ c (p + 1)).mpr ⟨p, rfl, hp, by rw [hF p hp]; exact h4, h2⟩
      · refine ⟨i + 1, by omega, ?_⟩
        rw [if_pos (by rw [zu_bs ht, h3, decide_eq_true (show i < 6 by omega)]; rfl)]
        exact (zx_st_bit P _ c (p + 1)).mpr ⟨p, rfl, hp, by rw [hBB i hi p hp]; exact h4, h2⟩

/-! a step is linear -/
theorem zp_to_or (P : PT) (s t p : Nat) : (zp_to P (s ||| t)).testBit p = true ↔ (zp_to P s).testBit p = true ∨ (zp_to P t).testBit p = true := by
  simp only [zp_to_bit, Nat.testBit_or, Bool.or_eq_true]
  constructor
  · rintro (⟨h | h, h2⟩ | ⟨i, hi, h | h, h2⟩)
    · exact Or.inl (Or.inl ⟨h, h2⟩)
    · exact Or.inr (Or.inl ⟨h, h2⟩)
    · exact Or.inl (Or.inr ⟨i, hi, h, h2⟩)
    · exact Or.inr (Or.inr ⟨i, hi, h, h2⟩)
  · rintro ((⟨h, h2⟩ | ⟨i, hi, h, h2⟩) | (⟨h, h2⟩ | ⟨i, hi, h, h2⟩))
    · exact Or.inl ⟨Or.inl h, h2⟩
    · exact Or.inr ⟨i, hi, Or.inl h, h2⟩
    · exact Or.inl ⟨Or.inr h, h2⟩
    · exact Or.inr ⟨i, hi, Or.inr h, h2⟩
theorem zp_d_or (P : PT) (s t c : Nat) : zp_d P (s ||| t) c = zp_d P s c ||| zp_d P t c := by
  apply zb_bext
  intro j
  rw [Nat.testBit_or, Bool.or_eq_true, zp_d_bit, zp_d_bit, zp_d_bit, zp_to_or]
  constructor
  · rintro ⟨a, b | b, d⟩
    · exact Or.inl ⟨a, b, d⟩
    · exact Or.inr ⟨a, b, d⟩
  · rintro (⟨a, b, d⟩ | ⟨a, b, d⟩)
    · exact ⟨a, Or.inl b, d⟩
    · exact ⟨a, Or.inr b, d⟩
theorem zp_d_0 (P : PT) (c : Nat) : zp_d P 0 c = 0 := by
  apply zb_0bit
  intro j
  cases e : (zp_d P 0 c).testBit j with
  | false => rfl
  | true =>
    obtain ⟨_, h, _⟩ := (zp_d_bit P 0 c j).mp e
    rcases (zp_to_bit P 0 j).mp h with ⟨h, _⟩ | ⟨i, _, h, _⟩
    · rw [Nat.zero_testBit] at h; exact h.symm
    · rw [Nat.zero_testBit] at h; exact h.symm
/-! what is read of a set, by bits -/
theorem zp_land {P : PT} (W : zp_W P) (t : Nat) : (t % 64) &&& zp_L P = t &&& zp_L P := by
  apply Nat.eq_of_testBit_eq
  intro j
  rw [Nat.testBit_and, Nat.testBit_and, show (64 : Nat) = 2 ^ 6 from rfl, Nat.testBit_mod_two_pow]
  by_cases h : j < 6
  · rw [decide_eq_true h, Bool.true_and]
  · rw [zb_bge (n := 6) (Nat.lt_of_lt_of_le W.2.2.1 (zp_p2 W.1)) (by omega), Bool.and_false, Bool.and_false]
end
section
/-! paths over places; the pigeonhole; trim patterns; when words are endless -/
theorem zb_php : ∀ (n : Nat) (r : Nat → Nat), (∀ i, i ≤ n → r i < n) → ∃ i j, i < j ∧ j ≤ n ∧ r i = r j := by
  intro n
  induction n with
  | zero => intro r h; exact absurd (h 0 (Nat.le_refl 0)) (Nat.not_lt_zero _)
  | succ n ih =>
    intro r h
    by_cases c : ∃ i, i ≤ n ∧ r i = r (n + 1)
    · obtain ⟨i, hi, e⟩ := c
      exact ⟨i, n + 1, by omega, by omega, e⟩
    · have hv := h (n + 1) (by omega)
      have hne : ∀ i, i ≤ n → r i ≠ r (n + 1) := fun i hi e => c ⟨i, hi, e⟩
      obtain ⟨i, j, h1, h2, h3⟩ := ih (fun i => if r (n + 1) < r i then r i - 1 else r i) (fun i hi => by
        have a := h i (by omega)
        have b := hne i hi
        show (if r (n + 1) < r i then r i - 1 else r i) < n
        by_cases d : r (n + 1) < r i
        · rw [if_pos d]; omega
        · rw [if_neg d]; omega)
      refine ⟨i, j, h1, by omega, ?_⟩
      have b1 := hne i (by omega)
      have b2 := hne j (by omega)
      by_cases d1 : r (n + 1) < r i
      · by_cases d2 : r (n + 1) < r j
        · rw [if_pos d1, if_pos d2] at h3; omega
        · rw [if_pos d1, if_neg d2] at h3; omega
      · by_cases d2 : r (n + 1) < r j
        · rw [if_neg d1, if_pos d2] at h3; omega
        · rw [if_neg d1, if_neg d2] at h3; omega
def zh (P : PT) (k p q : Nat) : Prop := ∃ r : Nat → Nat, r 0 = p ∧ r k = q ∧ (∀ i, i ≤ k → r i < zp_n P) ∧ ∀ i, i < k → (zp_B P (r i)).testBit (r (i + 1)) = true
theorem zh_lt1 {P : PT} {k p q : Nat} (h : zh P k p q) : p < zp_n P := by
  obtain ⟨r, a, _, b, _⟩ := h
  rw [← a]; exact b 0 (by omega)
theorem zh_lt2 {P : PT} {k p q : Nat} (h : zh P k p q) : q < zp_n P := by
  obtain ⟨r, _, a, b, _⟩ := h
  rw [← a]; exact b k (by omega)
theorem zh_0 {P : PT} {p : Nat} (h : p < zp_n P) : zh P 0 p p := ⟨fun _ => p, rfl, rfl, fun _ _ => h, fun i hi => absurd hi (Nat.not_lt_zero i)⟩
theorem zh_0e {P : PT} {p q : Nat} (h : zh P 0 p q) : p = q := by
  obtain ⟨r, a, b, _⟩ := h
  rw [← a, b]
theorem zh_cons {P : PT} {k p x q : Nat} (hp : p < zp_n P) (e : (zp_B P p).testBit x = true) (h : zh P k x q) : zh P (k + 1) p q := by
  obtain ⟨r, a, b, c, d⟩ := h
  refine ⟨fun i => if i = 0 then p else r (i - 1), if_pos rfl, ?_, ?_, ?_⟩
  · show (if k + 1 = 0 then p else r (k + 1 - 1)) = q
    rw [if_neg (by omega)]; exact b
  · intro i hi
    show (if i = 0 then p else r (i - 1)) < _
    by_cases z : i = 0
    · rw [if_pos z]; exact hp
    · rw [if_neg z]; exact c _ (by omega)
  · intro i hi
    show (zp_B P (if i = 0 then p else r (i - 1))).testBit (if i + 1 = 0 then p else r (i + 1 - 1)) = true
    rw [if_neg (show ¬ i + 1 = 0 by omega)]
    by_cases z : i = 0
    · rw [if_pos z, z]
      show (zp_B P p).testBit (r 0) = true
      rw [a]; exact e
    · rw [if_neg z]
      have := d (i - 1) (by omega)
      rw [show i - 1 + 1 = i + 1 - 1 by omega] at this
      exact this
theorem zh_unc {P : PT} {k p q : Nat} (h : zh P (k + 1) p q) : ∃ x, (zp_B P p).testBit x = true ∧ zh P k x q := by
  obtain ⟨r, a, b, c, d⟩ := h
  refine ⟨r 1, ?_, fun i => r (i + 1), rfl, b, fun i hi => c _ (by omega), fun i hi => d _ (by omega)⟩
  rw [← a]; exact d 0 (by omega)
theorem zh_uns {P : PT} {k p q : Nat} (h : zh P (k + 1) p q) : ∃ x, zh P k p x ∧ (zp_B P x).testBit q = true := by
  obtain ⟨r, a, b, c, d⟩ := h
  refine ⟨r k, ⟨r, a, rfl, fun i hi => c _ (by omega), fun i hi => d _ (by omega)⟩, ?_⟩
  rw [← b]; exact d k (by omega)
theorem zh_app {P : PT} {a b p q s : Nat} (h : zh P a p q) (g : zh P b q s) : zh P (a + b) p s := by
  induction a generalizing p with
  | zero => rw [zh_0e h, Nat.zero_add]; exact g
  | succ a ih =>
    obtain ⟨x, e, h2⟩ := zh_unc h
    rw [show a + 1 + b = a + b + 1 by omega]
    exact zh_cons (zh_lt1 h) e (ih h2)
theorem zh_snoc {P : PT} {k p x q : Nat} (h : zh P k p x) (e : (zp_B P x).testBit q = true) (hq : q < zp_n P) : zh P (k + 1) p q :=
  zh_app h (zh_cons (zh_lt2 h) e (zh_0 hq))
theorem zh_rep {P : PT} {d p : Nat} (h : zh P d p p) (N : Nat) : zh P (N * d) p p := by
  induction N with
  | zero => rw [Nat.zero_mul]; exact zh_0 (zh_lt1 h)
  | succ N ih => rw [Nat.succ_mul]; exact zh_app ih h
theorem zh_map {P R : PT} (f : Nat → Nat) (h1 : ∀ x, x < zp_n P → f x < zp_n R) (h2 : ∀ x y, x < zp_n P → y < zp_n P → (zp_B P x).testBit y = true → (zp_B R (f x)).testBit (f y) = true) {k p q : Nat} (h : zh P k p q) : zh R k (f p) (f q) := by
  obtain ⟨r, a, b, c, d⟩ := h
  exact ⟨fun i => f (r i), congrArg f a, congrArg f b, fun i hi => h1 _ (c i hi), fun i hi => h2 _ _ (c i (by omega)) (c (i + 1) (by omega)) (d i hi)⟩
/-- a long path holds a cycle, and is one without it -/
theorem zh_cut {P : PT} {k p q : Nat} (h : zh P k p q) (hk : zp_n P ≤ k) : ∃ d x, 1 ≤ d ∧ d ≤ zp_n P ∧ zh P (k - d) p q ∧ zh P d x x := by
  obtain ⟨r, a, b, c, e⟩ := h
  obtain ⟨i, j, h1, h2, h3⟩ := zb_php (zp_n P) r (fun i hi => c i (by omega))
  refine ⟨j - i, r i, by omega, by omega, ⟨fun t => if t ≤ i then r t else r (t + (j - i)), ?_, ?_, ?_, ?_⟩, ⟨fun t => r (i + t), rfl, ?_, ?_, ?_⟩⟩
  · show (if 0 ≤ i then r 0 else r (0 + (j - i))) = p
    rw [if_pos (by omega)]; exact a
  · show (if k - (j - i) ≤ i then r (k - (j - i)) else r (k - (j - i) + (j - i))) = q
    by_cases z : k - (j - i) ≤ i
    · rw [if_pos z, show k - (j - i) = i by omega, h3, ← b]
      exact congrArg r (by omega)
    · rw [if_neg z, ← b]
      exact congrArg r (by omega)
  · intro t ht
    show (if t ≤ i then r t else r (t + (j - i))) < _
    by_cases z : t ≤ i
    · rw [if_pos z]; exact c _ (by omega)
    · rw [if_neg z]; exact c _ (by omega)
  · intro t ht
    show (zp_B P (if t ≤ i then r t else r (t + (j - i)))).testBit (if t + 1 ≤ i then r (t + 1) else r (t + 1 + (j - i))) = true
    by_cases z : t + 1 ≤ i
    · rw [if_pos z, if_pos (by omega)]; exact e t (by omega)
    · rw [if_neg z]
      by_cases z2 : t ≤ i
      · have et : t = i := by omega
        rw [if_pos z2, et, h3]
        have := e j (by omega)
        rw [show j + 1 = i + 1 + (j - i) by omega] at this
        exact this
      · rw [if_neg z2]
        have := e (t + (j - i)) (by omega)
        rw [show t + (j - i) + 1 = t + 1 + (j - i) by omega] at this
        exact this
  · show r (i + (j - i)) = r i
    rw [h3]; exact congrArg r (by omega)
  · intro t ht; exact c _ (by omega)
  · intro t ht; exact e (i + t) (by omega)
/-- every place lies on a way from a first one to a last one -/
def zp_T (P : PT) : Prop := (zp_n P = 0 → zp_e P = true) ∧ ∀ p, p < zp_n P → (∃ f k, (zp_F P).testBit f = true ∧ zh P k f p) ∧ (∃ q k, (zp_L P).testBit q = true ∧ zh P k p q)

/-! how many words of a length lead from a set to an end -/
def zp_c (P : PT) : Nat → Nat → Nat
  | 0 => fun t => if zp_a P t then 1 else 0
  | m + 1 => fun t => zp_c P m (zp_d P t 0) + zp_c P m (zp_d P t 1)
theorem zp_c_le (P : PT) : ∀ m t, zp_c P m t ≤ 2 ^ m := by
  intro m
  induction m with
  | zero =>
    intro t
    show (if zp_a P t then 1 else 0) ≤ 1
    by_cases h : zp_a P t = true
    · rw [if_pos h]; exact Nat.le_refl _
    · rw [if_neg h]; exact Nat.zero_le _
  | succ m ih =>
    intro t
    have a := ih (zp_d P t 0)
    have b := ih (zp_d P t 1)
    show zp_c P m _ + zp_c P m _ ≤ 2 ^ (m + 1)
    rw [Nat.pow_succ]; omega
def ze_p (P : PT) (m p : Nat) : Prop := ∃ q, (zp_L P).testBit q = true ∧ zh P m p q
theorem ze_fit {P : PT} (W : zp_W P) {p : Nat} (hp : p < zp_n P) : zp_fit P p 0 = true ∨ zp_fit P p 1 = true := by
  have h := (W.2.2.2 p hp).1
  unfold zp_fit
  rcases (show zp_l P p = 0 ∨ zp_l P p = 1 ∨ zp_l P p = 2 by omega) with h | h | h <;> rw [h] <;> decide
/-- one more letter, from any set -/
theorem ze_step {P : PT} (W : zp_W P) {m : Nat} (ih : ∀ t, (∀ p, t.testBit p = true → p < zp_n P) → (0 < zp_c P m t ↔ ∃ p, t.testBit p = true ∧ ze_p P m p)) (t : Nat) : 0 < zp_c P (m + 1) t ↔ ∃ p, p < zp_n P ∧ (zp_to P t).testBit p = true ∧ ze_p P m p := by
  have g : ∀ c p, (zp_d P t c).testBit p = true → p < zp_n P := fun c p h => ((zp_d_bit P t c p).mp h).1
  show 0 < zp_c P m (zp_d P t 0) + zp_c P m (zp_d P t 1) ↔ _
  have e : 0 < zp_c P m (zp_d P t 0) + zp_c P m (zp_d P t 1) ↔ (0 < zp_c P m (zp_d P t 0) ∨ 0 < zp_c P m (zp_d P t 1)) := by omega
  rw [e, ih _ (g 0), ih _ (g 1)]
  constructor
  · rintro (⟨p, h, h2⟩ | ⟨p, h, h2⟩)
    · have := (zp_d_bit P t 0 p).mp h; exact ⟨p, this.1, this.2.1, h2⟩
    · have := (zp_d_bit P t 1 p).mp h; exact ⟨p, this.1, this.2.1, h2⟩
  · rintro ⟨p, hp, h, h2⟩
    rcases ze_fit W hp with f | f
    · exact Or.inl ⟨p, (zp_d_bit P t 0 p).mpr ⟨hp, h, f⟩, h2⟩
    · exact Or.inr ⟨p, (zp_d_bit P t 1 p).mpr ⟨hp, h, f⟩, h2⟩
theorem ze_pos {P : PT} (W : zp_W P) : ∀ m t, (∀ p, t.testBit p = true → p < zp_n P) → (0 < zp_c P m t ↔ ∃ p, t.testBit p = true ∧ ze_p P m p) := by
  have hn := W.1
  intro m
  induction m with
  | zero =>
    intro t ht
    have h6 : t.testBit 6 = false := by
      cases e : t.testBit 6 with
      | false => rfl
      | true => exact absurd (ht 6 e) (by omega)
    have e : (0 < zp_c P 0 t) ↔ ¬ (t &&& zp_L P = 0) := by
      show 0 < (if zp_a P t then 1 else 0) ↔ _
      have : zp_a P t = !(decide (t &&& zp_L P = 0)) := by unfold zp_a; rw [h6, Bool.false_and, Bool.or_false]
      rw [this]
      by_cases z : t &&& zp_L P = 0
      · simp [z]
      · simp [z]
    rw [e, zb_nz]
    constructor
    · rintro ⟨j, h⟩
      rw [Nat.testBit_and, Bool.and_eq_true] at h
      exact ⟨j, h.1, j, h.2, zh_0 (ht j h.1)⟩
    · rintro ⟨p, h, q, h2, h3⟩
      have := zh_0e h3; subst this
      exact ⟨p, by rw [Nat.testBit_and, h, h2]; rfl⟩
  | succ m ih =>
    intro t ht
    have h6 : ¬ t.testBit 6 = true := fun e => absurd (ht 6 e) (by omega)
    rw [ze_step W ih t]
    constructor
    · rintro ⟨p, hp, h, q, h2, h3⟩
      rcases (zp_to_bit P t p).mp h with ⟨h, _⟩ | ⟨i, hi, h4, h5⟩
      · exact absurd h h6
      · exact ⟨i, h4, q, h2, zh_cons hi h5 h3⟩
    · rintro ⟨i, h4, q, h2, h3⟩
      obtain ⟨p, e, h⟩ := zh_unc h3
      exact ⟨p, zh_lt1 h, (zp_to_bit P t p).mpr (Or.inr ⟨i, ht i h4, h4, e⟩), q, h2, h⟩
theorem ze_64 {P : PT} (W : zp_W P) (m : Nat) : 0 < zp_c P (m + 1) 64 ↔ ∃ p, (zp_F P).testBit p = true ∧ ze_p P m p := by
  rw [ze_step W (ze_pos W m) 64]
  have h64 : ∀ i, i < 6 → ¬ Nat.testBit 64 i = true := by decide
  have hn := W.1
  constructor
  · rintro ⟨p, hp, h, h2⟩
    rcases (zp_to_bit P 64 p).mp h with ⟨_, h⟩ | ⟨i, hi, h, _⟩
    · exact ⟨p, h, h2⟩
    · exact absurd h (h64 i (by omega))
  · rintro ⟨p, h, h2⟩
    exact ⟨p, zb_blt W.2.1 h, (zp_to_bit P 64 p).mpr (Or.inl ⟨by decide, h⟩), h2⟩
/-- longer ways can be shortened into the window -/
theorem ze_win {P : PT} {f q : Nat} : ∀ M, zp_n P ≤ M → zh P M f q → ∃ M', zp_n P ≤ M' ∧ M' ≤ 2 * zp_n P + 1 ∧ zh P M' f q := by
  intro M
  induction M using Nat.strongRecOn with
  | _ M ih =>
    intro h1 h2
    by_cases c : M ≤ 2 * zp_n P + 1
    · exact ⟨M, h1, c, h2⟩
    · obtain ⟨d, x, a, b, e, _⟩ := zh_cut h2 h1
      exact ih (M - d) (by omega) (by omega) e
def ze_cyc (P : PT) : Prop := ∃ p d, 1 ≤ d ∧ zh P d p p
theorem ze_law {P : PT} (W : zp_W P) (T : zp_T P) : ze_cyc P ↔ ∃ m, zp_n P + 1 ≤ m ∧ m < 2 * zp_n P + 3 ∧ 0 < zp_c P m 64 := by
  constructor
  · rintro ⟨p, d, hd, h⟩
    obtain ⟨⟨f, k, hf, h1⟩, ⟨q, b, hq, h2⟩⟩ := T.2 p (zh_lt1 h)
    have h3 := zh_app (zh_app h1 (zh_rep h (zp_n P))) h2
    have hm : zp_n P ≤ zp_n P * d := Nat.le_mul_of_pos_right _ hd
    obtain ⟨M, a, b, e⟩ := ze_win _ (by omega) h3
    exact ⟨M + 1, by omega, by omega, (ze_64 W M).mpr ⟨f, hf, q, hq, e⟩⟩
  · rintro ⟨m, h1, h2, h3⟩
    obtain ⟨M, rfl⟩ : ∃ M, m = M + 1 := ⟨m - 1, by omega⟩
    obtain ⟨f, _, q, _, h⟩ := (ze_64 W M).mp h3
    obtain ⟨d, x, a, _, _, e⟩ := zh_cut h (by omega)
    exact ⟨x, d, a, e⟩
/-! X's closure -/
def ze_ba (P : PT) (set : Nat) : Nat := zo (fun i => if set.testBit i then zp_B P i else 0) (zp_n P)
def ze_s (P : PT) (p : Nat) : Nat → Nat
  | 0 => zp_B P p
  | i + 1 => ze_s P p i ||| ze_ba P (ze_s P p i)
theorem ze_ba_bit (P : PT) (set q : Nat) : (ze_ba P set).testBit q = true ↔ ∃ i, i < zp_n P ∧ set.testBit i = true ∧ (zp_B P i).testBit q = true := by
  unfold ze_ba
  rw [zo_bit]
  constructor
  · rintro ⟨i, hi, h⟩
    by_cases c : set.testBit i = true
    · simp only [c, if_true] at h; exact ⟨i, hi, c, h⟩
    · simp only [c, Nat.zero_testBit] at h; exact absurd h (by simp)
  · rintro ⟨i, hi, c, h⟩
    refine ⟨i, hi, ?_⟩; simp only [c, if_true]; exact h
theorem ze_ba_lt {P : PT} (W : zp_W P) (set : Nat) : ze_ba P set < 2 ^ zp_n P := by
  apply zo_lt
  intro i hi
  by_cases c : set.testBit i = true
  · rw [if_pos c]; exact (W.2.2.2 i hi).2
  · rw [if_neg c]; exact Nat.two_pow_pos _
theorem zb_orlt {a b n : Nat} (ha : a < 2 ^ n) (hb : b < 2 ^ n) : a ||| b < 2 ^ n := Nat.or_lt_two_pow ha hb
theorem ze_s_lt {P : PT} (W : zp_W P) {p : Nat} (hp : p < zp_n P) (i : Nat) : ze_s P p i < 2 ^ zp_n P := by
  induction i with
  | zero => exact (W.2.2.2 p hp).2
  | succ i ih => exact zb_orlt ih (ze_ba_lt W _)
theorem ze_s_bit {P : PT} (W : zp_W P) {p : Nat} (hp : p < zp_n P) (i q : Nat) : (ze_s P p i).testBit q = true ↔ ∃ k, 1 ≤ k ∧ k ≤ i + 1 ∧ zh P k p q := by
  induction i generalizing q with
  | zero =>
    constructor
    · intro h
      exact ⟨1, by omega, by omega, zh_cons hp h (zh_0 (zb_blt (W.2.2.2 p hp).2 h))⟩
    · rintro ⟨k, h1, h2, h⟩
      have : k = 0 + 1 := by omega
      subst this
      obtain ⟨x, e, h3⟩ := zh_unc h
      rw [zh_0e h3] at e
      exact e
  | succ i ih =>
    show (ze_s P p i ||| ze_ba P (ze_s P p i)).testBit q = true ↔ _
    rw [Nat.testBit_or, Bool.or_eq_true, ih, ze_ba_bit]
    constructor
    · rintro (⟨k, a, b, h⟩ | ⟨x, hx, h, e⟩)
      · exact ⟨k, a, by omega, h⟩
      · obtain ⟨k, a, b, h⟩ := (ih x).mp h
        exact ⟨k + 1, by omega, by omega, zh_snoc h e (zb_blt (W.2.2.2 x hx).2 e)⟩
    · rintro ⟨k, a, b, h⟩
      by_cases c : k ≤ i + 1
      · exact Or.inl ⟨k, a, c, h⟩
      · obtain ⟨k', rfl⟩ : ∃ k', k = k' + 1 := ⟨k - 1, by omega⟩
        obtain ⟨x, h2, e⟩ := zh_uns h
        exact Or.inr ⟨x, zh_lt2 h2, (ih x).mpr ⟨k', by omega, by omega, h2⟩, e⟩
theorem ze_short {P : PT} {p : Nat} : ∀ d, 1 ≤ d → zh P d p p → ∃ k, 1 ≤ k ∧ k ≤ zp_n P + 1 ∧ zh P k p p := by
  intro d
  induction d using Nat.strongRecOn with
  | _ d ih =>
    intro h1 h2
    by_cases c : d ≤ zp_n P + 1
    · exact ⟨d, h1, c, h2⟩
    · obtain ⟨e, x, a, b, f, _⟩ := zh_cut h2 (by omega)
      exact ih (d - e) (by omega) (by omega) f
theorem ze_xlaw {P : PT} (W : zp_W P) : ze_cyc P ↔ ∃ p, p < zp_n P ∧ (ze_s P p (zp_n P)).testBit p = true := by
  constructor
  · rintro ⟨p, d, hd, h⟩
    obtain ⟨k, a, b, e⟩ := ze_short d hd h
    exact ⟨p, zh_lt1 h, (ze_s_bit W (zh_lt1 h) _ _).mpr ⟨k, a, b, e⟩⟩
  · rintro ⟨p, hp, h⟩
    obtain ⟨k, a, _, e⟩ := (ze_s_bit W hp _ _).mp h
    exact ⟨p, k, a, e⟩
end
section
/-! joining patterns: sizes, bits and trimness kept -/
theorem zb_sh (a k j : Nat) : (a * 2 ^ k).testBit j = (decide (k ≤ j) && a.testBit (j - k)) := by
  rw [Nat.mul_comm, Nat.testBit_two_pow_mul]
theorem zb_shp {a k j : Nat} (h : a.testBit j = true) : (a * 2 ^ k).testBit (k + j) = true := by
  rw [zb_sh, decide_eq_true (by omega), show k + j - k = j by omega, h]; rfl
theorem zb_shlt {a n k : Nat} (h : a < 2 ^ n) : a * 2 ^ k < 2 ^ (k + n) := by
  rw [Nat.pow_add, Nat.mul_comm (2 ^ k)]
  exact Nat.mul_lt_mul_of_pos_right h (Nat.two_pow_pos k)
theorem zb_up {a n k : Nat} (h : a < 2 ^ n) (hk : n ≤ k) : a < 2 ^ k := Nat.lt_of_lt_of_le h (Nat.pow_le_pow_right (by decide) hk)
def zp_l2 (P Q : PT) (p : Nat) : Nat := if p < zp_n P then zp_l P p else zp_l Q (p - zp_n P)
def zp_then (P Q : PT) : PT :=
  (zp_n P + zp_n Q, zp_e P && zp_e Q, (if zp_e P then zp_F P ||| zp_F Q * 2 ^ zp_n P else zp_F P), (if zp_e Q then zp_L P ||| zp_L Q * 2 ^ zp_n P else zp_L Q * 2 ^ zp_n P), zp_l2 P Q,
   fun p => if p < zp_n P then (if (zp_L P).testBit p then zp_B P p ||| zp_F Q * 2 ^ zp_n P else zp_B P p) else zp_B Q (p - zp_n P) * 2 ^ zp_n P)
def zp_or (P Q : PT) : PT :=
  (zp_n P + zp_n Q, zp_e P || zp_e Q, zp_F P ||| zp_F Q * 2 ^ zp_n P, zp_L P ||| zp_L Q * 2 ^ zp_n P, zp_l2 P Q,
   fun p => if p < zp_n P then zp_B P p else zp_B Q (p - zp_n P) * 2 ^ zp_n P)
def zp_many (P : PT) : PT := (zp_n P, true, zp_F P, zp_L P, zp_l P, fun p => if (zp_L P).testBit p then zp_B P p ||| zp_F P else zp_B P p)
def zp_simple (w : Nat) : PT := if w = 3 then (0, true, 0, 0, fun _ => 0, fun _ => 0) else (1, false, 1, 1, fun _ => w, fun _ => 0)
theorem zp_l2_lt {P Q : PT} (W : zp_W P) (V : zp_W Q) {p : Nat} (h : p < zp_n P + zp_n Q) : zp_l2 P Q p < 3 := by
  unfold zp_l2
  by_cases c : p < zp_n P
  · rw [if_pos c]; exact (W.2.2.2 p c).1
  · rw [if_neg c]; exact (V.2.2.2 _ (by omega)).1
theorem zp_thenW {P Q : PT} (W : zp_W P) (V : zp_W Q) (h : zp_n P + zp_n Q ≤ 6) : zp_W (zp_then P Q) := by
  have a1 := zb_up W.2.1 (Nat.le_add_right (zp_n P) (zp_n Q))
  have a2 : zp_F Q * 2 ^ zp_n P < 2 ^ (zp_n P + zp_n Q) := zb_shlt V.2.1
  have a3 := zb_up W.2.2.1 (Nat.le_add_right (zp_n P) (zp_n Q))
  have a4 : zp_L Q * 2 ^ zp_n P < 2 ^ (zp_n P + zp_n Q) := zb_shlt V.2.2.1
  refine ⟨h, ?_, ?_, fun p hp => ⟨zp_l2_lt W V hp, ?_⟩⟩
  · show (if zp_e P then zp_F P ||| zp_F Q * 2 ^ zp_n P else zp_F P) < 2 ^ (zp_n P + zp_n Q)
    by_cases c : zp_e P = true
    · rw [if_pos c]; exact zb_orlt a1 a2
    · rw [if_neg c]; exact a1
  · show (if zp_e Q then zp_L P ||| zp_L Q * 2 ^ zp_n P else zp_L Q * 2 ^ zp_n P) < 2 ^ (zp_n P + zp_n Q)
    by_cases c : zp_e Q = true
    · rw [if_pos c]; exact zb_orlt a3 a4
    · rw [if_neg c]; exact a4
  · show (if p < zp_n P then (if (zp_L P).testBit p then zp_B P p ||| zp_F Q * 2 ^ zp_n P else zp_B P p) else zp_B Q (p - zp_n P) * 2 ^ zp_n P) < 2 ^ (zp_n P + zp_n Q)
    have hp' : p < zp_n P + zp_n Q := hp
    by_cases c : p < zp_n P
    · have a5 := zb_up (W.2.2.2 p c).2 (Nat.le_add_right (zp_n P) (zp_n Q))
      rw [if_pos c]
      by_cases c2 : (zp_L P).testBit p = true
      · rw [if_pos c2]; exact zb_orlt a5 a2
      · rw [if_neg c2]; exact a5
    · rw [if_neg c]; exact zb_shlt (V.2.2.2 _ (by omega)).2
theorem zp_orW {P Q : PT} (W : zp_W P) (V : zp_W Q) (h : zp_n P + zp_n Q ≤ 6) : zp_W (zp_or P Q) := by
  have a1 := zb_up W.2.1 (Nat.le_add_right (zp_n P) (zp_n Q))
  have a2 : zp_F Q * 2 ^ zp_n P < 2 ^ (zp_n P + zp_n Q) := zb_shlt V.2.1
  have a3 := zb_up W.2.2.1 (Nat.le_add_right (zp_n P) (zp_n Q))
  have a4 : zp_L Q * 2 ^ zp_n P < 2 ^ (zp_n P + zp_n Q) := zb_shlt V.2.2.1
  refine ⟨h, zb_orlt a1 a2, zb_orlt a3 a4, fun p hp => ⟨zp_l2_lt W V hp, ?_⟩⟩
  show (if p < zp_n P then zp_B P p else zp_B Q (p - zp_n P) * 2 ^ zp_n P) < 2 ^ (zp_n P + zp_n Q)
  have hp' : p < zp_n P + zp_n Q := hp
  by_cases c : p < zp_n P
  · rw [if_pos c]; exact zb_up (W.2.2.2 p c).2 (Nat.le_add_right _ _)
  · rw [if_neg c]; exact zb_shlt (V.2.2.2 _ (by omega)).2
theorem zp_manyW {P : PT} (W : zp_W P) : zp_W (zp_many P) := by
  refine ⟨W.1, W.2.1, W.2.2.1, fun p hp => ⟨(W.2.2.2 p hp).1, ?_⟩⟩
  show (if (zp_L P).testBit p then zp_B P p ||| zp_F P else zp_B P p) < 2 ^ zp_n P
  by_cases c : (zp_L P).testBit p = true
  · rw [if_pos c]; exact zb_orlt (W.2.2.2 p hp).2 W.2.1
  · rw [if_neg c]; exact (W.2.2.2 p hp).2
theorem zp_simpleW {w : Nat} (h : w ≤ 3) : zp_W (zp_simple w) := by
  unfold zp_simple
  by_cases c : w = 3
  · rw [if_pos c]; exact ⟨by decide, by decide, by decide, fun p hp => absurd hp (Nat.not_lt_zero p)⟩
  · rw [if_neg c]
    refine ⟨(by decide : (1 : Nat) ≤ 6), (by decide : (1 : Nat) < 2 ^ 1), (by decide : (1 : Nat) < 2 ^ 1), fun p hp => ⟨?_, (by decide : (0 : Nat) < 2 ^ 1)⟩⟩
    show w < 3
    omega
/-! trimness -/
theorem zp_simpleT (w : Nat) : zp_T (zp_simple w) := by
  unfold zp_simple
  by_cases c : w = 3
  · rw [if_pos c]; exact ⟨fun _ => rfl, fun p hp => absurd hp (Nat.not_lt_zero p)⟩
  · rw [if_neg c]
    refine ⟨fun h => absurd h (by decide : ¬ (1 : Nat) = 0), fun p hp => ?_⟩
    have hp' : p < 1 := hp
    have : p = 0 := by omega
    subst this
    exact ⟨⟨0, 0, (by decide : Nat.testBit 1 0 = true), zh_0 hp⟩, ⟨0, 0, (by decide : Nat.testBit 1 0 = true), zh_0 hp⟩⟩
theorem zp_manyT {P : PT} (T : zp_T P) : zp_T (zp_many P) := by
  refine ⟨fun _ => rfl, fun p hp => ?_⟩
  obtain ⟨⟨f, k, hf, h1⟩, ⟨q, b, hq, h2⟩⟩ := T.2 p hp
  have key : ∀ x y, x < zp_n P → y < zp_n P → (zp_B P x).testBit y = true → (zp_B (zp_many P) (id x)).testBit (id y) = true := by
    intro x y _ _ h
    show (if (zp_L P).testBit x then zp_B P x ||| zp_F P else zp_B P x).testBit y = true
    by_cases c : (zp_L P).testBit x = true
    · rw [if_pos c, Nat.testBit_or, h]; rfl
    · rw [if_neg c]; exact h
  exact ⟨⟨f, k, hf, zh_map (P := P) (R := zp_many P) id (fun x h => h) key h1⟩, ⟨q, b, hq, zh_map (P := P) (R := zp_many P) id (fun x h => h) key h2⟩⟩
theorem zp_orT {P Q : PT} (T : zp_T P) (U : zp_T Q) : zp_T (zp_or P Q) := by
  have kP : ∀ x y, x < zp_n P → y < zp_n P → (zp_B P x).testBit y = true → (zp_B (zp_or P Q) (id x)).testBit (id y) = true := by
    intro x y hx _ h
    show (if x < zp_n P then zp_B P x else zp_B Q (x - zp_n P) * 2 ^ zp_n P).testBit y = true
    rw [if_pos hx]; exact h
  have kQ : ∀ x y, x < zp_n Q → y < zp_n Q → (zp_B Q x).testBit y = true → (zp_B (zp_or P Q) (zp_n P + x)).testBit (zp_n P + y) = true := by
    intro x y hx _ h
    show (if zp_n P + x < zp_n P then zp_B P (zp_n P + x) else zp_B Q (zp_n P + x - zp_n P) * 2 ^ zp_n P).testBit (zp_n P + y) = true
    rw [if_neg (by omega), show zp_n P + x - zp_n P = x by omega]; exact zb_shp h
  have nP : ∀ x, x < zp_n P → id x < zp_n (zp_or P Q) := fun x h => Nat.lt_of_lt_of_le h (Nat.le_add_right _ _)
  have nQ : ∀ x, x < zp_n Q → zp_n P + x < zp_n (zp_or P Q) := fun x h => Nat.add_lt_add_left h _
  refine ⟨fun h => ?_, fun p hp => ?_⟩
  · have h' : zp_n P + zp_n Q = 0 := h
    show (zp_e P || zp_e Q) = true
    rw [T.1 (by omega)]; rfl
  · have hp' : p < zp_n P + zp_n Q := hp
    by_cases c : p < zp_n P
    · obtain ⟨⟨f, k, hf, h1⟩, ⟨q, b, hq, h2⟩⟩ := T.2 p c
      refine ⟨⟨f, k, ?_, zh_map (P := P) (R := zp_or P Q) id nP kP h1⟩, ⟨q, b, ?_, zh_map (P := P) (R := zp_or P Q) id nP kP h2⟩⟩
      · show (zp_F P ||| zp_F Q * 2 ^ zp_n P).testBit f = true
        rw [Nat.testBit_or, hf]; rfl
      · show (zp_L P ||| zp_L Q * 2 ^ zp_n P).testBit q = true
        rw [Nat.testBit_or, hq]; rfl
    · obtain ⟨⟨f, k, hf, h1⟩, ⟨q, b, hq, h2⟩⟩ := U.2 (p - zp_n P) (by omega)
      have g1 := zh_map (P := Q) (R := zp_or P Q) (fun x => zp_n P + x) nQ kQ h1
      have g2 := zh_map (P := Q) (R := zp_or P Q) (fun x => zp_n P + x) nQ kQ h2
      rw [show zp_n P + (p - zp_n P) = p by omega] at g1 g2
      refine ⟨⟨zp_n P + f, k, ?_, g1⟩, ⟨zp_n P + q, b, ?_, g2⟩⟩
      · show (zp_F P ||| zp_F Q * 2 ^ zp_n P).testBit (zp_n P + f) = true
        rw [Nat.testBit_or, zb_shp hf, Bool.or_true]
      · show (zp_L P ||| zp_L Q * 2 ^ zp_n P).testBit (zp_n P + q) = true
        rw [Nat.testBit_or, zb_shp hq, Bool.or_true]
/-- a pattern that isn't empty-only has a way from a first place to a last one -/
theorem zp_way {P : PT} (T : zp_T P) (h : ¬ zp_e P = true) : ∃ f q k, (zp_F P).testBit f = true ∧ (zp_L P).testBit q = true ∧ zh P k f q := by
  have hn : ¬ zp_n P = 0 := fun z => h (T.1 z)
  obtain ⟨⟨f, k, hf, h1⟩, ⟨q, b, hq, h2⟩⟩ := T.2 0 (by omega)
  exact ⟨f, q, k + b, hf, hq, zh_app h1 h2⟩
theorem zp_thenT {P Q : PT} (T : zp_T P) (U : zp_T Q) : zp_T (zp_then P Q) := by
  have kP : ∀ x y, x < zp_n P → y < zp_n P → (zp_B P x).testBit y = true → (zp_B (zp_then P Q) (id x)).testBit (id y) = true := by
    intro x y hx _ h
    show (if x < zp_n P then (if (zp_L P).testBit x then zp_B P x ||| zp_F Q * 2 ^ zp_n P else zp_B P x) else zp_B Q (x - zp_n P) * 2 ^ zp_n P).testBit y = true
    rw [if_pos hx]
    by_cases c : (zp_L P).testBit x = true
    · rw [if_pos c, Nat.testBit_or, h]; rfl
    · rw [if_neg c]; exact h
  have kQ : ∀ x y, x < zp_n Q → y < zp_n Q → (zp_B Q x).testBit y = true → (zp_B (zp_then P Q) (zp_n P + x)).testBit (zp_n P + y) = true := by
    intro x y hx _ h
    show (if zp_n P + x < zp_n P then (if (zp_L P).testBit (zp_n P + x) then zp_B P (zp_n P + x) ||| zp_F Q * 2 ^ zp_n P else zp_B P (zp_n P + x)) else zp_B Q (zp_n P + x - zp_n P) * 2 ^ zp_n P).testBit (zp_n P + y) = true
    rw [if_neg (show ¬ zp_n P + x < zp_n P by omega), show zp_n P + x - zp_n P = x by omega]; exact zb_shp h
  have kX : ∀ x f, x < zp_n P → (zp_L P).testBit x = true → (zp_F Q).testBit f = true → (zp_B (zp_then P Q) x).testBit (zp_n P + f) = true := by
    intro x f hx hl hf
    show (if x < zp_n P then (if (zp_L P).testBit x then zp_B P x ||| zp_F Q * 2 ^ zp_n P else zp_B P x) else zp_B Q (x - zp_n P) * 2 ^ zp_n P).testBit (zp_n P + f) = true
    rw [if_pos hx, if_pos hl, Nat.testBit_or, zb_shp hf, Bool.or_true]
  have nP : ∀ x, x < zp_n P → id x < zp_n (zp_then P Q) := fun x h => Nat.lt_of_lt_of_le h (Nat.le_add_right _ _)
  have nQ : ∀ x, x < zp_n Q → zp_n P + x < zp_n (zp_then P Q) := fun x h => Nat.add_lt_add_left h _
  have mP : ∀ {k p q : Nat}, zh P k p q → zh (zp_then P Q) k p q := fun h => zh_map (P := P) (R := zp_then P Q) id nP kP h
  have mQ : ∀ {k p q : Nat}, zh Q k p q → zh (zp_then P Q) k (zp_n P + p) (zp_n P + q) := fun h => zh_map (P := Q) (R := zp_then P Q) (fun x => zp_n P + x) nQ kQ h
  have FP : ∀ f, (zp_F P).testBit f = true → (zp_F (zp_then P Q)).testBit f = true := by
    intro f hf
    show (if zp_e P then zp_F P ||| zp_F Q * 2 ^ zp_n P else zp_F P).testBit f = true
    by_cases c : zp_e P = true
    · rw [if_pos c, Nat.testBit_or, hf]; rfl
    · rw [if_neg c]; exact hf
  have LQ : ∀ q, (zp_L Q).testBit q = true → (zp_L (zp_then P Q)).testBit (zp_n P + q) = true := by
    intro q hq
    show (if zp_e Q then zp_L P ||| zp_L Q * 2 ^ zp_n P else zp_L Q * 2 ^ zp_n P).testBit (zp_n P + q) = true
    by_cases c : zp_e Q = true
    · rw [if_pos c, Nat.testBit_or, zb_shp hq, Bool.or_true]
    · rw [if_neg c]; exact zb_shp hq
  refine ⟨fun h => ?_, fun p hp => ?_⟩
  · have h' : zp_n P + zp_n Q = 0 := h
    show (zp_e P && zp_e Q) = true
    rw [T.1 (by omega), U.1 (by omega)]; rfl
  · have hp' : p < zp_n P + zp_n Q := hp
    by_cases c : p < zp_n P
    · obtain ⟨⟨f, k, hf, h1⟩, ⟨q, b, hq, h2⟩⟩ := T.2 p c
      refine ⟨⟨f, k, FP f hf, mP h1⟩, ?_⟩
      by_cases ce : zp_e Q = true
      · refine ⟨q, b, ?_, mP h2⟩
        show (if zp_e Q then zp_L P ||| zp_L Q * 2 ^ zp_n P else zp_L Q * 2 ^ zp_n P).testBit q = true
        rw [if_pos ce, Nat.testBit_or, hq]; rfl
      · obtain ⟨f', q', k', hf', hq', h'⟩ := zp_way U ce
        exact ⟨zp_n P + q', b + (k' + 1), LQ q' hq', zh_app (mP h2) (zh_cons (nP q (zh_lt2 h2)) (kX q f' (zh_lt2 h2) hq hf') (mQ h'))⟩
    · obtain ⟨⟨f, k, hf, h1⟩, ⟨q, b, hq, h2⟩⟩ := U.2 (p - zp_n P) (by omega)
      have g1 := mQ h1
      have g2 := mQ h2
      rw [show zp_n P + (p - zp_n P) = p by omega] at g1 g2
      refine ⟨?_, ⟨zp_n P + q, b, LQ q hq, g2⟩⟩
      by_cases ce : zp_e P = true
      · refine ⟨zp_n P + f, k, ?_, g1⟩
        show (if zp_e P then zp_F P ||| zp_F Q * 2 ^ zp_n P else zp_F P).testBit (zp_n P + f) = true
        rw [if_pos ce, Nat.testBit_or, zb_shp hf, Bool.or_true]
      · obtain ⟨f', q', k', hf', hq', h'⟩ := zp_way T ce
        exact ⟨f', k' + (k + 1), FP f' hf', zh_app (mP h') (zh_cons (nP q' (zh_lt2 h')) (kX q' f (zh_lt2 h') hq' hf) g1)⟩
end
section
/-! sets that words lead to, alone and in pairs; sets told apart; counting classes -/
def zr1 (P : PT) (t : Nat) : Prop := ∀ S : Nat → Prop, S 64 → (∀ s c, S s → c < 2 → S (zp_d P s c)) → S t
theorem zr1_0 (P : PT) : zr1 P 64 := fun _ h _ => h
theorem zr1_s {P : PT} {t c : Nat} (h : zr1 P t) (hc : c < 2) : zr1 P (zp_d P t c) := fun S h0 hs => hs t c (h S h0 hs) hc
theorem zr1_g {P : PT} (W : zp_W P) {t : Nat} (h : zr1 P t) : zg P t := h (zg P) (zg_64 P) (fun _ _ _ _ => zg_d W _ _)
def zr2 (P Q : PT) (a b : Nat) : Prop := ∀ S : Nat → Nat → Prop, S 64 64 → (∀ a b c, S a b → c < 2 → S (zp_d P a c) (zp_d Q b c)) → S a b
theorem zr2_0 (P Q : PT) : zr2 P Q 64 64 := fun _ h _ => h
theorem zr2_s {P Q : PT} {a b c : Nat} (h : zr2 P Q a b) (hc : c < 2) : zr2 P Q (zp_d P a c) (zp_d Q b c) := fun S h0 hs => hs a b c (h S h0 hs) hc
theorem zr2_g {P Q : PT} (W : zp_W P) (V : zp_W Q) {a b : Nat} (h : zr2 P Q a b) : zg P a ∧ zg Q b := h (fun a b => zg P a ∧ zg Q b) ⟨zg_64 P, zg_64 Q⟩ (fun _ _ _ _ _ => ⟨zg_d W _ _, zg_d V _ _⟩)
def zsame (P Q : PT) : Prop := ∀ a b, zr2 P Q a b → zp_a P a = zp_a Q b

/-! sets told apart after r letters -/
def zm (P : PT) : Nat → Nat → Nat → Prop
  | 0 => fun s t => zp_a P s = zp_a P t
  | r + 1 => fun s t => zm P r s t ∧ zm P r (zp_d P s 0) (zp_d P t 0) ∧ zm P r (zp_d P s 1) (zp_d P t 1)
theorem zm_r (P : PT) : ∀ r s, zm P r s s := by
  intro r
  induction r with
  | zero => intro s; rfl
  | succ r ih => intro s; exact ⟨ih _, ih _, ih _⟩
theorem zm_y {P : PT} : ∀ {r s t : Nat}, zm P r s t → zm P r t s := by
  intro r
  induction r with
  | zero => intro s t h; exact Eq.symm h
  | succ r ih => intro s t h; exact ⟨ih h.1, ih h.2.1, ih h.2.2⟩
theorem zm_t {P : PT} : ∀ {r s t u : Nat}, zm P r s t → zm P r t u → zm P r s u := by
  intro r
  induction r with
  | zero => intro s t u h g; exact Eq.trans h g
  | succ r ih => intro s t u h g; exact ⟨ih h.1 g.1, ih h.2.1 g.2.1, ih h.2.2 g.2.2⟩
def zq (P : PT) (s t : Nat) : Prop := ∀ r, zm P r s t
theorem zq_r (P : PT) (s : Nat) : zq P s s := fun r => zm_r P r s
theorem zq_y {P : PT} {s t : Nat} (h : zq P s t) : zq P t s := fun r => zm_y (h r)
theorem zq_t {P : PT} {s t u : Nat} (h : zq P s t) (g : zq P t u) : zq P s u := fun r => zm_t (h r) (g r)
theorem zq_a {P : PT} {s t : Nat} (h : zq P s t) : zp_a P s = zp_a P t := h 0
theorem zq_d {P : PT} {s t c : Nat} (h : zq P s t) (hc : c < 2) : zq P (zp_d P s c) (zp_d P t c) := fun r => by
  have g := h (r + 1)
  rcases (show c = 0 ∨ c = 1 by omega) with e | e
  · rw [e]; exact g.2.1
  · rw [e]; exact g.2.2
/-- a relation of pairs that holds what ends unlike, and what leads into it: outside of it nothing is told apart -/
theorem zq_of {P : PT} (W : zp_W P) {A : Nat → Nat → Prop} (h0 : ∀ a b, a < 128 → b < 128 → ¬ zp_a P a = zp_a P b → A a b) (h1 : ∀ a b c, a < 128 → b < 128 → c < 2 → A (zp_d P a c) (zp_d P b c) → A a b) : ∀ r a b, a < 128 → b < 128 → ¬ A a b → zm P r a b := by
  intro r
  induction r with
  | zero =>
    intro a b ha hb h
    exact Classical.byContradiction fun z => h (h0 a b ha hb z)
  | succ r ih =>
    intro a b ha hb h
    exact ⟨ih a b ha hb h, ih _ _ (zp_d128 W _ _) (zp_d128 W _ _) (fun z => h (h1 a b 0 ha hb (by omega) z)), ih _ _ (zp_d128 W _ _) (zp_d128 W _ _) (fun z => h (h1 a b 1 ha hb (by omega) z))⟩
/-- once nothing more is told apart, nothing ever is -/
theorem zm_stab {P : PT} {R : Nat → Prop} (hR : ∀ s c, R s → c < 2 → R (zp_d P s c)) {r : Nat} (h : ∀ s t, R s → R t → zm P r s t → zm P (r + 1) s t) : ∀ k s t, R s → R t → zm P r s t → zm P (r + k) s t := by
  intro k
  induction k with
  | zero => intro s t _ _ g; exact g
  | succ k ih =>
    intro s t hs ht g
    have g1 := h s t hs ht g
    exact ⟨ih s t hs ht g, ih _ _ (hR s 0 hs (by omega)) (hR t 0 ht (by omega)) g1.2.1, ih _ _ (hR s 1 hs (by omega)) (hR t 1 ht (by omega)) g1.2.2⟩
theorem zm_dn {P : PT} {s t : Nat} : ∀ k r, zm P (r + k) s t → zm P r s t := by
  intro k
  induction k with
  | zero => intro r h; exact h
  | succ k ih => intro r h; exact ih r h.1
theorem zm_stq {P : PT} {R : Nat → Prop} (hR : ∀ s c, R s → c < 2 → R (zp_d P s c)) {r : Nat} (h : ∀ s t, R s → R t → zm P r s t → zm P (r + 1) s t) {s t : Nat} (hs : R s) (ht : R t) (g : zm P r s t) : zq P s t := by
  intro r'
  rcases Nat.le_total r r' with c | c
  · have := zm_stab hR h (r' - r) s t hs ht g
    rw [show r + (r' - r) = r' by omega] at this
    exact this
  · have : zm P (r' + (r - r')) s t := by rw [show r' + (r - r') = r by omega]; exact g
    exact zm_dn _ _ this

/-! lists of representatives -/
theorem zk_le {E : Nat → Nat → Prop} (sy : ∀ a b, E a b → E b a) (tr : ∀ a b c, E a b → E b c → E a c) : ∀ l1 l2 : List Nat, l1.Pairwise (fun a b => ¬ E a b) → (∀ a, a ∈ l1 → ∃ b, b ∈ l2 ∧ E a b) → l1.length ≤ l2.length := by
  intro l1
  induction l1 with
  | nil => intro l2 _ _; exact Nat.zero_le _
  | cons a l1 ih =>
    intro l2 hp hc
    obtain ⟨h1, h2⟩ := List.pairwise_cons.mp hp
    obtain ⟨b, hb, e⟩ := hc a (List.mem_cons_self ..)
    have h3 := ih (l2.erase b) h2 (fun a' ha' => by
      obtain ⟨b', hb', e'⟩ := hc a' (List.mem_cons_of_mem _ ha')
      refine ⟨b', (List.mem_erase_of_ne ?_).mpr hb', e'⟩
      intro z
      rw [z] at e'
      exact h1 a' ha' (tr _ _ _ e (sy _ _ e')))
    rw [List.length_erase_of_mem hb] at h3
    have : 0 < l2.length := List.length_pos_of_mem hb
    show l1.length + 1 ≤ _
    omega
theorem zk_er {E : Nat → Nat → Prop} (sy : ∀ a b, E a b → E b a) {c : Nat} : ∀ l : List Nat, l.Pairwise (fun a b => ¬ E a b) → c ∈ l → ∀ x, x ∈ l.erase c → ¬ E c x := by
  intro l
  induction l with
  | nil => intro _ h; exact absurd h (List.not_mem_nil)
  | cons h t ih =>
    intro hp hc x hx
    obtain ⟨h1, h2⟩ := List.pairwise_cons.mp hp
    by_cases z : h = c
    · subst z
      rw [List.erase_cons_head] at hx
      exact h1 x hx
    · have hct : c ∈ t := by
        rcases List.mem_cons.mp hc with e | e
        · exact absurd e.symm z
        · exact e
      rw [List.erase_cons_tail (by simpa using z)] at hx
      rcases List.mem_cons.mp hx with e | e
      · rw [e]; exact fun g => h1 c hct (sy _ _ g)
      · exact ih h2 hct x e
/-- a list of representatives of a range of sets -/
def zk (E : Nat → Nat → Prop) (R : Nat → Prop) (l : List Nat) : Prop := l.Pairwise (fun a b => ¬ E a b) ∧ (∀ a, a ∈ l → R a) ∧ ∀ a, R a → ∃ b, b ∈ l ∧ E a b
theorem zk_eq {E : Nat → Nat → Prop} (sy : ∀ a b, E a b → E b a) (tr : ∀ a b c, E a b → E b c → E a c) {R : Nat → Prop} {l m : List Nat} (h : zk E R l) (g : zk E R m) : l.length = m.length :=
  Nat.le_antisymm (zk_le sy tr l m h.1 (fun a ha => g.2.2 a (h.2.1 a ha))) (zk_le sy tr m l g.1 (fun a ha => h.2.2 a (g.2.1 a ha)))
/-- a finer relation with no more classes is the same one -/
theorem zk_stab {E D : Nat → Nat → Prop} (sy : ∀ a b, E a b → E b a) (tr : ∀ a b c, E a b → E b c → E a c) (dy : ∀ a b, D a b → D b a) (dr : ∀ a b c, D a b → D b c → D a c) (le : ∀ a b, D a b → E a b) {R : Nat → Prop} {l m : List Nat} (h : zk E R l) (g : zk D R m) (hl : m.length ≤ l.length) : ∀ a b, R a → R b → E a b → D a b := by
  intro a b ha hb e
  apply Classical.byContradiction
  intro nd
  obtain ⟨c, hc, ec⟩ := h.2.2 a ha
  have hx : ∀ x, x ∈ l.erase c → ¬ E c x := zk_er sy l h.1 hc
  have key := zk_le dy dr (a :: b :: l.erase c) m (by
    refine List.pairwise_cons.mpr ⟨fun x hx' => ?_, List.pairwise_cons.mpr ⟨fun x hx' => ?_, ?_⟩⟩
    · rcases List.mem_cons.mp hx' with z | z
      · rw [z]; exact nd
      · exact fun q => hx x z (tr _ _ _ (sy _ _ ec) (le _ _ q))
    · exact fun q => hx x hx' (tr _ _ _ (sy _ _ ec) (tr _ _ _ e (le _ _ q)))
    · exact (h.1.sublist (List.erase_sublist)).imp (fun q z => q (le _ _ z))) (fun x hx' => by
    rcases List.mem_cons.mp hx' with z | z
    · rw [z]; exact g.2.2 a ha
    · rcases List.mem_cons.mp z with z | z
      · rw [z]; exact g.2.2 b hb
      · exact g.2.2 x (h.2.1 x (List.mem_of_mem_erase z)))
  have h1 : (l.erase c).length = l.length - 1 := List.length_erase_of_mem hc
  have h2 : 0 < l.length := List.length_pos_of_mem hc
  have h3 : (a :: b :: l.erase c).length = (l.erase c).length + 2 := rfl
  omega
/-- those that are first of their sort, in an order -/
def zk_l (fr : Nat → Bool) (e : Nat → Nat) : Nat → List Nat
  | 0 => []
  | n + 1 => if fr n then e n :: zk_l fr e n else zk_l fr e n
theorem zk_len (fr : Nat → Bool) (e : Nat → Nat) (n : Nat) : (zk_l fr e n).length ≤ n := by
  induction n with
  | zero => exact Nat.le_refl _
  | succ n ih =>
    show (if fr n then e n :: zk_l fr e n else zk_l fr e n).length ≤ n + 1
    by_cases c : fr n = true
    · rw [if_pos c]; exact Nat.succ_le_succ ih
    · rw [if_neg c]; omega
theorem zk_ls {fr : Nat → Bool} {e : Nat → Nat} {n : Nat} : (zk_l fr e (n + 1)).length = (zk_l fr e n).length + (if fr n then 1 else 0) := by
  show (if fr n then e n :: zk_l fr e n else zk_l fr e n).length = _
  by_cases c : fr n = true
  · rw [if_pos c, if_pos c]; rfl
  · rw [if_neg c, if_neg c]; rfl
theorem zk_of {E : Nat → Nat → Prop} (rf : ∀ a, E a a) (tr : ∀ a b c, E a b → E b c → E a c) {fr : Nat → Bool} {e : Nat → Nat} {Q : Nat → Prop} : ∀ n, (∀ i, i < n → (fr i = true ↔ Q i ∧ ∀ j, j < i → Q j → ¬ E (e i) (e j))) → zk E (fun a => ∃ i, i < n ∧ Q i ∧ a = e i) (zk_l fr e n) := by
  intro n
  induction n with
  | zero => intro _; exact ⟨List.Pairwise.nil, fun a h => absurd h (List.not_mem_nil), fun a ⟨i, hi, _⟩ => absurd hi (Nat.not_lt_zero i)⟩
  | succ n ih =>
    intro h
    obtain ⟨h1, h2, h3⟩ := ih (fun i hi => h i (by omega))
    have hn := h n (by omega)
    have cov : ∀ i, i < n → Q i → ∃ b, b ∈ zk_l fr e n ∧ E (e i) b := fun i hi hq => h3 _ ⟨i, hi, hq, rfl⟩
    show zk E _ (if fr n then e n :: zk_l fr e n else zk_l fr e n)
    by_cases c : fr n = true
    · rw [if_pos c]
      have hf := hn.mp c
      refine ⟨List.pairwise_cons.mpr ⟨fun b hb => ?_, h1⟩, fun a ha => ?_, ?_⟩
      · obtain ⟨i, hi, hq, e1⟩ := h2 b hb
        rw [e1]; exact hf.2 i hi hq
      · rcases List.mem_cons.mp ha with z | z
        · exact ⟨n, by omega, hf.1, z⟩
        · obtain ⟨i, hi, hq, e1⟩ := h2 a z
          exact ⟨i, by omega, hq, e1⟩
      · rintro a ⟨i, hi, hq, rfl⟩
        by_cases z : i = n
        · rw [z]; exact ⟨e n, List.mem_cons_self .., rf _⟩
        · obtain ⟨b, hb, e1⟩ := cov i (by omega) hq
          exact ⟨b, List.mem_cons_of_mem _ hb, e1⟩
    · rw [if_neg c]
      refine ⟨h1, fun a ha => ?_, ?_⟩
      · obtain ⟨i, hi, hq, e1⟩ := h2 a ha
        exact ⟨i, by omega, hq, e1⟩
      · rintro a ⟨i, hi, hq, rfl⟩
        by_cases z : i = n
        · subst z
          have nf : ¬ (Q i ∧ ∀ j, j < i → Q j → ¬ E (e i) (e j)) := fun q => c (hn.mpr q)
          apply Classical.byContradiction
          intro nb
          apply nf
          refine ⟨hq, fun j hj hqj ee => nb ?_⟩
          obtain ⟨b, hb, e1⟩ := cov j hj hqj
          exact ⟨b, hb, tr _ _ _ ee e1⟩
        · exact cov i (by omega) hq
end
section
/-! sums of naturals; triples; kinds of words counted -/
def zn (f : Nat → Nat) : Nat → Nat
  | 0 => 0
  | n + 1 => zn f n + f n
theorem zn_congr {f g : Nat → Nat} {n : Nat} (h : ∀ i, i < n → f i = g i) : zn f n = zn g n := by
  induction n with
  | zero => rfl
  | succ n ih =>
    show zn f n + f n = zn g n + g n
    rw [ih (fun i hi => h i (by omega)), h n (by omega)]
theorem zn_add (f g : Nat → Nat) (n : Nat) : zn (fun i => f i + g i) n = zn f n + zn g n := by
  induction n with
  | zero => rfl
  | succ n ih =>
    show zn (fun i => f i + g i) n + (f n + g n) = (zn f n + f n) + (zn g n + g n)
    rw [ih]; omega
theorem zn_mul (a : Nat) (f : Nat → Nat) (n : Nat) : zn (fun i => a * f i) n = a * zn f n := by
  induction n with
  | zero => exact (Nat.mul_zero a).symm
  | succ n ih =>
    show zn (fun i => a * f i) n + a * f n = a * (zn f n + f n)
    rw [ih, Nat.mul_add]
theorem zn_split (f : Nat → Nat) (m n : Nat) : zn f (m + n) = zn f m + zn (fun j => f (m + j)) n := by
  induction n with
  | zero => rfl
  | succ n ih =>
    show zn f (m + n) + f (m + n) = zn f m + (zn (fun j => f (m + j)) n + f (m + n))
    rw [ih]; omega
theorem zn_0 {f : Nat → Nat} {n : Nat} (h : ∀ i, i < n → f i = 0) : zn f n = 0 := by
  induction n with
  | zero => rfl
  | succ n ih =>
    show zn f n + f n = 0
    rw [ih (fun i hi => h i (by omega)), h n (by omega)]
theorem zn_e0 {f : Nat → Nat} {n : Nat} (h : zn f n = 0) : ∀ i, i < n → f i = 0 := by
  induction n with
  | zero => intro i hi; omega
  | succ n ih =>
    have h' : zn f n + f n = 0 := h
    intro i hi
    by_cases c : i = n
    · rw [c]; omega
    · exact ih (by omega) i (by omega)
theorem zn_le {f : Nat → Nat} {b n : Nat} (h : ∀ i, i < n → f i ≤ b) : zn f n ≤ n * b := by
  induction n with
  | zero => exact Nat.zero_le _
  | succ n ih =>
    show zn f n + f n ≤ (n + 1) * b
    have := ih (fun i hi => h i (by omega))
    have := h n (by omega)
    rw [Nat.succ_mul]; omega
theorem zn_one {K k : Nat} (hk : k < K) (g : Nat → Nat) : zn (fun i => (if k = i then 1 else 0) * g i) K = g k := by
  induction K with
  | zero => omega
  | succ K ih =>
    show zn (fun i => (if k = i then 1 else 0) * g i) K + (if k = K then 1 else 0) * g K = g k
    by_cases c : k = K
    · subst c
      rw [if_pos rfl, zn_0 (fun i hi => by rw [if_neg (by omega), Nat.zero_mul]), Nat.one_mul, Nat.zero_add]
    · rw [if_neg c, ih (by omega), Nat.zero_mul, Nat.add_zero]
theorem zn_pair {b : Nat} (hb : 0 < b) (h : Nat → Nat → Nat) (a : Nat) : zn (fun x => h (x / b) (x % b)) (a * b) = zn (fun i => zn (fun j => h i j) b) a := by
  induction a with
  | zero => rw [Nat.zero_mul]; rfl
  | succ a ih =>
    rw [Nat.succ_mul, zn_split, ih]
    show _ = zn (fun i => zn (fun j => h i j) b) a + zn (fun j => h a j) b
    congr 1
    apply zn_congr
    intro j hj
    rw [Nat.add_comm (a * b) j, Nat.add_mul_div_right _ _ hb, Nat.add_mul_mod_self_right, Nat.div_eq_of_lt hj, Nat.mod_eq_of_lt hj, Nat.zero_add]
theorem zn_3 {K : Nat} (hK : 0 < K) (g : Nat → Nat → Nat → Nat) : zn (fun x => g (x / (K * K)) (x / K % K) (x % K)) (K * K * K) = zn (fun a => zn (fun b => zn (fun c => g a b c) K) K) K := by
  have h1 := zn_pair hK (fun y c => g (y / K) (y % K) c) (K * K)
  have h2 := zn_pair hK (fun a b => zn (fun c => g a b c) K) K
  try dsimp only at h1 h2
  rw [← h2, ← h1]
  apply zn_congr
  intro x _
  rw [Nat.div_div_eq_div_mul]
/-- how many of the first m words are of kind k -/
def zkc (ko : Nat → Nat) (m k : Nat) : Nat := zn (fun w => if ko w = k then 1 else 0) m
theorem zn_kind {ko : Nat → Nat} {K : Nat} (g : Nat → Nat) : ∀ m, (∀ w, w < m → ko w < K) → zn (fun w => g (ko w)) m = zn (fun k => zkc ko m k * g k) K := by
  intro m
  induction m with
  | zero => intro _; rw [zn_0 (n := K)]; rfl; intro i _; exact Nat.zero_mul _
  | succ m ih =>
    intro h
    show zn (fun w => g (ko w)) m + g (ko m) = _
    rw [ih (fun w hw => h w (by omega)), ← zn_one (h m (by omega)) g, ← zn_add]
    apply zn_congr
    intro k _
    show _ = (zkc ko m k + (if ko m = k then 1 else 0)) * g k
    rw [Nat.add_mul]
theorem zn_w3 {ko : Nat → Nat} {K m : Nat} (h : ∀ w, w < m → ko w < K) (g : Nat → Nat → Nat → Nat) : zn (fun a => zn (fun b => zn (fun c => g (ko a) (ko b) (ko c)) m) m) m = zn (fun a => zn (fun b => zn (fun c => zkc ko m a * zkc ko m b * zkc ko m c * g a b c) K) K) K := by
  have h1 : ∀ a b, zn (fun c => g a b (ko c)) m = zn (fun c => zkc ko m c * g a b c) K := fun a b => zn_kind (fun c => g a b c) m h
  have h2 : ∀ a, zn (fun b => zn (fun c => zkc ko m c * g a (ko b) c) K) m = zn (fun b => zkc ko m b * zn (fun c => zkc ko m c * g a b c) K) K := fun a => zn_kind (fun b => zn (fun c => zkc ko m c * g a b c) K) m h
  have h3 := zn_kind (fun a => zn (fun b => zkc ko m b * zn (fun c => zkc ko m c * g a b c) K) K) m h
  have e1 : zn (fun a => zn (fun b => zn (fun c => g (ko a) (ko b) (ko c)) m) m) m = zn (fun a => zn (fun b => zn (fun c => zkc ko m c * g (ko a) (ko b) c) K) m) m :=
    zn_congr (fun a _ => zn_congr (fun b _ => h1 (ko a) (ko b)))
  have e2 : zn (fun a => zn (fun b => zn (fun c => zkc ko m c * g (ko a) (ko b) c) K) m) m = zn (fun a => zn (fun b => zkc ko m b * zn (fun c => zkc ko m c * g (ko a) b c) K) K) m :=
    zn_congr (fun a _ => h2 (ko a))
  rw [e1, e2, h3]
  apply zn_congr
  intro a _
  rw [← zn_mul]
  apply zn_congr
  intro b _
  rw [← zn_mul, ← zn_mul]
  apply zn_congr
  intro c _
  rw [Nat.mul_assoc, Nat.mul_assoc]
theorem zn_tot {ko : Nat → Nat} {K : Nat} (hK : 0 < K) (h : ∀ w, w < 15 → ko w < K) (g : Nat → Nat → Nat → Nat) :
    zn (fun n => g (ko (n / 225)) (ko (n / 15 % 15)) (ko (n % 15))) 3375 = zn (fun x => zkc ko 15 (x / (K * K)) * zkc ko 15 (x / K % K) * zkc ko 15 (x % K) * g (x / (K * K)) (x / K % K) (x % K)) (K * K * K) := by
  have h1 := zn_3 (K := 15) (by decide) (fun a b c => g (ko a) (ko b) (ko c))
  have h2 := zn_3 hK (fun a b c => zkc ko 15 a * zkc ko 15 b * zkc ko 15 c * g a b c)
  try dsimp only at h1 h2
  rw [h2, ← zn_w3 h g, ← h1]
/-- a triple of digits as one number -/
theorem zd_dig {K a b c : Nat} (ha : a < K) (hb : b < K) (hc : c < K) : (a * K + b) * K + c < K * K * K ∧ ((a * K + b) * K + c) / (K * K) = a ∧ ((a * K + b) * K + c) / K % K = b ∧ ((a * K + b) * K + c) % K = c := by
  have hK : 0 < K := by omega
  have e1 : ((a * K + b) * K + c) / K = a * K + b := by
    rw [Nat.add_comm, Nat.add_mul_div_right _ _ hK, Nat.div_eq_of_lt hc, Nat.zero_add]
  have e2 : (a * K + b) / K = a := by
    rw [Nat.add_comm, Nat.add_mul_div_right _ _ hK, Nat.div_eq_of_lt hb, Nat.zero_add]
  have l1 : a * K + b < K * K := by
    have : (a + 1) * K ≤ K * K := Nat.mul_le_mul_right K ha
    rw [Nat.succ_mul] at this; omega
  refine ⟨?_, ?_, ?_, ?_⟩
  · have : (a * K + b + 1) * K ≤ K * K * K := Nat.mul_le_mul_right K l1
    rw [Nat.succ_mul] at this; omega
  · rw [← Nat.div_div_eq_div_mul, e1, e2]
  · rw [e1, Nat.add_comm, Nat.add_mul_mod_self_right, Nat.mod_eq_of_lt hb]
  · rw [Nat.add_comm, Nat.add_mul_mod_self_right, Nat.mod_eq_of_lt hc]
theorem zd_und {K x : Nat} (hx : x < K * K * K) : x / (K * K) < K ∧ x / K % K < K ∧ x % K < K := by
  have hK : 0 < K := by
    rcases Nat.eq_zero_or_pos K with z | z
    · rw [z] at hx; exact absurd hx (Nat.not_lt_zero _)
    · exact z
  refine ⟨?_, Nat.mod_lt _ hK, Nat.mod_lt _ hK⟩
  rw [Nat.div_lt_iff_lt_mul (Nat.mul_pos hK hK)]
  rw [← Nat.mul_assoc]; exact hx
end
section
/-! X: a slot's pattern; a step of a state, of a set; whether a set ends -/
def zt (l : Nat) : Nat := if l = 2 then 3 else 2 ^ l
theorem zt_bit : ∀ l, l < 3 → ∀ c, c < 2 → (zt l).testBit c = (l == 2 || l == c) := by decide
theorem zt_lt {l : Nat} (h : l < 3) : zt l < 4 := (by decide : ∀ l, l < 3 → zt l < 4) l h
def zx_P (a_sizes a_hasEmpty a_firstSet a_lastSet a_takes a_behind : Nat → Int32) (s : Nat) (P : PT) : Prop :=
  a_sizes s = nI (zp_n P) ∧ a_hasEmpty s = zb_i (zp_e P) ∧ a_firstSet s = nI (zp_F P) ∧ a_lastSet s = nI (zp_L P) ∧ ∀ p, p < zp_n P → a_takes (6 * s + p) = nI (zt (zp_l P p)) ∧ a_behind (6 * s + p) = nI (zp_B P p)
def zx_can (a_firstSet a_behind : Nat → Int32) (k s : Nat) : Int32 := if s = 0 then a_firstSet k else a_behind (6 * k + s - 1)
section
variable {f_height f_signs f_demands f_bounds f_isSolved f_kinds f_solutionCount f_leastSum f_found : Int32} {a_sizes a_hasEmpty a_firstSet a_lastSet a_takes a_behind a_sign a_demandSigns a_demandSign a_demandPattern a_demandKept a_factor a_limit a_lengthOf a_lettersOf a_action a_kindWord a_kindCount a_kindOf a_kindAction a_countOfSum a_lengthSet a_kindSet a_firstWord a_foundSet a_numberOf a_stepTo a_group a_nextGroup a_counts a_isPair a_pairQueue a_chosen : Nat → Int32}
variable {k : Nat} {P : PT}
theorem zx_34 {post : Int32 → Prop} {can : Int32} {c : Nat} (hk : k < 8) (hc : c < 2) (W : zp_W P) (H : zx_P a_sizes a_hasEmpty a_firstSet a_lastSet a_takes a_behind k P) (hp : post (nI (zx_st P can c))) :
    ∀ n p, p ≤ zp_n P → zp_n P < n + p → wX_stepState_34 post (nI k) (nI c) can f_height f_signs f_demands f_bounds f_isSolved f_kinds f_solutionCount f_leastSum f_found a_sizes a_hasEmpty a_firstSet a_lastSet a_takes a_behind a_sign a_demandSigns a_demandSign a_demandPattern a_demandKept a_factor a_limit a_lengthOf a_lettersOf a_action a_kindWord a_kindCount a_kindOf a_kindAction a_countOfSum a_lengthSet a_kindSet a_firstWord a_foundSet a_numberOf a_stepTo a_group a_nextGroup a_counts a_isPair a_pairQueue a_chosen n (nI (zo (fun p => if zx_cb can p && zp_fit P p c then 2 * 2 ^ p else 0) p)) (nI p) := by
  intro n
  induction n with
  | zero => intro p h1 h2; omega
  | succ n ih =>
    intro p h1 h2
    have hn := W.1
    rw [wX_stepState_34]
    refine And.intro (vp_in_nI hk (by decide)) ?_
    rw [nI_clamp (show k < 2 ^ 31 by omega), H.1]
    refine pk_le (zp_n P) p (fun h => ?_) (fun h => ?_)
    · have e : p = zp_n P := by omega
      rw [e]; exact hp
    · have ih' := ih (p + 1) (by omega) (by omega)
      have hT := H.2.2.2.2 p h
      have hl := (W.2.2.2 p h).1
      have hfit : zp_fit P p c = (zt (zp_l P p)).testBit c := (zt_bit _ hl c hc).symm
      have hz : zt (zp_l P p) < 2 ^ 31 := Nat.lt_trans (zt_lt hl) (by decide)
      refine br_c (fun hb => ?_) (fun hb => ?_)
      · have hb' : zx_cb can p = true := decide_eq_true hb
        rw [zb_6]
        refine And.intro (vp_in_nI (by omega) (by decide)) ?_
        rw [nI_clamp (show 6 * k + p < 2 ^ 31 by omega), hT.1]
        refine br_c (fun ht => ?_) (fun ht => ?_)
        · rw [zb_bit hz (by omega)] at ht
          rw [wX_stepState_81]
          refine br_f zb_10 (nm_r ?_ (nm_r (nI_1 p) ih'))
          show _ = nI (_ ||| (if zx_cb can p && zp_fit P p c then 2 * 2 ^ p else 0))
          rw [hb', hfit, ht, show (2 : Int32) = nI 2 from rfl, zb_shl (by omega) (by
            have : 2 ^ p ≤ 2 ^ 6 := Nat.pow_le_pow_right (by decide) (by omega)
            omega), zb_or]
          rfl
        · rw [zb_bit hz (by omega)] at ht
          rw [wX_stepState_80, wX_stepState_81]
          refine br_t rfl (nm_r (nI_1 p) ?_)
          have e : zo (fun p => if zx_cb can p && zp_fit P p c then 2 * 2 ^ p else 0) (p + 1) = zo (fun p => if zx_cb can p && zp_fit P p c then 2 * 2 ^ p else 0) p := by
            show _ ||| (if zx_cb can p && zp_fit P p c then 2 * 2 ^ p else 0) = _
            rw [hfit, if_neg (by rw [Bool.and_eq_true]; exact fun z => ht z.2), Nat.or_zero]
          rw [e] at ih'
          exact ih'
      · have hb' : zx_cb can p = false := decide_eq_false hb
        rw [wX_stepState_80, wX_stepState_81]
        refine br_t rfl (nm_r (nI_1 p) ?_)
        have e : zo (fun p => if zx_cb can p && zp_fit P p c then 2 * 2 ^ p else 0) (p + 1) = zo (fun p => if zx_cb can p && zp_fit P p c then 2 * 2 ^ p else 0) p := by
          show _ ||| (if zx_cb can p && zp_fit P p c then 2 * 2 ^ p else 0) = _
          rw [hb', Bool.false_and, if_neg (by decide), Nat.or_zero]
        rw [e] at ih'
        exact ih'
theorem zx_state {post : Int32 → Prop} {s c : Nat} (hk : k < 8) (hs : s < 7) (hc : c < 2) (W : zp_W P) (H : zx_P a_sizes a_hasEmpty a_firstSet a_lastSet a_takes a_behind k P) (hp : post (nI (zx_st P (zx_can a_firstSet a_behind k s) c))) :
    wpX_stepState post (f_height, f_signs, f_demands, f_bounds, f_isSolved, f_kinds, f_solutionCount, f_leastSum, f_found, a_sizes, a_hasEmpty, a_firstSet, a_lastSet, a_takes, a_behind, a_sign, a_demandSigns, a_demandSign, a_demandPattern, a_demandKept, a_factor, a_limit, a_lengthOf, a_lettersOf, a_action, a_kindWord, a_kindCount, a_kindOf, a_kindAction, a_countOfSum, a_lengthSet, a_kindSet, a_firstWord, a_foundSet, a_numberOf, a_stepTo, a_group, a_nextGroup, a_counts, a_isPair, a_pairQueue, a_chosen) (nI k) (nI s) (nI c) := by
  have hn := W.1
  refine pk_eq s 0 (fun h => ?_) (fun h => ?_)
  · refine And.intro (vp_in_nI hk (by decide)) (nm_e ⟨_, zx_34 hk hc W H (c := c) ?_ (zp_n P + 1) 0 (by omega) (by omega)⟩)
    rw [nI_clamp (show k < 2 ^ 31 by omega)]
    rw [zx_can, if_pos h] at hp
    exact hp
  · have e : 6 * nI k + nI s - 1 = nI (6 * k + s - 1) := by
      rw [zb_6]; exact pk_sub (b := 1) (by omega)
    rw [e]
    refine And.intro (vp_in_nI (by omega) (by decide)) (nm_e ⟨_, zx_34 hk hc W H (c := c) ?_ (zp_n P + 1) 0 (by omega) (by omega)⟩)
    rw [nI_clamp (show 6 * k + s - 1 < 2 ^ 31 by omega)]
    rw [zx_can, if_neg h] at hp
    exact hp
theorem zx_6 {post : Int32 → Prop} {set c : Nat} (hk : k < 8) (hc : c < 2) (hset : set < 2 ^ 31) (W : zp_W P) (H : zx_P a_sizes a_hasEmpty a_firstSet a_lastSet a_takes a_behind k P) (hp : post (nI (zx_ss P (zx_can a_firstSet a_behind k) set c))) :
    ∀ n s, s ≤ 7 → 7 < n + s → wX_stepSet_6 post (nI k) (nI set) (nI c) f_height f_signs f_demands f_bounds f_isSolved f_kinds f_solutionCount f_leastSum f_found a_sizes a_hasEmpty a_firstSet a_lastSet a_takes a_behind a_sign a_demandSigns a_demandSign a_demandPattern a_demandKept a_factor a_limit a_lengthOf a_lettersOf a_action a_kindWord a_kindCount a_kindOf a_kindAction a_countOfSum a_lengthSet a_kindSet a_firstWord a_foundSet a_numberOf a_stepTo a_group a_nextGroup a_counts a_isPair a_pairQueue a_chosen n (nI (zo (fun s => if set.testBit s then zx_st P (zx_can a_firstSet a_behind k s) c else 0) s)) (nI s) := by
  intro n
  induction n with
  | zero => intro s h1 h2; omega
  | succ n ih =>
    intro s h1 h2
    rw [wX_stepSet_6]
    refine pk_le 7 s (fun h => ?_) (fun h => ?_)
    · have e : s = 7 := by omega
      rw [e]; exact hp
    · have ih' := ih (s + 1) (by omega) (by omega)
      rw [zb_bit hset (by omega)]
      refine br_c (fun hb => ?_) (fun hb => ?_)
      · refine zx_state hk h hc W H (nm_r ?_ (nm_r (nI_1 s) ih'))
        show _ = nI (_ ||| (if set.testBit s then zx_st P (zx_can a_firstSet a_behind k s) c else 0))
        rw [if_pos hb, zb_or]
      · refine nm_r (nI_1 s) ?_
        have e : zo (fun s => if set.testBit s then zx_st P (zx_can a_firstSet a_behind k s) c else 0) (s + 1) = zo (fun s => if set.testBit s then zx_st P (zx_can a_firstSet a_behind k s) c else 0) s := by
          show _ ||| (if set.testBit s then zx_st P (zx_can a_firstSet a_behind k s) c else 0) = _
          rw [if_neg hb, Nat.or_zero]
        rw [e] at ih'
        exact ih'
theorem zx_set {post : Int32 → Prop} {set c : Nat} (hk : k < 8) (hc : c < 2) (hset : set < 2 ^ 31) (W : zp_W P) (H : zx_P a_sizes a_hasEmpty a_firstSet a_lastSet a_takes a_behind k P) (hp : post (nI (zx_ss P (zx_can a_firstSet a_behind k) set c))) :
    wpX_stepSet post (f_height, f_signs, f_demands, f_bounds, f_isSolved, f_kinds, f_solutionCount, f_leastSum, f_found, a_sizes, a_hasEmpty, a_firstSet, a_lastSet, a_takes, a_behind, a_sign, a_demandSigns, a_demandSign, a_demandPattern, a_demandKept, a_factor, a_limit, a_lengthOf, a_lettersOf, a_action, a_kindWord, a_kindCount, a_kindOf, a_kindAction, a_countOfSum, a_lengthSet, a_kindSet, a_firstWord, a_foundSet, a_numberOf, a_stepTo, a_group, a_nextGroup, a_counts, a_isPair, a_pairQueue, a_chosen) (nI k) (nI set) (nI c) := ⟨8, zx_6 hk hc hset W H hp 8 0 (by omega) (by omega)⟩
/-- a good set's step -/
theorem zx_setg {post : Int32 → Prop} {t c : Nat} (hk : k < 8) (hc : c < 2) (W : zp_W P) (H : zx_P a_sizes a_hasEmpty a_firstSet a_lastSet a_takes a_behind k P) (G : zg P t) (hp : post (nI (zu (zp_d P t c)))) :
    wpX_stepSet post (f_height, f_signs, f_demands, f_bounds, f_isSolved, f_kinds, f_solutionCount, f_leastSum, f_found, a_sizes, a_hasEmpty, a_firstSet, a_lastSet, a_takes, a_behind, a_sign, a_demandSigns, a_demandSign, a_demandPattern, a_demandKept, a_factor, a_limit, a_lengthOf, a_lettersOf, a_action, a_kindWord, a_kindCount, a_kindOf, a_kindAction, a_countOfSum, a_lengthSet, a_kindSet, a_firstWord, a_foundSet, a_numberOf, a_stepTo, a_group, a_nextGroup, a_counts, a_isPair, a_pairQueue, a_chosen) (nI k) (nI (zu t)) (nI c) := by
  refine zx_set hk hc (Nat.lt_trans (zu_lt G.1) (by decide)) W H ?_
  rw [zx_ss_eq W (H.2.2.1) (fun p hp => (H.2.2.2.2 p hp).2) G]
  exact hp
theorem zx_end {post : Int32 → Prop} {t : Nat} (hk : k < 8) (ht : t < 128) (W : zp_W P) (H : zx_P a_sizes a_hasEmpty a_firstSet a_lastSet a_takes a_behind k P) (hp : post (zb_i (zp_a P t))) :
    wpX_isEnd post (f_height, f_signs, f_demands, f_bounds, f_isSolved, f_kinds, f_solutionCount, f_leastSum, f_found, a_sizes, a_hasEmpty, a_firstSet, a_lastSet, a_takes, a_behind, a_sign, a_demandSigns, a_demandSign, a_demandPattern, a_demandKept, a_factor, a_limit, a_lengthOf, a_lettersOf, a_action, a_kindWord, a_kindCount, a_kindOf, a_kindAction, a_countOfSum, a_lengthSet, a_kindSet, a_firstWord, a_foundSet, a_numberOf, a_stepTo, a_group, a_nextGroup, a_counts, a_isPair, a_pairQueue, a_chosen) (nI k) (nI (zu t)) := by
  have hu := zu_lt ht
  have hL : zp_L P < 64 := Nat.lt_of_lt_of_le W.2.2.1 (zp_p2 W.1)
  have hla : t &&& zp_L P < 2 ^ 6 := Nat.lt_of_le_of_lt Nat.and_le_right hL
  have e1 : nI (zu t) >>> ((1 : Int32) &&& 31) &&& nI (zp_L P) = nI (t &&& zp_L P) := by
    rw [zb_shr1 (by omega), zu_half t ht, nx_and, zp_land W]
  have e2 : nI (zu t) &&& 1 = nI (t / 64) := by rw [zb_and1, zu_mod t ht]
  refine And.intro (vp_in_nI hk (by decide)) ?_
  rw [nI_clamp (show k < 2 ^ 31 by omega), H.2.2.2.1, H.2.1, e1, e2]
  unfold zp_a at hp
  refine pk_eq (t &&& zp_L P) 0 (fun h => ?_) (fun h => ?_)
  · rw [h, decide_eq_true rfl, Bool.not_true, Bool.false_or] at hp
    refine pk_eq (t / 64) 1 (fun h6 => ?_) (fun h6 => ?_)
    · rw [(zb_t6 t ht).mpr h6, Bool.true_and] at hp
      refine And.intro (vp_in_nI hk (by decide)) ?_
      refine br_c (fun z => ?_) (fun z => ?_)
      · rw [zb_i0.mp z] at hp; exact hp
      · have : zp_e P = true := by
          cases e : zp_e P with
          | false => exact absurd (zb_i0.mpr e) z
          | true => rfl
        rw [this] at hp; exact hp
    · have : t.testBit 6 = false := by
        cases e : t.testBit 6 with
        | false => rfl
        | true => exact absurd ((zb_t6 t ht).mp e) h6
      rw [this, Bool.false_and] at hp
      exact hp
  · rw [decide_eq_false h, Bool.not_false, Bool.true_or] at hp
    exact hp
end
end
section
/-! Y: a slot's pattern; a step; the table of steps; whether a set ends -/
def zy_P (b_sizes b_empties b_firsts b_lasts b_letters b_behinds : Nat → Int32) (s : Nat) (P : PT) : Prop :=
  b_sizes s = nI (zp_n P) ∧ b_empties s = zb_i (zp_e P) ∧ b_firsts s = nI (zp_F P) ∧ b_lasts s = nI (zp_L P) ∧ ∀ p, p < zp_n P → b_letters (6 * s + p) = nI (zp_l P p) ∧ b_behinds (6 * s + p) = nI (zp_B P p)
/-- clearing a bit -/
def zb_cl (a i : Nat) : Nat := a &&& (2 ^ i ^^^ (2 ^ 32 - 1))
theorem zb_clI (a : Nat) {i : Nat} (hi : i < 31) : nI a &&& (((1 : Int32) <<< (nI i &&& 31)) ^^^ (-1)) = nI (zb_cl a i) := by
  have h : 1 * 2 ^ i < 2 ^ 32 := by rw [Nat.one_mul]; exact Nat.pow_lt_pow_right (by decide) (by omega)
  have e := zb_shl (a := 1) (k := i) (by omega) h
  rw [Nat.one_mul] at e
  rw [show (-1 : Int32) = nI (2 ^ 32 - 1) from by decide, show (1 : Int32) = nI 1 from rfl, e, nx_xor, nx_and]
  rfl
theorem zb_cl_bit {a i : Nat} (ha : a < 2 ^ 31) (j : Nat) : (zb_cl a i).testBit j = true ↔ a.testBit j = true ∧ ¬ i = j := by
  unfold zb_cl
  rw [Nat.testBit_and, Nat.testBit_xor, Nat.testBit_two_pow, Nat.testBit_two_pow_sub_one, Bool.and_eq_true]
  constructor
  · rintro ⟨h1, h2⟩
    refine ⟨h1, fun z => ?_⟩
    have := zb_blt ha h1
    rw [decide_eq_true z, decide_eq_true (show j < 32 by omega)] at h2
    exact absurd h2 (by decide)
  · rintro ⟨h1, h2⟩
    have := zb_blt ha h1
    rw [decide_eq_false h2, decide_eq_true (show j < 32 by omega)]
    exact ⟨h1, rfl⟩
theorem zb_cl_lt {a i n : Nat} (h : a < 2 ^ n) : zb_cl a i < 2 ^ n := Nat.lt_of_le_of_lt Nat.and_le_left h
section
variable {g_depth g_termLength g_demands g_boundCount g_known g_found g_least : Int32} {b_sizes b_empties b_firsts b_lasts b_letters b_behinds b_steps b_term b_patterns b_kepts b_signs b_signCounts b_bounds b_firstWords b_sums b_met b_tried b_seen b_apart b_counts b_next : Nat → Int32}
variable {k : Nat} {P : PT}
theorem zy_74 {post : Int32 → Prop} {t c : Nat} (hk : k < 8) (hc : c < 2) (W : zp_W P) (H : zy_P b_sizes b_empties b_firsts b_lasts b_letters b_behinds k P) (hp : post (nI (zp_d P t c))) :
    ∀ n p a, p ≤ zp_n P → zp_n P < n + p → a < 2 ^ 31 → (∀ j, a.testBit j = true ↔ (zp_to P t).testBit j = true ∧ (j < p → zp_fit P j c = true)) → wY_step_74 post (nI k) (nI c) g_depth g_termLength g_demands g_boundCount g_known g_found g_least b_sizes b_empties b_firsts b_lasts b_letters b_behinds b_steps b_term b_patterns b_kepts b_signs b_signCounts b_bounds b_firstWords b_sums b_met b_tried b_seen b_apart b_counts b_next n (nI a) (nI p) := by
  intro n
  induction n with
  | zero => intro p a h1 h2; omega
  | succ n ih =>
    intro p a h1 h2 ha hI
    have hn := W.1
    rw [wY_step_74]
    refine And.intro (vp_in_nI hk (by decide)) ?_
    rw [nI_clamp (show k < 2 ^ 31 by omega), H.1]
    refine pk_le (zp_n P) p (fun h => ?_) (fun h => ?_)
    · have e : p = zp_n P := by omega
      have : a = zp_d P t c := zb_bext fun j => by
        rw [hI j, zp_d_bit]
        constructor
        · rintro ⟨g1, g2⟩
          have hj := zb_blt (zp_to_lt W t) g1
          exact ⟨hj, g1, g2 (by omega)⟩
        · rintro ⟨g1, g2, g3⟩
          exact ⟨g2, fun _ => g3⟩
      rw [this]; exact hp
    · have hT := H.2.2.2.2 p h
      have hl := (W.2.2.2 p h).1
      have keep : zp_fit P p c = true → wY_step_74 post (nI k) (nI c) g_depth g_termLength g_demands g_boundCount g_known g_found g_least b_sizes b_empties b_firsts b_lasts b_letters b_behinds b_steps b_term b_patterns b_kepts b_signs b_signCounts b_bounds b_firstWords b_sums b_met b_tried b_seen b_apart b_counts b_next n (nI a) (nI (p + 1)) := fun hf => by
        refine ih (p + 1) a (by omega) (by omega) ha (fun j => ?_)
        rw [hI j]
        constructor
        · rintro ⟨g1, g2⟩
          refine ⟨g1, fun z => ?_⟩
          by_cases e : j = p
          · rw [e]; exact hf
          · exact g2 (by omega)
        · rintro ⟨g1, g2⟩
          exact ⟨g1, fun z => g2 (by omega)⟩
      rw [zb_6]
      refine And.intro (vp_in_nI (by omega) (by decide)) ?_
      rw [nI_clamp (show 6 * k + p < 2 ^ 31 by omega), hT.1]
      refine pk_eq (zp_l P p) 2 (fun e2 => ?_) (fun e2 => ?_)
      · rw [wY_step_117, wY_step_122]
        refine br_f zb_10 (nm_r (nI_1 p) (keep ?_))
        unfold zp_fit; rw [e2]; rfl
      · refine And.intro (vp_in_nI (by omega) (by decide)) ?_
        refine pk_eq (zp_l P p) c (fun ec => ?_) (fun ec => ?_)
        · rw [wY_step_117, wY_step_122]
          refine br_f zb_10 (nm_r (nI_1 p) (keep ?_))
          unfold zp_fit; rw [ec, beq_self_eq_true, Bool.or_true]
        · rw [wY_step_122]
          refine br_t rfl (nm_r (zb_clI a (by omega)) (nm_r (nI_1 p) (ih (p + 1) _ (by omega) (by omega) (zb_cl_lt ha) (fun j => ?_))))
          have hf : zp_fit P p c = false := by
            unfold zp_fit
            rw [Bool.or_eq_false_iff]
            exact ⟨beq_eq_false_iff_ne.mpr e2, beq_eq_false_iff_ne.mpr ec⟩
          rw [zb_cl_bit ha, hI j]
          constructor
          · rintro ⟨⟨g1, g2⟩, g3⟩
            exact ⟨g1, fun z => g2 (by omega)⟩
          · rintro ⟨g1, g2⟩
            refine ⟨⟨g1, fun z => g2 (by omega)⟩, fun z => ?_⟩
            have := g2 (by omega)
            rw [← z, hf] at this
            exact absurd this (by decide)
theorem zy_22 {post : Int32 → Prop} {t c a0 : Nat} (hk : k < 8) (hc : c < 2) (ht : t < 128) (W : zp_W P) (H : zy_P b_sizes b_empties b_firsts b_lasts b_letters b_behinds k P) (h0 : a0 = if t.testBit 6 then zp_F P else 0) (hp : post (nI (zp_d P t c))) :
    ∀ n p, p ≤ zp_n P → zp_n P < n + p → wY_step_22 post (nI k) (nI t) (nI c) g_depth g_termLength g_demands g_boundCount g_known g_found g_least b_sizes b_empties b_firsts b_lasts b_letters b_behinds b_steps b_term b_patterns b_kepts b_signs b_signCounts b_bounds b_firstWords b_sums b_met b_tried b_seen b_apart b_counts b_next n (nI (a0 ||| zo (fun i => if t.testBit i then zp_B P i else 0) p)) (nI p) := by
  intro n
  induction n with
  | zero => intro p h1 h2; omega
  | succ n ih =>
    intro p h1 h2
    have hn := W.1
    rw [wY_step_22]
    refine And.intro (vp_in_nI hk (by decide)) ?_
    rw [nI_clamp (show k < 2 ^ 31 by omega), H.1]
    refine pk_le (zp_n P) p (fun h => ?_) (fun h => ?_)
    · have e : p = zp_n P := by omega
      have e2 : a0 ||| zo (fun i => if t.testBit i then zp_B P i else 0) p = zp_to P t := by rw [e, h0]; rfl
      rw [e2]
      refine ⟨zp_n P + 1, zy_74 hk hc W H hp (zp_n P + 1) 0 _ (by omega) (by omega) (Nat.lt_trans (zp_to_lt W t) ?_) (fun j => ⟨fun g => ⟨g, fun z => absurd z (Nat.not_lt_zero j)⟩, fun g => g.1⟩)⟩
      exact Nat.lt_of_le_of_lt (zp_p2 W.1) (by decide)
    · have ih' := ih (p + 1) (by omega) (by omega)
      have hT := H.2.2.2.2 p h
      rw [zb_bit (show t < 2 ^ 31 by omega) (by omega)]
      refine br_c (fun hb => ?_) (fun hb => ?_)
      · rw [zb_6]
        refine And.intro (vp_in_nI (by omega) (by decide)) (nm_r ?_ (nm_r (nI_1 p) ih'))
        rw [nI_clamp (show 6 * k + p < 2 ^ 31 by omega), hT.2]
        show _ = nI (_ ||| (_ ||| (if t.testBit p then zp_B P p else 0)))
        rw [if_pos hb, zb_or, Nat.or_assoc]
      · refine nm_r (nI_1 p) ?_
        have e : zo (fun i => if t.testBit i then zp_B P i else 0) (p + 1) = zo (fun i => if t.testBit i then zp_B P i else 0) p := by
          show _ ||| (if t.testBit p then zp_B P p else 0) = _
          rw [if_neg hb, Nat.or_zero]
        rw [e] at ih'
        exact ih'
theorem zy_step {post : Int32 → Prop} {t c : Nat} (hk : k < 8) (hc : c < 2) (ht : t < 128) (W : zp_W P) (H : zy_P b_sizes b_empties b_firsts b_lasts b_letters b_behinds k P) (hp : post (nI (zp_d P t c))) :
    wpY_step post (g_depth, g_termLength, g_demands, g_boundCount, g_known, g_found, g_least, b_sizes, b_empties, b_firsts, b_lasts, b_letters, b_behinds, b_steps, b_term, b_patterns, b_kepts, b_signs, b_signCounts, b_bounds, b_firstWords, b_sums, b_met, b_tried, b_seen, b_apart, b_counts, b_next) (nI k) (nI t) (nI c) := by
  have e : nI t &&& 64 = nI (t &&& 64) := nx_and t 64
  have hl : t &&& 64 < 2 ^ 31 := Nat.lt_of_le_of_lt Nat.and_le_left (by omega)
  show ((nI t &&& 64) = 0 → _) ∧ (¬ (nI t &&& 64) = 0 → _)
  rw [e]
  refine pk_eq (t &&& 64) 0 (fun h => ?_) (fun h => ?_)
  · have h6 := (zb_a64 t ht).mp h
    refine ⟨zp_n P + 1, ?_⟩
    have Z := zy_22 (g_depth := g_depth) (g_termLength := g_termLength) (g_demands := g_demands) (g_boundCount := g_boundCount) (g_known := g_known) (g_found := g_found) (g_least := g_least) (b_sizes := b_sizes) (b_empties := b_empties) (b_firsts := b_firsts) (b_lasts := b_lasts) (b_letters := b_letters) (b_behinds := b_behinds) (b_steps := b_steps) (b_term := b_term) (b_patterns := b_patterns) (b_kepts := b_kepts) (b_signs := b_signs) (b_signCounts := b_signCounts) (b_bounds := b_bounds) (b_firstWords := b_firstWords) (b_sums := b_sums) (b_met := b_met) (b_tried := b_tried) (b_seen := b_seen) (b_apart := b_apart) (b_counts := b_counts) (b_next := b_next) (a0 := 0) hk hc ht W H (by rw [h6]; rfl) hp (zp_n P + 1) 0 (by omega) (by omega)
    rw [Nat.zero_or] at Z
    exact Z
  · have h6 : t.testBit 6 = true := by
      cases e : t.testBit 6 with
      | true => rfl
      | false => exact absurd ((zb_a64 t ht).mpr e) h
    refine And.intro (vp_in_nI hk (by decide)) (nm_r (e' := nI (zp_F P ||| 0)) ?_ ⟨zp_n P + 1, ?_⟩)
    · rw [nI_clamp (show k < 2 ^ 31 by omega), H.2.2.1, Nat.or_zero]
    · exact zy_22 (a0 := zp_F P) hk hc ht W H (by rw [h6]; rfl) hp (zp_n P + 1) 0 (by omega) (by omega)
/-- the table of steps of pattern k -/
def zy_T (b_steps : Nat → Int32) (k : Nat) (P : PT) : Prop := ∀ t c, t < 128 → c < 2 → b_steps (256 * k + 2 * t + c) = nI (zp_d P t c)
theorem zy_make {post : SY → Prop} (hk : k < 3) (W : zp_W P) (H : zy_P b_sizes b_empties b_firsts b_lasts b_letters b_behinds (5 + k) P) (hp : ∀ st, zy_T st k P → (∀ j, j < 256 * k ∨ 256 * k + 256 ≤ j → st j = b_steps j) → post (g_depth, g_termLength, g_demands, g_boundCount, 0, g_found, g_least, b_sizes, b_empties, b_firsts, b_lasts, b_letters, b_behinds, st, b_term, b_patterns, b_kepts, b_signs, b_signCounts, b_bounds, b_firstWords, b_sums, b_met, b_tried, b_seen, b_apart, b_counts, b_next)) :
    wpY_makeSteps post (g_depth, g_termLength, g_demands, g_boundCount, g_known, g_found, g_least, b_sizes, b_empties, b_firsts, b_lasts, b_letters, b_behinds, b_steps, b_term, b_patterns, b_kepts, b_signs, b_signCounts, b_bounds, b_firstWords, b_sums, b_met, b_tried, b_seen, b_apart, b_counts, b_next) (nI k) := by
  refine loop_0 (fun n i st => wY_makeSteps_2 post (nI k) g_depth g_termLength g_demands g_boundCount g_known g_found g_least n (nI i) b_sizes b_empties b_firsts b_lasts b_letters b_behinds st b_term b_patterns b_kepts b_signs b_signCounts b_bounds b_firstWords b_sums b_met b_tried b_seen b_apart b_counts b_next) (fun i st => (∀ t c, c < 2 → 2 * t + c < i → st (256 * k + 2 * t + c) = nI (zp_d P t c)) ∧ (∀ j, j < 256 * k ∨ 256 * k + 256 ≤ j → st j = b_steps j)) 256 b_steps ⟨fun t c _ h => absurd h (by omega), fun _ _ => rfl⟩ ?_ ?_
  · rintro n st ⟨h1, h2⟩
    show wY_makeSteps_2 post (nI k) g_depth g_termLength g_demands g_boundCount g_known g_found g_least (n + 1) (nI 256) b_sizes b_empties b_firsts b_lasts b_letters b_behinds st b_term b_patterns b_kepts b_signs b_signCounts b_bounds b_firstWords b_sums b_met b_tried b_seen b_apart b_counts b_next
    rw [wY_makeSteps_2]
    exact br_t (by decide) (hp st (fun t c ht hc => h1 t c hc (by omega)) h2)
  · rintro n i st hi ⟨h1, h2⟩ K
    show wY_makeSteps_2 post (nI k) g_depth g_termLength g_demands g_boundCount g_known g_found g_least (n + 1) (nI i) b_sizes b_empties b_firsts b_lasts b_letters b_behinds st b_term b_patterns b_kepts b_signs b_signCounts b_bounds b_firstWords b_sums b_met b_tried b_seen b_apart b_counts b_next
    rw [wY_makeSteps_2]
    have e1 : nI i / 2 = nI (i / 2) := pk_div (d := 2) (by omega) (by decide) (by decide)
    have e2 : nI i - nI i / 2 * 2 = nI (i % 2) := pk_rem (d := 2) (by omega) (by decide) (by decide)
    have e3 : (256 : Int32) * nI k + nI i = nI (256 * k + i) := by
      show nI 256 * nI k + nI i = _
      rw [pk_mul, nI_add]
    have e4 : (5 : Int32) + nI k = nI (5 + k) := nI_add 5 k
    refine br_f (nI_ge (b := 256) hi (by decide)) (And.intro (by decide) (And.intro (by decide) ?_))
    rw [e2, e1, e3, e4]
    refine zy_step (by omega) (by omega) (by omega) W H (And.intro (vp_in_nI (by omega) (by decide)) (nm_e (nm_r (nI_1 i) (K _ ⟨?_, ?_⟩))))
    · intro t c hc h
      rw [nI_clamp (show 256 * k + i < 2 ^ 31 by omega)]
      by_cases z : 2 * t + c = i
      · rw [show 256 * k + 2 * t + c = 256 * k + i by omega, pk_us, show i / 2 = t by omega, show i % 2 = c by omega]
      · rw [pk_un (by omega)]; exact h1 t c hc (by omega)
    · intro j hj
      rw [nI_clamp (show 256 * k + i < 2 ^ 31 by omega), pk_un (by omega)]
      exact h2 j hj
theorem zy_acc {post : Int32 → Prop} {t : Nat} (hk : k < 3) (ht : t < 128) (W : zp_W P) (H : zy_P b_sizes b_empties b_firsts b_lasts b_letters b_behinds (5 + k) P) (hp : post (zb_i (zp_a P t))) :
    wpY_accepts post (g_depth, g_termLength, g_demands, g_boundCount, g_known, g_found, g_least, b_sizes, b_empties, b_firsts, b_lasts, b_letters, b_behinds, b_steps, b_term, b_patterns, b_kepts, b_signs, b_signCounts, b_bounds, b_firstWords, b_sums, b_met, b_tried, b_seen, b_apart, b_counts, b_next) (nI k) (nI t) := by
  have hL : zp_L P < 64 := Nat.lt_of_lt_of_le W.2.2.1 (zp_p2 W.1)
  have hla : t &&& zp_L P < 2 ^ 6 := Nat.lt_of_le_of_lt Nat.and_le_right hL
  have e4 : (5 : Int32) + nI k = nI (5 + k) := nI_add 5 k
  have e : nI t &&& 64 = nI (t &&& 64) := nx_and t 64
  have hl : t &&& 64 < 2 ^ 31 := Nat.lt_of_le_of_lt Nat.and_le_left (by omega)
  unfold wpY_accepts
  try dsimp only
  rw [e4]
  refine And.intro (vp_in_nI (by omega) (by decide)) ?_
  rw [nI_clamp (show 5 + k < 2 ^ 31 by omega), H.2.2.2.1, H.2.1, nx_and, e]
  unfold zp_a at hp
  refine pk_eq (t &&& zp_L P) 0 (fun h => ?_) (fun h => ?_)
  · rw [h, decide_eq_true rfl, Bool.not_true, Bool.false_or] at hp
    refine pk_eq (t &&& 64) 0 (fun h6 => ?_) (fun h6 => ?_)
    · rw [(zb_a64 t ht).mp h6, Bool.false_and] at hp
      exact hp
    · have : t.testBit 6 = true := by
        cases e : t.testBit 6 with
        | true => rfl
        | false => exact absurd ((zb_a64 t ht).mpr e) h6
      rw [this, Bool.true_and] at hp
      refine And.intro (vp_in_nI (by omega) (by decide)) ?_
      refine br_c (fun z => ?_) (fun z => ?_)
      · rw [zb_i0.mp z] at hp; exact hp
      · have : zp_e P = true := by
          cases e : zp_e P with
          | false => exact absurd (zb_i0.mpr e) z
          | true => rfl
        rw [this] at hp; exact hp
  · rw [decide_eq_false h, Bool.not_false, Bool.true_or] at hp
    exact hp
end
end
section
/-! X: the sets that words lead to, numbered -/
/-- n different numbers below 128, and one more: n < 128 -/
theorem zf_room {N t M : Nat} {e : Nat → Nat} (h1 : ∀ i, i < N → e i < M) (h2 : ∀ i j, i < N → j < N → e i = e j → i = j) (ht : t < M) (h3 : ∀ i, i < N → e i ≠ t) : N < M := by
  apply Classical.byContradiction
  intro c
  obtain ⟨i, j, a, b, g⟩ := zb_php M (fun i => if i < M then e i else t) (fun i hi => by
    show (if i < M then e i else t) < M
    by_cases z : i < M
    · rw [if_pos z]; exact h1 i (by omega)
    · rw [if_neg z]; exact ht)
  try dsimp only at g
  rw [if_pos (show i < M by omega)] at g
  by_cases z : j < M
  · rw [if_pos z] at g
    have := h2 i j (by omega) (by omega) g
    omega
  · rw [if_neg z] at g
    exact h3 i (by omega) g
def zf_S (P : PT) (N : Nat) (e : Nat → Nat) (fs no : Nat → Int32) : Prop :=
  N ≤ 128 ∧ (∀ i, i < N → zr1 P (e i) ∧ e i < 128 ∧ fs i = nI (zu (e i)) ∧ no (zu (e i)) = nI i) ∧ (∀ t, t < 128 → (∃ i, i < N ∧ e i = t) ∨ no (zu t) = -1)
theorem zf_inj {P : PT} {N : Nat} {e : Nat → Nat} {fs no : Nat → Int32} (F : zf_S P N e fs no) : ∀ i j, i < N → j < N → e i = e j → i = j := by
  intro i j hi hj h
  have a := (F.2.1 i hi).2.2.2
  have b := (F.2.1 j hj).2.2.2
  have := F.1
  rw [h, b] at a
  exact ((nI_eq (by omega) (by omega)).mp a).symm
theorem zf_m1 {n : Nat} (h : n < 2 ^ 31) : ¬ nI n = -1 := by
  intro z
  have := congrArg Int32.toInt z
  rw [nI_toInt h, show (-1 : Int32).toInt = -1 from by decide] at this
  omega
def zf_T (P : PT) (N : Nat) (e : Nat → Nat) (st : Nat → Int32) (m : Nat) : Prop := ∀ i c, c < 2 → 2 * i + c < m → ∃ j, j < N ∧ st (2 * i + c) = nI j ∧ e j = zp_d P (e i) c
section
variable {f_height f_signs f_demands f_bounds f_isSolved f_kinds f_solutionCount f_leastSum f_found : Int32} {a_sizes a_hasEmpty a_firstSet a_lastSet a_takes a_behind a_sign a_demandSigns a_demandSign a_demandPattern a_demandKept a_factor a_limit a_lengthOf a_lettersOf a_action a_kindWord a_kindCount a_kindOf a_kindAction a_countOfSum a_lengthSet a_kindSet a_firstWord a_foundSet a_numberOf a_stepTo a_group a_nextGroup a_counts a_isPair a_pairQueue a_chosen : Nat → Int32}
variable {k : Nat} {P : PT} {N : Nat} {e : Nat → Nat}
theorem zx_num {post : Int32 → SX → Prop} {t : Nat} (W : zp_W P) (F : zf_S P N e a_foundSet a_numberOf) (ht : zr1 P t)
    (K : ∀ N' e' fs no i, zf_S P N' e' fs no → N ≤ N' → N' ≤ N + 1 → (∀ j, j < N → e' j = e j) → i < N' → e' i = t → post (nI i) (f_height, f_signs, f_demands, f_bounds, f_isSolved, f_kinds, f_solutionCount, f_leastSum, nI N', a_sizes, a_hasEmpty, a_firstSet, a_lastSet, a_takes, a_behind, a_sign, a_demandSigns, a_demandSign, a_demandPattern, a_demandKept, a_factor, a_limit, a_lengthOf, a_lettersOf, a_action, a_kindWord, a_kindCount, a_kindOf, a_kindAction, a_countOfSum, a_lengthSet, a_kindSet, a_firstWord, fs, no, a_stepTo, a_group, a_nextGroup, a_counts, a_isPair, a_pairQueue, a_chosen)) :
    wpX_numberSet post (f_height, f_signs, f_demands, f_bounds, f_isSolved, f_kinds, f_solutionCount, f_leastSum, nI N, a_sizes, a_hasEmpty, a_firstSet, a_lastSet, a_takes, a_behind, a_sign, a_demandSigns, a_demandSign, a_demandPattern, a_demandKept, a_factor, a_limit, a_lengthOf, a_lettersOf, a_action, a_kindWord, a_kindCount, a_kindOf, a_kindAction, a_countOfSum, a_lengthSet, a_kindSet, a_firstWord, a_foundSet, a_numberOf, a_stepTo, a_group, a_nextGroup, a_counts, a_isPair, a_pairQueue, a_chosen) (nI (zu t)) := by
  have hN := F.1
  have ht2 := (zr1_g W ht).1
  have hu := zu_lt ht2
  have hin : vp_in (nI (zu t)) 128 := vp_in_nI hu (by decide)
  have hcl : (nI (zu t)).toNatClampNeg = zu t := nI_clamp (by omega)
  refine And.intro hin ?_
  rw [hcl]
  by_cases c : ∃ i, i < N ∧ e i = t
  · obtain ⟨i, hi, et⟩ := c
    have hno := (F.2.1 i hi).2.2.2
    rw [et] at hno
    rw [hno]
    exact br_f (zf_m1 (by omega)) (And.intro hin (K N e _ _ i F (Nat.le_refl _) (by omega) (fun _ _ => rfl) hi et))
  · have hne : ∀ i, i < N → e i ≠ t := fun i hi z => c ⟨i, hi, z⟩
    have hno : a_numberOf (zu t) = -1 := by
      rcases F.2.2 t ht2 with z | z
      · exact absurd z c
      · exact z
    have hroom : N < 128 := zf_room (fun i hi => (F.2.1 i hi).2.1) (zf_inj F) ht2 hne
    rw [hno]
    refine br_t rfl (And.intro hin (nm_e (And.intro (vp_in_nI hroom (by decide)) (nm_e (nm_r (nI_1 N) (And.intro hin ?_))))))
    rw [pk_us, nI_clamp (show N < 2 ^ 31 by omega)]
    refine K (N + 1) (fun i => if i < N then e i else t) _ _ N ⟨by omega, ?_, ?_⟩ (by omega) (by omega) (fun j hj => if_pos hj) (by omega) (if_neg (by omega))
    · intro i hi
      show zr1 P (if i < N then e i else t) ∧ (if i < N then e i else t) < 128 ∧ upd a_foundSet N (nI (zu t)) i = nI (zu (if i < N then e i else t)) ∧ upd a_numberOf (zu t) (nI N) (zu (if i < N then e i else t)) = nI i
      by_cases z : i < N
      · obtain ⟨q1, q2, q3, q4⟩ := F.2.1 i z
        rw [if_pos z, pk_un (by omega), pk_un (fun y => hne i z (zu_inj q2 ht2 y))]
        exact ⟨q1, q2, q3, q4⟩
      · have ei : i = N := by omega
        subst ei
        rw [if_neg z, pk_us, pk_us]
        exact ⟨ht, ht2, rfl, rfl⟩
    · intro s hs
      by_cases z : s = t
      · left; exact ⟨N, by omega, (if_neg (by omega)).trans z.symm⟩
      · rcases F.2.2 s hs with ⟨i, hi, es⟩ | q
        · left; exact ⟨i, by omega, (if_pos hi).trans es⟩
        · right
          rw [pk_un (fun y => z (zu_inj hs ht2 y))]
          exact q
theorem zf_Tm {P : PT} {N N' m : Nat} {e e' : Nat → Nat} {st : Nat → Int32} (T : zf_T P N e st m) (hm : m ≤ 2 * N) (h1 : N ≤ N') (h2 : ∀ j, j < N → e' j = e j) : zf_T P N' e' st m := by
  intro i c hc h
  obtain ⟨j, a, b, d⟩ := T i c hc h
  exact ⟨j, by omega, b, by rw [h2 j a, h2 i (by omega)]; exact d⟩
theorem zx_f45 {post : SX → Prop} {i m : Nat} (hk : k < 8) (W : zp_W P) (H : zx_P a_sizes a_hasEmpty a_firstSet a_lastSet a_takes a_behind k P) :
    ∀ n c N e a_foundSet a_numberOf a_stepTo, c ≤ 2 → 2 < n + c → i < N → e 0 = 64 → zf_S P N e a_foundSet a_numberOf → zf_T P N e a_stepTo (2 * i + c) →
    (∀ N' e' fs no st, i < N' → e' 0 = 64 → zf_S P N' e' fs no → zf_T P N' e' st (2 * (i + 1)) → wX_findSets_35 post (nI k) m (nI (i + 1)) f_height f_signs f_demands f_bounds f_isSolved f_kinds f_solutionCount f_leastSum (nI N') a_sizes a_hasEmpty a_firstSet a_lastSet a_takes a_behind a_sign a_demandSigns a_demandSign a_demandPattern a_demandKept a_factor a_limit a_lengthOf a_lettersOf a_action a_kindWord a_kindCount a_kindOf a_kindAction a_countOfSum a_lengthSet a_kindSet a_firstWord fs no st a_group a_nextGroup a_counts a_isPair a_pairQueue a_chosen) →
    wX_findSets_45 post (wX_findSets_35 post (nI k) m) (nI k) (nI i) n (nI c) f_height f_signs f_demands f_bounds f_isSolved f_kinds f_solutionCount f_leastSum (nI N) a_sizes a_hasEmpty a_firstSet a_lastSet a_takes a_behind a_sign a_demandSigns a_demandSign a_demandPattern a_demandKept a_factor a_limit a_lengthOf a_lettersOf a_action a_kindWord a_kindCount a_kindOf a_kindAction a_countOfSum a_lengthSet a_kindSet a_firstWord a_foundSet a_numberOf a_stepTo a_group a_nextGroup a_counts a_isPair a_pairQueue a_chosen := by
  intro n
  induction n with
  | zero => intro c N e fs no st h1 h2; omega
  | succ n ih =>
    intro c N e fs no st h1 h2 hi he F T K
    have hN := F.1
    rw [wX_findSets_45]
    refine pk_le 2 c (fun h => ?_) (fun h => ?_)
    · have ec : c = 2 := by omega
      subst ec
      exact nm_r (nI_1 i) (K N e fs no st hi he F T)
    · refine And.intro (vp_in_nI (by omega) (by decide)) ?_
      obtain ⟨q1, q2, q3, q4⟩ := F.2.1 i hi
      rw [nI_clamp (show i < 2 ^ 31 by omega), q3]
      refine zx_setg hk h W H (zr1_g W q1) (zx_num W F (zr1_s q1 h) (fun N' e' fs' no' j F' l1 l3 l2 hj ej => ?_))
      have e2 : (2 : Int32) * nI i + nI c = nI (2 * i + c) := by
        show nI 2 * nI i + nI c = _
        rw [pk_mul, nI_add]
      have hN' := F'.1
      try dsimp only
      rw [e2]
      refine And.intro (vp_in_nI (by omega) (by decide)) (nm_e (nm_r (nI_1 c) (ih (c + 1) N' e' fs' no' _ (by omega) (by omega) (by omega) (by rw [l2 0 (by omega)]; exact he) F' ?_ K)))
      rw [nI_clamp (show 2 * i + c < 2 ^ 31 by omega)]
      have T' := zf_Tm T (by omega) l1 l2
      intro i' c' hc' h'
      by_cases z : 2 * i' + c' = 2 * i + c
      · have ei : i' = i := by omega
        have ec : c' = c := by omega
        subst ei ec
        exact ⟨j, hj, pk_us, by rw [ej, l2 i' (by omega)]⟩
      · obtain ⟨j', a, b, d⟩ := T' i' c' hc' (by omega)
        exact ⟨j', a, by rw [pk_un z]; exact b, d⟩
theorem zx_f35 {post : SX → Prop} (hk : k < 8) (W : zp_W P) (H : zx_P a_sizes a_hasEmpty a_firstSet a_lastSet a_takes a_behind k P)
    (K : ∀ N e fs no st, 0 < N → e 0 = 64 → zf_S P N e fs no → zf_T P N e st (2 * N) → post (f_height, f_signs, f_demands, f_bounds, f_isSolved, f_kinds, f_solutionCount, f_leastSum, nI N, a_sizes, a_hasEmpty, a_firstSet, a_lastSet, a_takes, a_behind, a_sign, a_demandSigns, a_demandSign, a_demandPattern, a_demandKept, a_factor, a_limit, a_lengthOf, a_lettersOf, a_action, a_kindWord, a_kindCount, a_kindOf, a_kindAction, a_countOfSum, a_lengthSet, a_kindSet, a_firstWord, fs, no, st, a_group, a_nextGroup, a_counts, a_isPair, a_pairQueue, a_chosen)) :
    ∀ n i N e a_foundSet a_numberOf a_stepTo, i ≤ N → 128 < n + i → 0 < N → e 0 = 64 → zf_S P N e a_foundSet a_numberOf → zf_T P N e a_stepTo (2 * i) →
    wX_findSets_35 post (nI k) n (nI i) f_height f_signs f_demands f_bounds f_isSolved f_kinds f_solutionCount f_leastSum (nI N) a_sizes a_hasEmpty a_firstSet a_lastSet a_takes a_behind a_sign a_demandSigns a_demandSign a_demandPattern a_demandKept a_factor a_limit a_lengthOf a_lettersOf a_action a_kindWord a_kindCount a_kindOf a_kindAction a_countOfSum a_lengthSet a_kindSet a_firstWord a_foundSet a_numberOf a_stepTo a_group a_nextGroup a_counts a_isPair a_pairQueue a_chosen := by
  intro n
  induction n with
  | zero => intro i N e fs no st h1 h2 _ _ F; have := F.1; omega
  | succ n ih =>
    intro i N e fs no st h1 h2 h0 he F T
    have hN := F.1
    rw [wX_findSets_35]
    refine pk_le N i (fun h => ?_) (fun h => ?_)
    · have ei : i = N := by omega
      subst ei
      exact K i e fs no st h0 he F T
    · exact ⟨3, zx_f45 hk W H 3 0 N e fs no st (by omega) (by omega) h he F T (fun N' e' fs' no' st' l1 he' F' T' => ih (i + 1) N' e' fs' no' st' (by omega) (by omega) (by omega) he' F' T')⟩
theorem zx_find {post : SX → Prop} (hk : k < 8) (W : zp_W P) (H : zx_P a_sizes a_hasEmpty a_firstSet a_lastSet a_takes a_behind k P)
    (K : ∀ N e fs no st, 0 < N → e 0 = 64 → zf_S P N e fs no → zf_T P N e st (2 * N) → post (f_height, f_signs, f_demands, f_bounds, f_isSolved, f_kinds, f_solutionCount, f_leastSum, nI N, a_sizes, a_hasEmpty, a_firstSet, a_lastSet, a_takes, a_behind, a_sign, a_demandSigns, a_demandSign, a_demandPattern, a_demandKept, a_factor, a_limit, a_lengthOf, a_lettersOf, a_action, a_kindWord, a_kindCount, a_kindOf, a_kindAction, a_countOfSum, a_lengthSet, a_kindSet, a_firstWord, fs, no, st, a_group, a_nextGroup, a_counts, a_isPair, a_pairQueue, a_chosen)) :
    wpX_findSets post (f_height, f_signs, f_demands, f_bounds, f_isSolved, f_kinds, f_solutionCount, f_leastSum, f_found, a_sizes, a_hasEmpty, a_firstSet, a_lastSet, a_takes, a_behind, a_sign, a_demandSigns, a_demandSign, a_demandPattern, a_demandKept, a_factor, a_limit, a_lengthOf, a_lettersOf, a_action, a_kindWord, a_kindCount, a_kindOf, a_kindAction, a_countOfSum, a_lengthSet, a_kindSet, a_firstWord, a_foundSet, a_numberOf, a_stepTo, a_group, a_nextGroup, a_counts, a_isPair, a_pairQueue, a_chosen) (nI k) := by
  refine loop_0 (fun n i no => wX_findSets_2 post (nI k) f_height f_signs f_demands f_bounds f_isSolved f_kinds f_solutionCount f_leastSum f_found n (nI i) a_sizes a_hasEmpty a_firstSet a_lastSet a_takes a_behind a_sign a_demandSigns a_demandSign a_demandPattern a_demandKept a_factor a_limit a_lengthOf a_lettersOf a_action a_kindWord a_kindCount a_kindOf a_kindAction a_countOfSum a_lengthSet a_kindSet a_firstWord a_foundSet no a_stepTo a_group a_nextGroup a_counts a_isPair a_pairQueue a_chosen) (fun i no => ∀ s, s < i → no s = -1) 128 a_numberOf (fun s h => absurd h (Nat.not_lt_zero s)) ?_ ?_
  · intro n no h1
    show wX_findSets_2 post (nI k) f_height f_signs f_demands f_bounds f_isSolved f_kinds f_solutionCount f_leastSum f_found (n + 1) (nI 128) a_sizes a_hasEmpty a_firstSet a_lastSet a_takes a_behind a_sign a_demandSigns a_demandSign a_demandPattern a_demandKept a_factor a_limit a_lengthOf a_lettersOf a_action a_kindWord a_kindCount a_kindOf a_kindAction a_countOfSum a_lengthSet a_kindSet a_firstWord a_foundSet no a_stepTo a_group a_nextGroup a_counts a_isPair a_pairQueue a_chosen
    rw [wX_findSets_2]
    have F0 : zf_S P 0 (fun _ => 64) a_foundSet no := ⟨by omega, fun i hi => absurd hi (Nat.not_lt_zero i), fun t ht => Or.inr (h1 _ (zu_lt ht))⟩
    refine br_t (by decide) (zx_num (N := 0) (t := 64) W F0 (zr1_0 P) (fun N' e' fs' no' j F' l1 l3 l2 hj ej => ?_))
    have ej0 : j = 0 := by omega
    rw [ej0] at ej
    exact ⟨129, zx_f35 hk W H K 129 0 N' e' fs' no' _ (by omega) (by omega) (by omega) ej F' (fun i c _ h => absurd h (by omega))⟩
  · intro n i no hi h1 K'
    show wX_findSets_2 post (nI k) f_height f_signs f_demands f_bounds f_isSolved f_kinds f_solutionCount f_leastSum f_found (n + 1) (nI i) a_sizes a_hasEmpty a_firstSet a_lastSet a_takes a_behind a_sign a_demandSigns a_demandSign a_demandPattern a_demandKept a_factor a_limit a_lengthOf a_lettersOf a_action a_kindWord a_kindCount a_kindOf a_kindAction a_countOfSum a_lengthSet a_kindSet a_firstWord a_foundSet no a_stepTo a_group a_nextGroup a_counts a_isPair a_pairQueue a_chosen
    rw [wX_findSets_2]
    refine br_f (nI_ge (b := 128) hi (by decide)) (And.intro (vp_in_nI hi (by decide)) (nm_e (nm_r (nI_1 i) (K' _ ?_))))
    rw [nI_clamp (show i < 2 ^ 31 by omega)]
    intro s hs
    by_cases z : s = i
    · rw [z, pk_us]
    · rw [pk_un z]; exact h1 s (by omega)
/-- every set that words lead to has a number -/
theorem zf_all {fs no st : Nat → Int32} (h0 : 0 < N) (he : e 0 = 64) (T : zf_T P N e st (2 * N)) {t : Nat} (h : zr1 P t) : ∃ i, i < N ∧ e i = t := by
  refine h (fun t => ∃ i, i < N ∧ e i = t) ⟨0, h0, he⟩ ?_
  rintro s c ⟨i, hi, es⟩ hc
  obtain ⟨j, a, _, d⟩ := T i c hc (by omega)
  exact ⟨j, a, by rw [d, es]⟩
end
end
section
/-! X: counting words by the numbered sets -/
section
variable {f_height f_signs f_demands f_bounds f_isSolved f_kinds f_solutionCount f_leastSum f_found : Int32} {a_sizes a_hasEmpty a_firstSet a_lastSet a_takes a_behind a_sign a_demandSigns a_demandSign a_demandPattern a_demandKept a_factor a_limit a_lengthOf a_lettersOf a_action a_kindWord a_kindCount a_kindOf a_kindAction a_countOfSum a_lengthSet a_kindSet a_firstWord a_foundSet a_numberOf a_stepTo a_group a_nextGroup a_counts a_isPair a_pairQueue a_chosen : Nat → Int32}
variable {k : Nat} {P : PT} {N : Nat} {e : Nat → Nat}
/-- the copy back -/
theorem zx_s79 {post : SX → Prop} {cs : Nat → Int32} (hN : N ≤ 128) (K : ∀ c', (∀ j, j < N → c' j = cs (128 + j)) → post (f_height, f_signs, f_demands, f_bounds, f_isSolved, f_kinds, f_solutionCount, f_leastSum, nI N, a_sizes, a_hasEmpty, a_firstSet, a_lastSet, a_takes, a_behind, a_sign, a_demandSigns, a_demandSign, a_demandPattern, a_demandKept, a_factor, a_limit, a_lengthOf, a_lettersOf, a_action, a_kindWord, a_kindCount, a_kindOf, a_kindAction, a_countOfSum, a_lengthSet, a_kindSet, a_firstWord, a_foundSet, a_numberOf, a_stepTo, a_group, a_nextGroup, c', a_isPair, a_pairQueue, a_chosen)) :
    ∃ n, wX_spreadCounts_79 post f_height f_signs f_demands f_bounds f_isSolved f_kinds f_solutionCount f_leastSum (nI N) n (nI 0) a_sizes a_hasEmpty a_firstSet a_lastSet a_takes a_behind a_sign a_demandSigns a_demandSign a_demandPattern a_demandKept a_factor a_limit a_lengthOf a_lettersOf a_action a_kindWord a_kindCount a_kindOf a_kindAction a_countOfSum a_lengthSet a_kindSet a_firstWord a_foundSet a_numberOf a_stepTo a_group a_nextGroup cs a_isPair a_pairQueue a_chosen := by
  refine loop_0 (fun n i c => wX_spreadCounts_79 post f_height f_signs f_demands f_bounds f_isSolved f_kinds f_solutionCount f_leastSum (nI N) n (nI i) a_sizes a_hasEmpty a_firstSet a_lastSet a_takes a_behind a_sign a_demandSigns a_demandSign a_demandPattern a_demandKept a_factor a_limit a_lengthOf a_lettersOf a_action a_kindWord a_kindCount a_kindOf a_kindAction a_countOfSum a_lengthSet a_kindSet a_firstWord a_foundSet a_numberOf a_stepTo a_group a_nextGroup c a_isPair a_pairQueue a_chosen) (fun i c => (∀ j, j < i → c j = cs (128 + j)) ∧ ∀ j, 128 ≤ j → c j = cs j) N cs ⟨fun j h => absurd h (Nat.not_lt_zero j), fun _ _ => rfl⟩ ?_ ?_
  · rintro n c ⟨h1, h2⟩
    show wX_spreadCounts_79 post f_height f_signs f_demands f_bounds f_isSolved f_kinds f_solutionCount f_leastSum (nI N) (n + 1) (nI N) a_sizes a_hasEmpty a_firstSet a_lastSet a_takes a_behind a_sign a_demandSigns a_demandSign a_demandPattern a_demandKept a_factor a_limit a_lengthOf a_lettersOf a_action a_kindWord a_kindCount a_kindOf a_kindAction a_countOfSum a_lengthSet a_kindSet a_firstWord a_foundSet a_numberOf a_stepTo a_group a_nextGroup c a_isPair a_pairQueue a_chosen
    rw [wX_spreadCounts_79]
    exact br_t (nI_le (Nat.le_refl _) (by omega)) (K c h1)
  · rintro n i c hi ⟨h1, h2⟩ K'
    show wX_spreadCounts_79 post f_height f_signs f_demands f_bounds f_isSolved f_kinds f_solutionCount f_leastSum (nI N) (n + 1) (nI i) a_sizes a_hasEmpty a_firstSet a_lastSet a_takes a_behind a_sign a_demandSigns a_demandSign a_demandPattern a_demandKept a_factor a_limit a_lengthOf a_lettersOf a_action a_kindWord a_kindCount a_kindOf a_kindAction a_countOfSum a_lengthSet a_kindSet a_firstWord a_foundSet a_numberOf a_stepTo a_group a_nextGroup c a_isPair a_pairQueue a_chosen
    rw [wX_spreadCounts_79]
    try dsimp only
    rw [show (128 : Int32) + nI i = nI (128 + i) from nI_add 128 i]
    refine br_f (nI_ge hi (by omega)) (And.intro (vp_in_nI (by omega) (by decide)) (And.intro (vp_in_nI (by omega) (by decide)) (nm_e (nm_r (nI_1 i) (K' _ ⟨?_, ?_⟩)))))
    · rw [nI_clamp (show i < 2 ^ 31 by omega), nI_clamp (show 128 + i < 2 ^ 31 by omega)]
      intro j hj
      by_cases z : j = i
      · rw [z, pk_us]; exact h2 _ (by omega)
      · rw [pk_un z]; exact h1 j (by omega)
    · rw [nI_clamp (show i < 2 ^ 31 by omega)]
      intro j hj
      rw [pk_un (by omega)]; exact h2 j hj
/-- the spreading: what is counted by any weight g of numbers -/
theorem zx_s29 {post : SX → Prop} {cs : Nat → Int32} (hN : N ≤ 128) (T : zf_T P N e a_stepTo (2 * N)) (h0 : ∀ j, j < N → cs (128 + j) = 0)
    (K : ∀ c', (∀ g : Nat → Int32, zs (fun j => c' j * g (e j)) N = zs (fun i => cs i * (g (zp_d P (e i) 0) + g (zp_d P (e i) 1))) N) → post (f_height, f_signs, f_demands, f_bounds, f_isSolved, f_kinds, f_solutionCount, f_leastSum, nI N, a_sizes, a_hasEmpty, a_firstSet, a_lastSet, a_takes, a_behind, a_sign, a_demandSigns, a_demandSign, a_demandPattern, a_demandKept, a_factor, a_limit, a_lengthOf, a_lettersOf, a_action, a_kindWord, a_kindCount, a_kindOf, a_kindAction, a_countOfSum, a_lengthSet, a_kindSet, a_firstWord, a_foundSet, a_numberOf, a_stepTo, a_group, a_nextGroup, c', a_isPair, a_pairQueue, a_chosen)) :
    ∃ n, wX_spreadCounts_29 post f_height f_signs f_demands f_bounds f_isSolved f_kinds f_solutionCount f_leastSum (nI N) n (nI 0) a_sizes a_hasEmpty a_firstSet a_lastSet a_takes a_behind a_sign a_demandSigns a_demandSign a_demandPattern a_demandKept a_factor a_limit a_lengthOf a_lettersOf a_action a_kindWord a_kindCount a_kindOf a_kindAction a_countOfSum a_lengthSet a_kindSet a_firstWord a_foundSet a_numberOf a_stepTo a_group a_nextGroup cs a_isPair a_pairQueue a_chosen := by
  have e2 : (2 : Int32) * nI N = nI (2 * N) := pk_mul 2 N
  refine loop_0 (fun n i c => wX_spreadCounts_29 post f_height f_signs f_demands f_bounds f_isSolved f_kinds f_solutionCount f_leastSum (nI N) n (nI i) a_sizes a_hasEmpty a_firstSet a_lastSet a_takes a_behind a_sign a_demandSigns a_demandSign a_demandPattern a_demandKept a_factor a_limit a_lengthOf a_lettersOf a_action a_kindWord a_kindCount a_kindOf a_kindAction a_countOfSum a_lengthSet a_kindSet a_firstWord a_foundSet a_numberOf a_stepTo a_group a_nextGroup c a_isPair a_pairQueue a_chosen) (fun i c => (∀ j, j < 128 → c j = cs j) ∧ ∀ g : Nat → Int32, zs (fun j => c (128 + j) * g (e j)) N = zs (fun m => cs (m / 2) * g (zp_d P (e (m / 2)) (m % 2))) i) (2 * N) cs ⟨fun _ _ => rfl, fun g => ?_⟩ ?_ ?_
  · refine zs_0 (fun j hj => ?_)
    rw [h0 j hj, zb_0m]
  · rintro n c ⟨h1, h2⟩
    show wX_spreadCounts_29 post f_height f_signs f_demands f_bounds f_isSolved f_kinds f_solutionCount f_leastSum (nI N) (n + 1) (nI (2 * N)) a_sizes a_hasEmpty a_firstSet a_lastSet a_takes a_behind a_sign a_demandSigns a_demandSign a_demandPattern a_demandKept a_factor a_limit a_lengthOf a_lettersOf a_action a_kindWord a_kindCount a_kindOf a_kindAction a_countOfSum a_lengthSet a_kindSet a_firstWord a_foundSet a_numberOf a_stepTo a_group a_nextGroup c a_isPair a_pairQueue a_chosen
    rw [wX_spreadCounts_29]
    try dsimp only
    rw [e2]
    refine br_t (nI_le (Nat.le_refl _) (by omega)) (zx_s79 hN (fun c' hc => K c' (fun g => ?_)))
    rw [zs_congr (g := fun j => c (128 + j) * g (e j)) (fun j hj => by rw [hc j hj]), h2 g, zs_two]
    apply zs_congr
    intro i hi
    rw [show 2 * i / 2 = i by omega, show 2 * i % 2 = 0 by omega, show (2 * i + 1) / 2 = i by omega, show (2 * i + 1) % 2 = 1 by omega]
    grind
  · rintro n i c hi ⟨h1, h2⟩ K'
    show wX_spreadCounts_29 post f_height f_signs f_demands f_bounds f_isSolved f_kinds f_solutionCount f_leastSum (nI N) (n + 1) (nI i) a_sizes a_hasEmpty a_firstSet a_lastSet a_takes a_behind a_sign a_demandSigns a_demandSign a_demandPattern a_demandKept a_factor a_limit a_lengthOf a_lettersOf a_action a_kindWord a_kindCount a_kindOf a_kindAction a_countOfSum a_lengthSet a_kindSet a_firstWord a_foundSet a_numberOf a_stepTo a_group a_nextGroup c a_isPair a_pairQueue a_chosen
    obtain ⟨j, hj, hst, hej⟩ := T (i / 2) (i % 2) (by omega) (by omega)
    rw [show 2 * (i / 2) + i % 2 = i by omega] at hst
    rw [wX_spreadCounts_29]
    try dsimp only
    rw [e2, zb_shr1 (show i < 2 ^ 31 by omega)]
    refine br_f (nI_ge hi (by omega)) (And.intro (vp_in_nI (by omega) (by decide)) (nm_r (e' := nI (128 + j)) (by rw [nI_clamp (show i < 2 ^ 31 by omega), hst]; exact nI_add 128 j) ?_))
    refine And.intro (vp_in_nI (by omega) (by decide)) (And.intro (vp_in_nI (by omega) (by decide)) (And.intro (vp_in_nI (by omega) (by decide)) (nm_e (nm_r (nI_1 i) (K' _ ⟨?_, ?_⟩)))))
    · rw [nI_clamp (show 128 + j < 2 ^ 31 by omega)]
      intro q hq
      rw [pk_un (by omega)]; exact h1 q hq
    · rw [nI_clamp (show 128 + j < 2 ^ 31 by omega), nI_clamp (show i / 2 < 2 ^ 31 by omega), h1 (i / 2) (by omega)]
      intro g
      rw [zs_upd (f := fun j => c (128 + j) * g (e j)) (k := j) (x := cs (i / 2) * g (zp_d P (e (i / 2)) (i % 2))) hj]
      · rw [h2 g]; rfl
      · intro q hq hne
        try dsimp only
        rw [pk_un (by omega)]
      · try dsimp only
        rw [pk_us, hej]; grind
theorem zx_spread {post : SX → Prop} (hN : N ≤ 128) (T : zf_T P N e a_stepTo (2 * N))
    (K : ∀ c', (∀ g : Nat → Int32, zs (fun j => c' j * g (e j)) N = zs (fun i => a_counts i * (g (zp_d P (e i) 0) + g (zp_d P (e i) 1))) N) → post (f_height, f_signs, f_demands, f_bounds, f_isSolved, f_kinds, f_solutionCount, f_leastSum, nI N, a_sizes, a_hasEmpty, a_firstSet, a_lastSet, a_takes, a_behind, a_sign, a_demandSigns, a_demandSign, a_demandPattern, a_demandKept, a_factor, a_limit, a_lengthOf, a_lettersOf, a_action, a_kindWord, a_kindCount, a_kindOf, a_kindAction, a_countOfSum, a_lengthSet, a_kindSet, a_firstWord, a_foundSet, a_numberOf, a_stepTo, a_group, a_nextGroup, c', a_isPair, a_pairQueue, a_chosen)) :
    wpX_spreadCounts post (f_height, f_signs, f_demands, f_bounds, f_isSolved, f_kinds, f_solutionCount, f_leastSum, nI N, a_sizes, a_hasEmpty, a_firstSet, a_lastSet, a_takes, a_behind, a_sign, a_demandSigns, a_demandSign, a_demandPattern, a_demandKept, a_factor, a_limit, a_lengthOf, a_lettersOf, a_action, a_kindWord, a_kindCount, a_kindOf, a_kindAction, a_countOfSum, a_lengthSet, a_kindSet, a_firstWord, a_foundSet, a_numberOf, a_stepTo, a_group, a_nextGroup, a_counts, a_isPair, a_pairQueue, a_chosen) := by
  refine loop_0 (fun n i c => wX_spreadCounts_2 post f_height f_signs f_demands f_bounds f_isSolved f_kinds f_solutionCount f_leastSum (nI N) n (nI i) a_sizes a_hasEmpty a_firstSet a_lastSet a_takes a_behind a_sign a_demandSigns a_demandSign a_demandPattern a_demandKept a_factor a_limit a_lengthOf a_lettersOf a_action a_kindWord a_kindCount a_kindOf a_kindAction a_countOfSum a_lengthSet a_kindSet a_firstWord a_foundSet a_numberOf a_stepTo a_group a_nextGroup c a_isPair a_pairQueue a_chosen) (fun i c => (∀ j, j < 128 → c j = a_counts j) ∧ ∀ j, j < i → c (128 + j) = 0) N a_counts ⟨fun _ _ => rfl, fun j h => absurd h (Nat.not_lt_zero j)⟩ ?_ ?_
  · rintro n c ⟨h1, h2⟩
    show wX_spreadCounts_2 post f_height f_signs f_demands f_bounds f_isSolved f_kinds f_solutionCount f_leastSum (nI N) (n + 1) (nI N) a_sizes a_hasEmpty a_firstSet a_lastSet a_takes a_behind a_sign a_demandSigns a_demandSign a_demandPattern a_demandKept a_factor a_limit a_lengthOf a_lettersOf a_action a_kindWord a_kindCount a_kindOf a_kindAction a_countOfSum a_lengthSet a_kindSet a_firstWord a_foundSet a_numberOf a_stepTo a_group a_nextGroup c a_isPair a_pairQueue a_chosen
    rw [wX_spreadCounts_2]
    refine br_t (nI_le (Nat.le_refl _) (by omega)) (zx_s29 hN T h2 (fun c' hc => K c' (fun g => ?_)))
    rw [hc g]
    apply zs_congr
    intro i hi
    rw [h1 i (by omega)]
  · rintro n i c hi ⟨h1, h2⟩ K'
    show wX_spreadCounts_2 post f_height f_signs f_demands f_bounds f_isSolved f_kinds f_solutionCount f_leastSum (nI N) (n + 1) (nI i) a_sizes a_hasEmpty a_firstSet a_lastSet a_takes a_behind a_sign a_demandSigns a_demandSign a_demandPattern a_demandKept a_factor a_limit a_lengthOf a_lettersOf a_action a_kindWord a_kindCount a_kindOf a_kindAction a_countOfSum a_lengthSet a_kindSet a_firstWord a_foundSet a_numberOf a_stepTo a_group a_nextGroup c a_isPair a_pairQueue a_chosen
    rw [wX_spreadCounts_2]
    try dsimp only
    rw [show (128 : Int32) + nI i = nI (128 + i) from nI_add 128 i]
    refine br_f (nI_ge hi (by omega)) (And.intro (vp_in_nI (by omega) (by decide)) (nm_e (nm_r (nI_1 i) (K' _ ⟨?_, ?_⟩))))
    · rw [nI_clamp (show 128 + i < 2 ^ 31 by omega)]
      intro j hj
      rw [pk_un (by omega)]; exact h1 j hj
    · rw [nI_clamp (show 128 + i < 2 ^ 31 by omega)]
      intro j hj
      by_cases z : j = i
      · rw [z, pk_us]
      · rw [pk_un (by omega)]; exact h2 j (by omega)
theorem zx_w76 {post : Int32 → SX → Prop} (hk : k < 8) (W : zp_W P) (H : zx_P a_sizes a_hasEmpty a_firstSet a_lastSet a_takes a_behind k P) (F : zf_S P N e a_foundSet a_numberOf)
    (hp : post (zs (fun i => a_counts i * nI (zp_c P 0 (e i))) N) (f_height, f_signs, f_demands, f_bounds, f_isSolved, f_kinds, f_solutionCount, f_leastSum, nI N, a_sizes, a_hasEmpty, a_firstSet, a_lastSet, a_takes, a_behind, a_sign, a_demandSigns, a_demandSign, a_demandPattern, a_demandKept, a_factor, a_limit, a_lengthOf, a_lettersOf, a_action, a_kindWord, a_kindCount, a_kindOf, a_kindAction, a_countOfSum, a_lengthSet, a_kindSet, a_firstWord, a_foundSet, a_numberOf, a_stepTo, a_group, a_nextGroup, a_counts, a_isPair, a_pairQueue, a_chosen)) :
    ∀ n i, i ≤ N → N < n + i → wX_words_76 post (nI k) f_height f_signs f_demands f_bounds f_isSolved f_kinds f_solutionCount f_leastSum (nI N) a_sizes a_hasEmpty a_firstSet a_lastSet a_takes a_behind a_sign a_demandSigns a_demandSign a_demandPattern a_demandKept a_factor a_limit a_lengthOf a_lettersOf a_action a_kindWord a_kindCount a_kindOf a_kindAction a_countOfSum a_lengthSet a_kindSet a_firstWord a_foundSet a_numberOf a_stepTo a_group a_nextGroup a_counts a_isPair a_pairQueue a_chosen n (zs (fun i => a_counts i * nI (zp_c P 0 (e i))) i) (nI i) := by
  have hN := F.1
  intro n
  induction n with
  | zero => intro i h1 h2; omega
  | succ n ih =>
    intro i h1 h2
    rw [wX_words_76]
    refine pk_le N i (fun h => ?_) (fun h => ?_)
    · have : i = N := by omega
      rw [this]; exact hp
    · have ih' := ih (i + 1) (by omega) (by omega)
      obtain ⟨q1, q2, q3, q4⟩ := F.2.1 i h
      refine And.intro (vp_in_nI (by omega) (by decide)) ?_
      rw [nI_clamp (show i < 2 ^ 31 by omega), q3]
      refine zx_end hk q2 W H ?_
      cases ea : zp_a P (e i) with
      | false =>
        refine br_t rfl (nm_r (nI_1 i) ?_)
        have e1 : zs (fun i => a_counts i * nI (zp_c P 0 (e i))) (i + 1) = zs (fun i => a_counts i * nI (zp_c P 0 (e i))) i := by
          show _ + a_counts i * nI (if zp_a P (e i) then 1 else 0) = _
          rw [ea]
          show _ + a_counts i * 0 = _
          rw [zb_m0]; grind
        rw [e1] at ih'
        exact ih'
      | true =>
        refine br_f zb_10 (And.intro (vp_in_nI (by omega) (by decide)) (nm_r ?_ (nm_r (nI_1 i) ih')))
        show _ = _ + a_counts i * nI (if zp_a P (e i) then 1 else 0)
        rw [ea]
        show _ = _ + a_counts i * 1
        grind
theorem zx_w56 {post : Int32 → SX → Prop} {m : Nat} (hk : k < 8) (hm : m ≤ 20) (W : zp_W P) (H : zx_P a_sizes a_hasEmpty a_firstSet a_lastSet a_takes a_behind k P) (F : zf_S P N e a_foundSet a_numberOf) (T : zf_T P N e a_stepTo (2 * N))
    (hp : ∀ c', post (nI (zp_c P m 64)) (f_height, f_signs, f_demands, f_bounds, f_isSolved, f_kinds, f_solutionCount, f_leastSum, nI N, a_sizes, a_hasEmpty, a_firstSet, a_lastSet, a_takes, a_behind, a_sign, a_demandSigns, a_demandSign, a_demandPattern, a_demandKept, a_factor, a_limit, a_lengthOf, a_lettersOf, a_action, a_kindWord, a_kindCount, a_kindOf, a_kindAction, a_countOfSum, a_lengthSet, a_kindSet, a_firstWord, a_foundSet, a_numberOf, a_stepTo, a_group, a_nextGroup, c', a_isPair, a_pairQueue, a_chosen)) :
    ∀ n i a_counts, i ≤ m → m < n + i → zs (fun j => a_counts j * nI (zp_c P (m - i) (e j))) N = nI (zp_c P m 64) → wX_words_56 post (nI k) (nI m) n (nI i) f_height f_signs f_demands f_bounds f_isSolved f_kinds f_solutionCount f_leastSum (nI N) a_sizes a_hasEmpty a_firstSet a_lastSet a_takes a_behind a_sign a_demandSigns a_demandSign a_demandPattern a_demandKept a_factor a_limit a_lengthOf a_lettersOf a_action a_kindWord a_kindCount a_kindOf a_kindAction a_countOfSum a_lengthSet a_kindSet a_firstWord a_foundSet a_numberOf a_stepTo a_group a_nextGroup a_counts a_isPair a_pairQueue a_chosen := by
  have hN := F.1
  intro n
  induction n with
  | zero => intro i c h1 h2; omega
  | succ n ih =>
    intro i c h1 h2 hI
    rw [wX_words_56]
    refine pk_le m i (fun h => ?_) (fun h => ?_)
    · have : i = m := by omega
      rw [this, Nat.sub_self] at hI
      refine ⟨N + 1, zx_w76 hk W H F ?_ (N + 1) 0 (by omega) (by omega)⟩
      rw [hI]; exact hp c
    · refine zx_spread hN T (fun c' hc => nm_r (nI_1 i) (ih (i + 1) c' (by omega) (by omega) ?_))
      rw [hc (fun t => nI (zp_c P (m - (i + 1)) t)), ← hI]
      apply zs_congr
      intro j hj
      rw [show m - i = (m - (i + 1)) + 1 by omega, nI_add]
      rfl
theorem zx_words {post : Int32 → SX → Prop} {m : Nat} (hk : k < 3) (hm : m ≤ 20) (W : zp_W P) (H : zx_P a_sizes a_hasEmpty a_firstSet a_lastSet a_takes a_behind k P)
    (hp : ∀ fo fs no st c', post (nI (zp_c P m 64)) (f_height, f_signs, f_demands, f_bounds, f_isSolved, f_kinds, f_solutionCount, f_leastSum, fo, a_sizes, a_hasEmpty, a_firstSet, a_lastSet, a_takes, a_behind, a_sign, a_demandSigns, a_demandSign, a_demandPattern, a_demandKept, a_factor, a_limit, a_lengthOf, a_lettersOf, a_action, a_kindWord, a_kindCount, a_kindOf, a_kindAction, a_countOfSum, a_lengthSet, a_kindSet, a_firstWord, fs, no, st, a_group, a_nextGroup, c', a_isPair, a_pairQueue, a_chosen)) :
    wpX_words post (f_height, f_signs, f_demands, f_bounds, f_isSolved, f_kinds, f_solutionCount, f_leastSum, f_found, a_sizes, a_hasEmpty, a_firstSet, a_lastSet, a_takes, a_behind, a_sign, a_demandSigns, a_demandSign, a_demandPattern, a_demandKept, a_factor, a_limit, a_lengthOf, a_lettersOf, a_action, a_kindWord, a_kindCount, a_kindOf, a_kindAction, a_countOfSum, a_lengthSet, a_kindSet, a_firstWord, a_foundSet, a_numberOf, a_stepTo, a_group, a_nextGroup, a_counts, a_isPair, a_pairQueue, a_chosen) (nI k) (nI m) := by
  unfold wpX_words wpX_badThree
  try dsimp only
  refine br_f (nI_pos (by omega)) (br_t (nI_le (b := 2) (by omega) (by decide)) (br_t rfl (br_f (nI_pos (by omega)) (br_t (nI_le (b := 20) (by omega) (by decide)) ?_))))
  refine zx_find (by omega) W H (fun N e fs no st h0 he F T => ?_)
  have hN := F.1
  refine loop_0 (fun n i c => wX_words_27 post (nI k) (nI m) f_height f_signs f_demands f_bounds f_isSolved f_kinds f_solutionCount f_leastSum (nI N) n (nI i) a_sizes a_hasEmpty a_firstSet a_lastSet a_takes a_behind a_sign a_demandSigns a_demandSign a_demandPattern a_demandKept a_factor a_limit a_lengthOf a_lettersOf a_action a_kindWord a_kindCount a_kindOf a_kindAction a_countOfSum a_lengthSet a_kindSet a_firstWord fs no st a_group a_nextGroup c a_isPair a_pairQueue a_chosen) (fun i c => ∀ j, j < i → c j = 0) 256 a_counts (fun j h => absurd h (Nat.not_lt_zero j)) ?_ ?_
  · intro n c h1
    show wX_words_27 post (nI k) (nI m) f_height f_signs f_demands f_bounds f_isSolved f_kinds f_solutionCount f_leastSum (nI N) (n + 1) (nI 256) a_sizes a_hasEmpty a_firstSet a_lastSet a_takes a_behind a_sign a_demandSigns a_demandSign a_demandPattern a_demandKept a_factor a_limit a_lengthOf a_lettersOf a_action a_kindWord a_kindCount a_kindOf a_kindAction a_countOfSum a_lengthSet a_kindSet a_firstWord fs no st a_group a_nextGroup c a_isPair a_pairQueue a_chosen
    rw [wX_words_27]
    refine br_t (by decide) (nm_e ⟨m + 1, zx_w56 (by omega) hm W H F T (fun c' => hp (nI N) fs no st c') (m + 1) 0 _ (by omega) (by omega) ?_⟩)
    rw [Nat.sub_zero, zs_one (k := 0) h0 (fun i hi hne => by rw [pk_un hne, h1 i (by omega), zb_0m]), pk_us, he]
    show (1 : Int32) * _ = _
    grind
  · intro n i c hi h1 K'
    show wX_words_27 post (nI k) (nI m) f_height f_signs f_demands f_bounds f_isSolved f_kinds f_solutionCount f_leastSum (nI N) (n + 1) (nI i) a_sizes a_hasEmpty a_firstSet a_lastSet a_takes a_behind a_sign a_demandSigns a_demandSign a_demandPattern a_demandKept a_factor a_limit a_lengthOf a_lettersOf a_action a_kindWord a_kindCount a_kindOf a_kindAction a_countOfSum a_lengthSet a_kindSet a_firstWord fs no st a_group a_nextGroup c a_isPair a_pairQueue a_chosen
    rw [wX_words_27]
    refine br_f (nI_ge (b := 256) hi (by decide)) (And.intro (vp_in_nI hi (by decide)) (nm_e (nm_r (nI_1 i) (K' _ ?_))))
    rw [nI_clamp (show i < 2 ^ 31 by omega)]
    intro j hj
    by_cases z : j = i
    · rw [z, pk_us]
    · rw [pk_un z]; exact h1 j (by omega)
end
end
section
/-! Y: counting words by all sets -/
section
variable {g_depth g_termLength g_demands g_boundCount g_known g_found g_least : Int32} {b_sizes b_empties b_firsts b_lasts b_letters b_behinds b_steps b_term b_patterns b_kepts b_signs b_signCounts b_bounds b_firstWords b_sums b_met b_tried b_seen b_apart b_counts b_next : Nat → Int32}
variable {k : Nat} {P : PT}
theorem zy_copy {post : SY → Prop} (K : ∀ c', (∀ j, j < 128 → c' j = b_next j) → post (g_depth, g_termLength, g_demands, g_boundCount, g_known, g_found, g_least, b_sizes, b_empties, b_firsts, b_lasts, b_letters, b_behinds, b_steps, b_term, b_patterns, b_kepts, b_signs, b_signCounts, b_bounds, b_firstWords, b_sums, b_met, b_tried, b_seen, b_apart, c', b_next)) : wpY_copyNext post (g_depth, g_termLength, g_demands, g_boundCount, g_known, g_found, g_least, b_sizes, b_empties, b_firsts, b_lasts, b_letters, b_behinds, b_steps, b_term, b_patterns, b_kepts, b_signs, b_signCounts, b_bounds, b_firstWords, b_sums, b_met, b_tried, b_seen, b_apart, b_counts, b_next) := by
  refine loop_0 (fun n i c => wY_copyNext_2 post g_depth g_termLength g_demands g_boundCount g_known g_found g_least n (nI i) b_sizes b_empties b_firsts b_lasts b_letters b_behinds b_steps b_term b_patterns b_kepts b_signs b_signCounts b_bounds b_firstWords b_sums b_met b_tried b_seen b_apart c b_next) (fun i c => ∀ j, j < i → c j = b_next j) 128 b_counts (fun j h => absurd h (Nat.not_lt_zero j)) ?_ ?_
  · intro n c h1
    show wY_copyNext_2 post g_depth g_termLength g_demands g_boundCount g_known g_found g_least (n + 1) (nI 128) b_sizes b_empties b_firsts b_lasts b_letters b_behinds b_steps b_term b_patterns b_kepts b_signs b_signCounts b_bounds b_firstWords b_sums b_met b_tried b_seen b_apart c b_next
    rw [wY_copyNext_2]
    exact br_t (by decide) (K c h1)
  · intro n i c hi h1 K'
    show wY_copyNext_2 post g_depth g_termLength g_demands g_boundCount g_known g_found g_least (n + 1) (nI i) b_sizes b_empties b_firsts b_lasts b_letters b_behinds b_steps b_term b_patterns b_kepts b_signs b_signCounts b_bounds b_firstWords b_sums b_met b_tried b_seen b_apart c b_next
    rw [wY_copyNext_2]
    refine br_f (nI_ge (b := 128) hi (by decide)) (And.intro (vp_in_nI hi (by decide)) (And.intro (vp_in_nI hi (by decide)) (nm_e (nm_r (nI_1 i) (K' _ ?_)))))
    rw [nI_clamp (show i < 2 ^ 31 by omega)]
    intro j hj
    by_cases z : j = i
    · rw [z, pk_us]
    · rw [pk_un z]; exact h1 j (by omega)
/-- the spreading by the table -/
theorem zy_67 {post : Int32 → SY → Prop} {x2 : Int32} {r m : Nat} {ne : Nat → Int32} (hk : k < 3) (W : zp_W P) (T : zy_T b_steps k P) (h0 : ∀ j, j < 128 → ne j = 0)
    (K : ∀ c' ne', (∀ g : Nat → Int32, zs (fun t => c' t * g t) 128 = zs (fun t => b_counts t * (g (zp_d P t 0) + g (zp_d P t 1))) 128) → wY_countWords_34 post (nI k) x2 m (nI (r + 1)) g_depth g_termLength g_demands g_boundCount g_known g_found g_least b_sizes b_empties b_firsts b_lasts b_letters b_behinds b_steps b_term b_patterns b_kepts b_signs b_signCounts b_bounds b_firstWords b_sums b_met b_tried b_seen b_apart c' ne') :
    ∃ n, wY_countWords_67 post (wY_countWords_34 post (nI k) x2 m) (nI k) x2 (nI r) g_depth g_termLength g_demands g_boundCount g_known g_found g_least n (nI 0) b_sizes b_empties b_firsts b_lasts b_letters b_behinds b_steps b_term b_patterns b_kepts b_signs b_signCounts b_bounds b_firstWords b_sums b_met b_tried b_seen b_apart b_counts ne := by
  refine loop_0 (fun n i c => wY_countWords_67 post (wY_countWords_34 post (nI k) x2 m) (nI k) x2 (nI r) g_depth g_termLength g_demands g_boundCount g_known g_found g_least n (nI i) b_sizes b_empties b_firsts b_lasts b_letters b_behinds b_steps b_term b_patterns b_kepts b_signs b_signCounts b_bounds b_firstWords b_sums b_met b_tried b_seen b_apart b_counts c) (fun i c => ∀ g : Nat → Int32, zs (fun t => c t * g t) 128 = zs (fun m => b_counts (m / 2) * g (zp_d P (m / 2) (m % 2))) i) 256 ne (fun g => ?_) ?_ ?_
  · exact zs_0 (fun j hj => by rw [h0 j hj, zb_0m])
  · intro n c h2
    show wY_countWords_67 post (wY_countWords_34 post (nI k) x2 m) (nI k) x2 (nI r) g_depth g_termLength g_demands g_boundCount g_known g_found g_least (n + 1) (nI 256) b_sizes b_empties b_firsts b_lasts b_letters b_behinds b_steps b_term b_patterns b_kepts b_signs b_signCounts b_bounds b_firstWords b_sums b_met b_tried b_seen b_apart b_counts c
    rw [wY_countWords_67]
    refine br_t (by decide) (zy_copy (fun c' hc => nm_r (nI_1 r) (K c' c (fun g => ?_))))
    rw [zs_congr (g := fun t => c t * g t) (fun j hj => by rw [hc j hj]), h2 g, show (256 : Nat) = 2 * 128 from rfl, zs_two]
    apply zs_congr
    intro i hi
    rw [show 2 * i / 2 = i by omega, show 2 * i % 2 = 0 by omega, show (2 * i + 1) / 2 = i by omega, show (2 * i + 1) % 2 = 1 by omega]
    grind
  · intro n i c hi h2 K'
    show wY_countWords_67 post (wY_countWords_34 post (nI k) x2 m) (nI k) x2 (nI r) g_depth g_termLength g_demands g_boundCount g_known g_found g_least (n + 1) (nI i) b_sizes b_empties b_firsts b_lasts b_letters b_behinds b_steps b_term b_patterns b_kepts b_signs b_signCounts b_bounds b_firstWords b_sums b_met b_tried b_seen b_apart b_counts c
    have e1 : nI i / 2 = nI (i / 2) := pk_div (d := 2) (by omega) (by decide) (by decide)
    have e3 : (256 : Int32) * nI k + nI i = nI (256 * k + i) := by
      show nI 256 * nI k + nI i = _
      rw [pk_mul, nI_add]
    have hd := zp_d128 W (i / 2) (i % 2)
    have hst := T (i / 2) (i % 2) (by omega) (by omega)
    rw [show 256 * k + 2 * (i / 2) + i % 2 = 256 * k + i by omega] at hst
    rw [wY_countWords_67]
    try dsimp only
    rw [e3, e1]
    refine br_f (nI_ge (b := 256) hi (by decide)) (And.intro (vp_in_nI (by omega) (by decide)) (nm_r (e' := nI (zp_d P (i / 2) (i % 2))) (by rw [nI_clamp (show 256 * k + i < 2 ^ 31 by omega), hst]) ?_))
    refine And.intro (vp_in_nI hd (by decide)) (And.intro (by decide) (And.intro (vp_in_nI (by omega) (by decide)) (And.intro (vp_in_nI hd (by decide)) (nm_e (nm_r (nI_1 i) (K' _ (fun g => ?_)))))))
    rw [nI_clamp (show zp_d P (i / 2) (i % 2) < 2 ^ 31 by omega), nI_clamp (show i / 2 < 2 ^ 31 by omega)]
    rw [zs_upd (f := fun t => c t * g t) (k := zp_d P (i / 2) (i % 2)) (x := b_counts (i / 2) * g (zp_d P (i / 2) (i % 2))) hd]
    · rw [h2 g]; rfl
    · intro q hq hne
      try dsimp only
      rw [pk_un hne]
    · try dsimp only
      rw [pk_us]; grind
theorem zy_42 {post : Int32 → SY → Prop} {x2 : Int32} {r m : Nat} (hk : k < 3) (W : zp_W P) (T : zy_T b_steps k P)
    (K : ∀ c' ne', (∀ g : Nat → Int32, zs (fun t => c' t * g t) 128 = zs (fun t => b_counts t * (g (zp_d P t 0) + g (zp_d P t 1))) 128) → wY_countWords_34 post (nI k) x2 m (nI (r + 1)) g_depth g_termLength g_demands g_boundCount g_known g_found g_least b_sizes b_empties b_firsts b_lasts b_letters b_behinds b_steps b_term b_patterns b_kepts b_signs b_signCounts b_bounds b_firstWords b_sums b_met b_tried b_seen b_apart c' ne') :
    ∃ n, wY_countWords_42 post (wY_countWords_34 post (nI k) x2 m) (nI k) x2 (nI r) g_depth g_termLength g_demands g_boundCount g_known g_found g_least n (nI 0) b_sizes b_empties b_firsts b_lasts b_letters b_behinds b_steps b_term b_patterns b_kepts b_signs b_signCounts b_bounds b_firstWords b_sums b_met b_tried b_seen b_apart b_counts b_next := by
  refine loop_0 (fun n i c => wY_countWords_42 post (wY_countWords_34 post (nI k) x2 m) (nI k) x2 (nI r) g_depth g_termLength g_demands g_boundCount g_known g_found g_least n (nI i) b_sizes b_empties b_firsts b_lasts b_letters b_behinds b_steps b_term b_patterns b_kepts b_signs b_signCounts b_bounds b_firstWords b_sums b_met b_tried b_seen b_apart b_counts c) (fun i c => ∀ j, j < i → c j = 0) 128 b_next (fun j h => absurd h (Nat.not_lt_zero j)) ?_ ?_
  · intro n c h1
    show wY_countWords_42 post (wY_countWords_34 post (nI k) x2 m) (nI k) x2 (nI r) g_depth g_termLength g_demands g_boundCount g_known g_found g_least (n + 1) (nI 128) b_sizes b_empties b_firsts b_lasts b_letters b_behinds b_steps b_term b_patterns b_kepts b_signs b_signCounts b_bounds b_firstWords b_sums b_met b_tried b_seen b_apart b_counts c
    rw [wY_countWords_42]
    exact br_t (by decide) (zy_67 hk W T h1 K)
  · intro n i c hi h1 K'
    show wY_countWords_42 post (wY_countWords_34 post (nI k) x2 m) (nI k) x2 (nI r) g_depth g_termLength g_demands g_boundCount g_known g_found g_least (n + 1) (nI i) b_sizes b_empties b_firsts b_lasts b_letters b_behinds b_steps b_term b_patterns b_kepts b_signs b_signCounts b_bounds b_firstWords b_sums b_met b_tried b_seen b_apart b_counts c
    rw [wY_countWords_42]
    refine br_f (nI_ge (b := 128) hi (by decide)) (And.intro (vp_in_nI hi (by decide)) (nm_e (nm_r (nI_1 i) (K' _ ?_))))
    rw [nI_clamp (show i < 2 ^ 31 by omega)]
    intro j hj
    by_cases z : j = i
    · rw [z, pk_us]
    · rw [pk_un z]; exact h1 j (by omega)
theorem zy_135 {post : Int32 → SY → Prop} (hk : k < 3) (W : zp_W P) (H : zy_P b_sizes b_empties b_firsts b_lasts b_letters b_behinds (5 + k) P)
    (hp : post (zs (fun t => b_counts t * nI (zp_c P 0 t)) 128) (g_depth, g_termLength, g_demands, g_boundCount, g_known, g_found, g_least, b_sizes, b_empties, b_firsts, b_lasts, b_letters, b_behinds, b_steps, b_term, b_patterns, b_kepts, b_signs, b_signCounts, b_bounds, b_firstWords, b_sums, b_met, b_tried, b_seen, b_apart, b_counts, b_next)) :
    ∀ n i, i ≤ 128 → 128 < n + i → wY_countWords_135 post (nI k) g_depth g_termLength g_demands g_boundCount g_known g_found g_least b_sizes b_empties b_firsts b_lasts b_letters b_behinds b_steps b_term b_patterns b_kepts b_signs b_signCounts b_bounds b_firstWords b_sums b_met b_tried b_seen b_apart b_counts b_next n (zs (fun t => b_counts t * nI (zp_c P 0 t)) i) (nI i) := by
  intro n
  induction n with
  | zero => intro i h1 h2; omega
  | succ n ih =>
    intro i h1 h2
    rw [wY_countWords_135]
    refine pk_le 128 i (fun h => ?_) (fun h => ?_)
    · have : i = 128 := by omega
      rw [this]; exact hp
    · have ih' := ih (i + 1) (by omega) (by omega)
      refine zy_acc hk h W H ?_
      cases ea : zp_a P i with
      | false =>
        refine br_t rfl (nm_r (nI_1 i) ?_)
        have e1 : zs (fun t => b_counts t * nI (zp_c P 0 t)) (i + 1) = zs (fun t => b_counts t * nI (zp_c P 0 t)) i := by
          show _ + b_counts i * nI (if zp_a P i then 1 else 0) = _
          rw [ea]
          show _ + b_counts i * 0 = _
          rw [zb_m0]; grind
        rw [e1] at ih'
        exact ih'
      | true =>
        refine br_f zb_10 (And.intro (vp_in_nI (by omega) (by decide)) (nm_r ?_ (nm_r (nI_1 i) ih')))
        show _ = _ + b_counts i * nI (if zp_a P i then 1 else 0)
        rw [ea]
        try rw [nI_clamp (show i < 2 ^ 31 by omega)]
        show _ = _ + b_counts i * 1
        grind
theorem zy_34 {post : Int32 → SY → Prop} {m : Nat} (hk : k < 3) (hm : m ≤ 20) (W : zp_W P) (H : zy_P b_sizes b_empties b_firsts b_lasts b_letters b_behinds (5 + k) P) (T : zy_T b_steps k P)
    (hp : ∀ c' ne', post (nI (zp_c P m 64)) (g_depth, g_termLength, g_demands, g_boundCount, g_known, g_found, g_least, b_sizes, b_empties, b_firsts, b_lasts, b_letters, b_behinds, b_steps, b_term, b_patterns, b_kepts, b_signs, b_signCounts, b_bounds, b_firstWords, b_sums, b_met, b_tried, b_seen, b_apart, c', ne')) :
    ∀ n i b_counts b_next, i ≤ m → m < n + i → zs (fun t => b_counts t * nI (zp_c P (m - i) t)) 128 = nI (zp_c P m 64) → wY_countWords_34 post (nI k) (nI m) n (nI i) g_depth g_termLength g_demands g_boundCount g_known g_found g_least b_sizes b_empties b_firsts b_lasts b_letters b_behinds b_steps b_term b_patterns b_kepts b_signs b_signCounts b_bounds b_firstWords b_sums b_met b_tried b_seen b_apart b_counts b_next := by
  intro n
  induction n with
  | zero => intro i c ne h1 h2; omega
  | succ n ih =>
    intro i c ne h1 h2 hI
    rw [wY_countWords_34]
    refine pk_le m i (fun h => ?_) (fun h => ?_)
    · have : i = m := by omega
      rw [this, Nat.sub_self] at hI
      refine ⟨129, zy_135 hk W H ?_ 129 0 (by omega) (by omega)⟩
      rw [hI]; exact hp c ne
    · refine zy_42 hk W T (fun c' ne' hc => ih (i + 1) c' ne' (by omega) (by omega) ?_)
      rw [hc (fun t => nI (zp_c P (m - (i + 1)) t)), ← hI]
      apply zs_congr
      intro j hj
      rw [show m - i = (m - (i + 1)) + 1 by omega, nI_add]
      rfl
theorem zy_count {post : Int32 → SY → Prop} {m : Nat} (hk : k < 3) (hm : m ≤ 20) (W : zp_W P) (H : zy_P b_sizes b_empties b_firsts b_lasts b_letters b_behinds (5 + k) P) (T : zy_T b_steps k P)
    (hp : ∀ c' ne', post (nI (zp_c P m 64)) (g_depth, g_termLength, g_demands, g_boundCount, g_known, g_found, g_least, b_sizes, b_empties, b_firsts, b_lasts, b_letters, b_behinds, b_steps, b_term, b_patterns, b_kepts, b_signs, b_signCounts, b_bounds, b_firstWords, b_sums, b_met, b_tried, b_seen, b_apart, c', ne')) :
    wpY_countWords post (g_depth, g_termLength, g_demands, g_boundCount, g_known, g_found, g_least, b_sizes, b_empties, b_firsts, b_lasts, b_letters, b_behinds, b_steps, b_term, b_patterns, b_kepts, b_signs, b_signCounts, b_bounds, b_firstWords, b_sums, b_met, b_tried, b_seen, b_apart, b_counts, b_next) (nI k) (nI m) := by
  refine loop_0 (fun n i c => wY_countWords_2 post (nI k) (nI m) g_depth g_termLength g_demands g_boundCount g_known g_found g_least n (nI i) b_sizes b_empties b_firsts b_lasts b_letters b_behinds b_steps b_term b_patterns b_kepts b_signs b_signCounts b_bounds b_firstWords b_sums b_met b_tried b_seen b_apart c b_next) (fun i c => ∀ j, j < i → c j = if j = 64 then 1 else 0) 128 b_counts (fun j h => absurd h (Nat.not_lt_zero j)) ?_ ?_
  · intro n c h1
    show wY_countWords_2 post (nI k) (nI m) g_depth g_termLength g_demands g_boundCount g_known g_found g_least (n + 1) (nI 128) b_sizes b_empties b_firsts b_lasts b_letters b_behinds b_steps b_term b_patterns b_kepts b_signs b_signCounts b_bounds b_firstWords b_sums b_met b_tried b_seen b_apart c b_next
    rw [wY_countWords_2]
    refine br_t (by decide) ⟨m + 1, zy_34 hk hm W H T hp (m + 1) 0 c b_next (by omega) (by omega) ?_⟩
    rw [Nat.sub_zero, zs_one (k := 64) (by decide) (fun i hi hne => by rw [h1 i hi, if_neg hne, zb_0m]), h1 64 (by decide), if_pos rfl]
    grind
  · intro n i c hi h1 K'
    show wY_countWords_2 post (nI k) (nI m) g_depth g_termLength g_demands g_boundCount g_known g_found g_least (n + 1) (nI i) b_sizes b_empties b_firsts b_lasts b_letters b_behinds b_steps b_term b_patterns b_kepts b_signs b_signCounts b_bounds b_firstWords b_sums b_met b_tried b_seen b_apart c b_next
    rw [wY_countWords_2]
    refine br_f (nI_ge (b := 128) hi (by decide)) (pk_eq i 64 (fun h => ?_) (fun h => ?_))
    · refine And.intro (vp_in_nI hi (by decide)) (nm_e (nm_r (nI_1 i) (K' _ ?_)))
      rw [nI_clamp (show i < 2 ^ 31 by omega)]
      intro j hj
      by_cases z : j = i
      · rw [z, pk_us, if_pos h]
      · rw [pk_un z]; exact h1 j (by omega)
    · refine And.intro (vp_in_nI hi (by decide)) (nm_e (nm_r (nI_1 i) (K' _ ?_)))
      rw [nI_clamp (show i < 2 ^ 31 by omega)]
      intro j hj
      by_cases z : j = i
      · rw [z, pk_us, if_neg h]
      · rw [pk_un z]; exact h1 j (by omega)
theorem zy_words {post : Int32 → SY → Prop} {m : Nat} (hk : k < 3) (hm : m ≤ 20) (W : zp_W P) (H : zy_P b_sizes b_empties b_firsts b_lasts b_letters b_behinds (5 + k) P) (T : zy_T b_steps k P)
    (hp : ∀ c' ne', post (nI (zp_c P m 64)) (g_depth, g_termLength, g_demands, g_boundCount, g_known, g_found, g_least, b_sizes, b_empties, b_firsts, b_lasts, b_letters, b_behinds, b_steps, b_term, b_patterns, b_kepts, b_signs, b_signCounts, b_bounds, b_firstWords, b_sums, b_met, b_tried, b_seen, b_apart, c', ne')) :
    wpY_words post (g_depth, g_termLength, g_demands, g_boundCount, g_known, g_found, g_least, b_sizes, b_empties, b_firsts, b_lasts, b_letters, b_behinds, b_steps, b_term, b_patterns, b_kepts, b_signs, b_signCounts, b_bounds, b_firstWords, b_sums, b_met, b_tried, b_seen, b_apart, b_counts, b_next) (nI k) (nI m) := by
  unfold wpY_words wpY_isThird
  try dsimp only
  refine br_f (nI_pos (by omega)) (br_f (nI_nlt (a := 2) (by omega) (by decide)) (br_f zb_10 (br_f (nI_pos (by omega)) (br_t (nI_le (b := 20) hm (by decide)) ?_))))
  exact zy_count hk hm W H T hp
/-- Y's endless asks for words longer than the size -/
theorem zy_e23 {post : Int32 → SY → Prop} (hk : k < 3) (W : zp_W P) (H : zy_P b_sizes b_empties b_firsts b_lasts b_letters b_behinds (5 + k) P) (T : zy_T b_steps k P)
    (h0 : (∀ m, zp_n P + 1 ≤ m → m < 2 * zp_n P + 3 → ¬ 0 < zp_c P m 64) → ∀ c' ne', post 0 (g_depth, g_termLength, g_demands, g_boundCount, g_known, g_found, g_least, b_sizes, b_empties, b_firsts, b_lasts, b_letters, b_behinds, b_steps, b_term, b_patterns, b_kepts, b_signs, b_signCounts, b_bounds, b_firstWords, b_sums, b_met, b_tried, b_seen, b_apart, c', ne'))
    (h1 : (∃ m, zp_n P + 1 ≤ m ∧ m < 2 * zp_n P + 3 ∧ 0 < zp_c P m 64) → ∀ c' ne', post 1 (g_depth, g_termLength, g_demands, g_boundCount, g_known, g_found, g_least, b_sizes, b_empties, b_firsts, b_lasts, b_letters, b_behinds, b_steps, b_term, b_patterns, b_kepts, b_signs, b_signCounts, b_bounds, b_firstWords, b_sums, b_met, b_tried, b_seen, b_apart, c', ne')) :
    ∀ n i b_counts b_next, zp_n P + 1 ≤ i → i ≤ 2 * zp_n P + 3 → 2 * zp_n P + 3 < n + i → (∀ m, zp_n P + 1 ≤ m → m < i → ¬ 0 < zp_c P m 64) → wY_endless_23 post (nI k) (nI (zp_n P)) n (nI i) g_depth g_termLength g_demands g_boundCount g_known g_found g_least b_sizes b_empties b_firsts b_lasts b_letters b_behinds b_steps b_term b_patterns b_kepts b_signs b_signCounts b_bounds b_firstWords b_sums b_met b_tried b_seen b_apart b_counts b_next := by
  have hn := W.1
  intro n
  induction n with
  | zero => intro i c ne _ g1 g2; omega
  | succ n ih =>
    intro i c ne g0 g1 g2 hI
    have e1 : (2 : Int32) * nI (zp_n P) + 3 = nI (2 * zp_n P + 3) := by
      show nI 2 * nI (zp_n P) + nI 3 = _
      rw [pk_mul, nI_add]
    have hc := zp_c_le P i 64
    rw [wY_endless_23]
    try dsimp only
    rw [e1]
    refine pk_le (2 * zp_n P + 3) i (fun h => ?_) (fun h => ?_)
    · exact h0 (fun m a b => hI m a (by omega)) c ne
    · have hb : 2 ^ i ≤ 2 ^ 15 := Nat.pow_le_pow_right (by decide) (by omega)
      refine zy_count hk (by omega) W H T (fun c' ne' => ?_)
      refine pk_le (zp_c P i 64) 0 (fun z => ?_) (fun z => ?_) (ha := by omega)
      · refine nm_r (nI_1 i) (ih (i + 1) c' ne' (by omega) (by omega) (by omega) (fun m a b => ?_))
        by_cases q : m = i
        · rw [q]; omega
        · exact hI m a (by omega)
      · exact h1 ⟨i, g0, h, z⟩ c' ne'
theorem zy_endless {post : Int32 → SY → Prop} (hk : k < 3) (W : zp_W P) (H : zy_P b_sizes b_empties b_firsts b_lasts b_letters b_behinds (5 + k) P) (T : zy_T b_steps k P)
    (h0 : (∀ m, zp_n P + 1 ≤ m → m < 2 * zp_n P + 3 → ¬ 0 < zp_c P m 64) → ∀ c' ne', post 0 (g_depth, g_termLength, g_demands, g_boundCount, g_known, g_found, g_least, b_sizes, b_empties, b_firsts, b_lasts, b_letters, b_behinds, b_steps, b_term, b_patterns, b_kepts, b_signs, b_signCounts, b_bounds, b_firstWords, b_sums, b_met, b_tried, b_seen, b_apart, c', ne'))
    (h1 : (∃ m, zp_n P + 1 ≤ m ∧ m < 2 * zp_n P + 3 ∧ 0 < zp_c P m 64) → ∀ c' ne', post 1 (g_depth, g_termLength, g_demands, g_boundCount, g_known, g_found, g_least, b_sizes, b_empties, b_firsts, b_lasts, b_letters, b_behinds, b_steps, b_term, b_patterns, b_kepts, b_signs, b_signCounts, b_bounds, b_firstWords, b_sums, b_met, b_tried, b_seen, b_apart, c', ne')) :
    wpY_endless post (g_depth, g_termLength, g_demands, g_boundCount, g_known, g_found, g_least, b_sizes, b_empties, b_firsts, b_lasts, b_letters, b_behinds, b_steps, b_term, b_patterns, b_kepts, b_signs, b_signCounts, b_bounds, b_firstWords, b_sums, b_met, b_tried, b_seen, b_apart, b_counts, b_next) (nI k) := by
  have hn := W.1
  unfold wpY_endless wpY_isThird
  try dsimp only
  refine br_f (nI_pos (by omega)) (br_f (nI_nlt (a := 2) (by omega) (by decide)) (br_f zb_10 ?_))
  rw [show (5 : Int32) + nI k = nI (5 + k) from nI_add 5 k]
  refine And.intro (vp_in_nI (by omega) (by decide)) (nm_r (e' := nI (zp_n P)) (by rw [nI_clamp (show 5 + k < 2 ^ 31 by omega), H.1]) (nm_r (nI_1 _) ⟨zp_n P + 3, ?_⟩))
  exact zy_e23 hk W H T h0 h1 (zp_n P + 3) (zp_n P + 1) b_counts b_next (by omega) (by omega) (by omega) (fun m a b => absurd b (by omega))
end
end
section
/-! X: whether a place can come behind itself -/
section
variable {f_height f_signs f_demands f_bounds f_isSolved f_kinds f_solutionCount f_leastSum f_found : Int32} {a_sizes a_hasEmpty a_firstSet a_lastSet a_takes a_behind a_sign a_demandSigns a_demandSign a_demandPattern a_demandKept a_factor a_limit a_lengthOf a_lettersOf a_action a_kindWord a_kindCount a_kindOf a_kindAction a_countOfSum a_lengthSet a_kindSet a_firstWord a_foundSet a_numberOf a_stepTo a_group a_nextGroup a_counts a_isPair a_pairQueue a_chosen : Nat → Int32}
variable {k : Nat} {P : PT}
theorem zx_b5 {post : Int32 → Prop} {set : Nat} (hk : k < 8) (hs : set < 2 ^ 31) (W : zp_W P) (H : zx_P a_sizes a_hasEmpty a_firstSet a_lastSet a_takes a_behind k P) (hp : post (nI (ze_ba P set))) :
    ∀ n p, p ≤ zp_n P → zp_n P < n + p → wX_behindAll_5 post (nI k) (nI set) f_height f_signs f_demands f_bounds f_isSolved f_kinds f_solutionCount f_leastSum f_found a_sizes a_hasEmpty a_firstSet a_lastSet a_takes a_behind a_sign a_demandSigns a_demandSign a_demandPattern a_demandKept a_factor a_limit a_lengthOf a_lettersOf a_action a_kindWord a_kindCount a_kindOf a_kindAction a_countOfSum a_lengthSet a_kindSet a_firstWord a_foundSet a_numberOf a_stepTo a_group a_nextGroup a_counts a_isPair a_pairQueue a_chosen n (nI (zo (fun i => if set.testBit i then zp_B P i else 0) p)) (nI p) := by
  intro n
  induction n with
  | zero => intro p h1 h2; omega
  | succ n ih =>
    intro p h1 h2
    have hn := W.1
    rw [wX_behindAll_5]
    refine And.intro (vp_in_nI hk (by decide)) ?_
    rw [nI_clamp (show k < 2 ^ 31 by omega), H.1]
    refine pk_le (zp_n P) p (fun h => ?_) (fun h => ?_)
    · have e : p = zp_n P := by omega
      rw [e]; exact hp
    · have ih' := ih (p + 1) (by omega) (by omega)
      have hT := H.2.2.2.2 p h
      rw [zb_bit hs (by omega)]
      refine br_c (fun hb => ?_) (fun hb => ?_)
      · rw [zb_6]
        refine And.intro (vp_in_nI (by omega) (by decide)) (nm_r ?_ (nm_r (nI_1 p) ih'))
        rw [nI_clamp (show 6 * k + p < 2 ^ 31 by omega), hT.2]
        show _ = nI (_ ||| (if set.testBit p then zp_B P p else 0))
        rw [if_pos hb, zb_or]
      · refine nm_r (nI_1 p) ?_
        have e : zo (fun i => if set.testBit i then zp_B P i else 0) (p + 1) = zo (fun i => if set.testBit i then zp_B P i else 0) p := by
          show _ ||| (if set.testBit p then zp_B P p else 0) = _
          rw [if_neg hb, Nat.or_zero]
        rw [e] at ih'
        exact ih'
theorem zx_ba {post : Int32 → Prop} {set : Nat} (hk : k < 8) (hs : set < 2 ^ 31) (W : zp_W P) (H : zx_P a_sizes a_hasEmpty a_firstSet a_lastSet a_takes a_behind k P) (hp : post (nI (ze_ba P set))) :
    wpX_behindAll post (f_height, f_signs, f_demands, f_bounds, f_isSolved, f_kinds, f_solutionCount, f_leastSum, f_found, a_sizes, a_hasEmpty, a_firstSet, a_lastSet, a_takes, a_behind, a_sign, a_demandSigns, a_demandSign, a_demandPattern, a_demandKept, a_factor, a_limit, a_lengthOf, a_lettersOf, a_action, a_kindWord, a_kindCount, a_kindOf, a_kindAction, a_countOfSum, a_lengthSet, a_kindSet, a_firstWord, a_foundSet, a_numberOf, a_stepTo, a_group, a_nextGroup, a_counts, a_isPair, a_pairQueue, a_chosen) (nI k) (nI set) := ⟨zp_n P + 1, zx_b5 hk hs W H hp _ 0 (by omega) (by omega)⟩
/-- the closure of place p, from its second pass on -/
theorem zx_e30 {post : Int32 → Prop} {any : Bool} {p m : Nat} (hk : k < 8) (hp : p < zp_n P) (W : zp_W P) (H : zx_P a_sizes a_hasEmpty a_firstSet a_lastSet a_takes a_behind k P)
    (K : wX_endless_14 post (nI k) f_height f_signs f_demands f_bounds f_isSolved f_kinds f_solutionCount f_leastSum f_found a_sizes a_hasEmpty a_firstSet a_lastSet a_takes a_behind a_sign a_demandSigns a_demandSign a_demandPattern a_demandKept a_factor a_limit a_lengthOf a_lettersOf a_action a_kindWord a_kindCount a_kindOf a_kindAction a_countOfSum a_lengthSet a_kindSet a_firstWord a_foundSet a_numberOf a_stepTo a_group a_nextGroup a_counts a_isPair a_pairQueue a_chosen m (zb_i (any || (ze_s P p (zp_n P)).testBit p)) (nI (p + 1))) :
    ∀ n i, i ≤ zp_n P → zp_n P < n + i → wX_endless_30 post (wX_endless_14 post (nI k) f_height f_signs f_demands f_bounds f_isSolved f_kinds f_solutionCount f_leastSum f_found a_sizes a_hasEmpty a_firstSet a_lastSet a_takes a_behind a_sign a_demandSigns a_demandSign a_demandPattern a_demandKept a_factor a_limit a_lengthOf a_lettersOf a_action a_kindWord a_kindCount a_kindOf a_kindAction a_countOfSum a_lengthSet a_kindSet a_firstWord a_foundSet a_numberOf a_stepTo a_group a_nextGroup a_counts a_isPair a_pairQueue a_chosen m) (nI k) (zb_i any) (nI p) f_height f_signs f_demands f_bounds f_isSolved f_kinds f_solutionCount f_leastSum f_found a_sizes a_hasEmpty a_firstSet a_lastSet a_takes a_behind a_sign a_demandSigns a_demandSign a_demandPattern a_demandKept a_factor a_limit a_lengthOf a_lettersOf a_action a_kindWord a_kindCount a_kindOf a_kindAction a_countOfSum a_lengthSet a_kindSet a_firstWord a_foundSet a_numberOf a_stepTo a_group a_nextGroup a_counts a_isPair a_pairQueue a_chosen (n + 1) (nI (ze_s P p i)) (nI (i + 1)) := by
  have hn := W.1
  have hp2 := zp_p2 W.1
  intro n
  induction n with
  | zero => intro i h1 h2; omega
  | succ n ih =>
    intro i h1 h2
    have hs := ze_s_lt W hp i
    rw [wX_endless_30]
    refine And.intro (vp_in_nI hk (by decide)) ?_
    rw [nI_clamp (show k < 2 ^ 31 by omega), H.1]
    refine pk_lt (zp_n P) (i + 1) (fun h => ?_) (fun h => ?_)
    · have e : i = zp_n P := by omega
      subst e
      cases any with
      | true => exact br_f zb_10 (nm_r (nI_1 p) K)
      | false =>
        refine br_t rfl ?_
        rw [zb_bit (show ze_s P p (zp_n P) < 2 ^ 31 by omega) (by omega)]
        refine br_c (fun hb => ?_) (fun hb => ?_)
        · rw [hb] at K; exact nm_r (nI_1 p) K
        · have : (ze_s P p (zp_n P)).testBit p = false := by
            cases e : (ze_s P p (zp_n P)).testBit p with
            | false => rfl
            | true => exact absurd e hb
          rw [this] at K; exact nm_r (nI_1 p) K
    · refine br_f (nI_ne0 (by omega) (by omega)) (zx_ba hk (by omega) W H (nm_r (zb_or _ _) (nm_r (nI_1 _) ?_)))
      exact ih (i + 1) (by omega) (by omega)
theorem zx_e14 {post : Int32 → Prop} (hk : k < 8) (W : zp_W P) (H : zx_P a_sizes a_hasEmpty a_firstSet a_lastSet a_takes a_behind k P)
    (K : ∀ b : Bool, (b = true ↔ ∃ p, p < zp_n P ∧ (ze_s P p (zp_n P)).testBit p = true) → post (zb_i b)) :
    ∀ n p (any : Bool), p ≤ zp_n P → zp_n P < n + p → (any = true ↔ ∃ q, q < p ∧ (ze_s P q (zp_n P)).testBit q = true) → wX_endless_14 post (nI k) f_height f_signs f_demands f_bounds f_isSolved f_kinds f_solutionCount f_leastSum f_found a_sizes a_hasEmpty a_firstSet a_lastSet a_takes a_behind a_sign a_demandSigns a_demandSign a_demandPattern a_demandKept a_factor a_limit a_lengthOf a_lettersOf a_action a_kindWord a_kindCount a_kindOf a_kindAction a_countOfSum a_lengthSet a_kindSet a_firstWord a_foundSet a_numberOf a_stepTo a_group a_nextGroup a_counts a_isPair a_pairQueue a_chosen n (zb_i any) (nI p) := by
  have hn := W.1
  intro n
  induction n with
  | zero => intro p any h1 h2; omega
  | succ n ih =>
    intro p any h1 h2 hI
    rw [wX_endless_14]
    refine And.intro (vp_in_nI hk (by decide)) ?_
    rw [nI_clamp (show k < 2 ^ 31 by omega), H.1]
    refine pk_le (zp_n P) p (fun h => ?_) (fun h => ?_)
    · have e : p = zp_n P := by omega
      rw [e] at hI
      exact And.intro (zb_in any) (K any hI)
    · have hT := H.2.2.2.2 p h
      refine ⟨zp_n P + 3, ?_⟩
      rw [wX_endless_30]
      refine And.intro (vp_in_nI hk (by decide)) ?_
      rw [nI_clamp (show k < 2 ^ 31 by omega), H.1]
      refine br_f (nI_nlt (a := zp_n P) (b := 0) (by omega) (by omega)) (br_t rfl ?_)
      rw [zb_6]
      refine And.intro (vp_in_nI (by omega) (by decide)) (nm_r (e' := nI (ze_s P p 0)) ?_ (nm_r (nI_1 0) ?_))
      · rw [nI_clamp (show 6 * k + p < 2 ^ 31 by omega), hT.2]; rfl
      · refine zx_e30 hk h W H ?_ (zp_n P + 1) 0 (by omega) (by omega)
        refine ih (p + 1) _ (by omega) (by omega) ?_
        rw [Bool.or_eq_true, hI]
        constructor
        · rintro (⟨q, a, b⟩ | b)
          · exact ⟨q, by omega, b⟩
          · exact ⟨p, by omega, b⟩
        · rintro ⟨q, a, b⟩
          by_cases z : q = p
          · rw [z] at b; exact Or.inr b
          · exact Or.inl ⟨q, by omega, b⟩
theorem zx_endless {post : Int32 → Prop} (hk : k < 3) (W : zp_W P) (H : zx_P a_sizes a_hasEmpty a_firstSet a_lastSet a_takes a_behind k P)
    (K : ∀ b : Bool, (b = true ↔ ze_cyc P) → post (zb_i b)) : wpX_endless post (f_height, f_signs, f_demands, f_bounds, f_isSolved, f_kinds, f_solutionCount, f_leastSum, f_found, a_sizes, a_hasEmpty, a_firstSet, a_lastSet, a_takes, a_behind, a_sign, a_demandSigns, a_demandSign, a_demandPattern, a_demandKept, a_factor, a_limit, a_lengthOf, a_lettersOf, a_action, a_kindWord, a_kindCount, a_kindOf, a_kindAction, a_countOfSum, a_lengthSet, a_kindSet, a_firstWord, a_foundSet, a_numberOf, a_stepTo, a_group, a_nextGroup, a_counts, a_isPair, a_pairQueue, a_chosen) (nI k) := by
  unfold wpX_endless wpX_badThree
  try dsimp only
  refine br_f (nI_pos (by omega)) (br_t (nI_le (b := 2) (by omega) (by decide)) (br_t rfl ⟨zp_n P + 1, ?_⟩))
  refine zx_e14 (by omega) W H (fun b hb => K b (by rw [hb, ze_xlaw W])) (zp_n P + 1) 0 false (by omega) (by omega) ?_
  exact ⟨fun z => absurd z (by decide), fun ⟨q, a, _⟩ => absurd a (Nat.not_lt_zero q)⟩
end
end
section
/-! X: pairs of sets that the same words lead to, in a queue -/
def zc (a b : Nat) : Nat := 128 * zu a + zu b
theorem zc_lt {a b : Nat} (ha : a < 128) (hb : b < 128) : zc a b < 16384 := by
  have := zu_lt ha; have := zu_lt hb; unfold zc; omega
theorem zc_inj {a b c d : Nat} (ha : a < 128) (hb : b < 128) (hc : c < 128) (hd : d < 128) (h : zc a b = zc c d) : a = c ∧ b = d := by
  have h1 := zu_lt ha; have h2 := zu_lt hb; have h3 := zu_lt hc; have h4 := zu_lt hd
  unfold zc at h
  exact ⟨zu_inj ha hc (by omega), zu_inj hb hd (by omega)⟩
def zc_S (P Q : PT) (n : Nat) (e : Nat → Nat) (ip pq : Nat → Int32) : Prop :=
  n ≤ 16384 ∧ (∀ i, i < n → (∃ a b, zr2 P Q a b ∧ a < 128 ∧ b < 128 ∧ e i = zc a b) ∧ pq i = nI (e i) ∧ ¬ ip (e i) = 0) ∧ (∀ i j, i < n → j < n → e i = e j → i = j) ∧ ∀ x, x < 16384 → (∃ i, i < n ∧ e i = x) ∨ ip x = 0
section
variable {f_height f_signs f_demands f_bounds f_isSolved f_kinds f_solutionCount f_leastSum f_found : Int32} {a_sizes a_hasEmpty a_firstSet a_lastSet a_takes a_behind a_sign a_demandSigns a_demandSign a_demandPattern a_demandKept a_factor a_limit a_lengthOf a_lettersOf a_action a_kindWord a_kindCount a_kindOf a_kindAction a_countOfSum a_lengthSet a_kindSet a_firstWord a_foundSet a_numberOf a_stepTo a_group a_nextGroup a_counts a_isPair a_pairQueue a_chosen : Nat → Int32}
variable {k j : Nat} {P Q : PT}
theorem zx_s130 {post : Int32 → SX → Prop} {i m a b : Nat} {al : Bool} (hk : k < 8) (hj : j < 8) (W : zp_W P) (V : zp_W Q) (H : zx_P a_sizes a_hasEmpty a_firstSet a_lastSet a_takes a_behind k P) (H2 : zx_P a_sizes a_hasEmpty a_firstSet a_lastSet a_takes a_behind j Q) (R : zr2 P Q a b) :
    ∀ f c n e a_isPair a_pairQueue, c ≤ 2 → 2 < f + c → zc_S P Q n e a_isPair a_pairQueue → (∀ c', c' < c → ∃ q, q < n ∧ e q = zc (zp_d P a c') (zp_d Q b c')) → i < 16384 →
    (∀ n' e' ip pq, zc_S P Q n' e' ip pq → n ≤ n' → (∀ q, q < n → e' q = e q) → (∀ c', c' < 2 → ∃ q, q < n' ∧ e' q = zc (zp_d P a c') (zp_d Q b c')) → wX_same_66 post (nI k) (nI j) f_height f_signs f_demands f_bounds f_isSolved f_kinds f_solutionCount f_leastSum f_found m (nI n') (zb_i al) (nI (i + 1)) a_sizes a_hasEmpty a_firstSet a_lastSet a_takes a_behind a_sign a_demandSigns a_demandSign a_demandPattern a_demandKept a_factor a_limit a_lengthOf a_lettersOf a_action a_kindWord a_kindCount a_kindOf a_kindAction a_countOfSum a_lengthSet a_kindSet a_firstWord a_foundSet a_numberOf a_stepTo a_group a_nextGroup a_counts ip pq a_chosen) →
    wX_same_130 post (wX_same_66 post (nI k) (nI j) f_height f_signs f_demands f_bounds f_isSolved f_kinds f_solutionCount f_leastSum f_found m) (nI k) (nI j) (zb_i al) (nI i) (nI (zu a)) (nI (zu b)) f_height f_signs f_demands f_bounds f_isSolved f_kinds f_solutionCount f_leastSum f_found f (nI n) (nI c) a_sizes a_hasEmpty a_firstSet a_lastSet a_takes a_behind a_sign a_demandSigns a_demandSign a_demandPattern a_demandKept a_factor a_limit a_lengthOf a_lettersOf a_action a_kindWord a_kindCount a_kindOf a_kindAction a_countOfSum a_lengthSet a_kindSet a_firstWord a_foundSet a_numberOf a_stepTo a_group a_nextGroup a_counts a_isPair a_pairQueue a_chosen := by
  obtain ⟨Ga, Gb⟩ := zr2_g W V R
  intro f
  induction f with
  | zero => intro c n e ip pq h1 h2; omega
  | succ f ih =>
    intro c n e ip pq h1 h2 S hc hi K
    obtain ⟨s1, s2, s3, s4⟩ := S
    rw [wX_same_130]
    refine pk_le 2 c (fun h => ?_) (fun h => ?_)
    · have : c = 2 := by omega
      subst this
      exact nm_r (nI_1 i) (K n e ip pq ⟨s1, s2, s3, s4⟩ (Nat.le_refl _) (fun _ _ => rfl) hc)
    · have hda := zp_d128 W a c
      have hdb := zp_d128 V b c
      have hlt := zc_lt hda hdb
      have R' := zr2_s R h
      refine zx_setg hk h W H Ga (zx_setg hj h V H2 Gb (nm_r (e' := nI (zc (zp_d P a c) (zp_d Q b c))) ?_ ?_))
      · show nI 128 * _ + _ = _
        rw [pk_mul, nI_add]; rfl
      · have hin : vp_in (nI (zc (zp_d P a c) (zp_d Q b c))) 16384 := vp_in_nI hlt (by decide)
        refine And.intro hin ?_
        rw [nI_clamp (show zc (zp_d P a c) (zp_d Q b c) < 2 ^ 31 by omega)]
        by_cases z : ∃ q, q < n ∧ e q = zc (zp_d P a c) (zp_d Q b c)
        · obtain ⟨q, hq, eq⟩ := z
          have hne := (s2 q hq).2.2
          rw [eq] at hne
          refine br_f hne (nm_r (nI_1 c) (ih (c + 1) n e ip pq (by omega) (by omega) ⟨s1, s2, s3, s4⟩ (fun c' hc' => ?_) hi K))
          by_cases y : c' = c
          · rw [y]; exact ⟨q, hq, eq⟩
          · exact hc c' (by omega)
        · have hz : ip (zc (zp_d P a c) (zp_d Q b c)) = 0 := by
            rcases s4 _ hlt with y | y
            · exact absurd y z
            · exact y
          have hne : ∀ q, q < n → e q ≠ zc (zp_d P a c) (zp_d Q b c) := fun q hq y => z ⟨q, hq, y⟩
          have hlt2 : ∀ q, q < n → e q < 16384 := fun q hq => by
            obtain ⟨⟨a', b', _, h3, h4, h5⟩, _⟩ := s2 q hq
            rw [h5]; exact zc_lt h3 h4
          have hroom : n < 16384 := zf_room hlt2 s3 hlt hne
          refine br_t hz (And.intro hin (nm_e (And.intro (vp_in_nI hroom (by decide)) (nm_e (nm_r (nI_1 n) (nm_r (nI_1 c) ?_))))))
          rw [nI_clamp (show n < 2 ^ 31 by omega)]
          refine ih (c + 1) (n + 1) (fun q => if q < n then e q else zc (zp_d P a c) (zp_d Q b c)) _ _ (by omega) (by omega) ⟨by omega, ?_, ?_, ?_⟩ ?_ hi ?_
          · intro q hq
            try dsimp only
            by_cases y : q < n
            · obtain ⟨t1, t2, t3⟩ := s2 q y
              rw [if_pos y, pk_un (by omega), pk_un (hne q y)]
              exact ⟨t1, t2, t3⟩
            · have : q = n := by omega
              subst this
              rw [if_neg y, pk_us, pk_us]
              exact ⟨⟨_, _, R', hda, hdb, rfl⟩, rfl, by decide⟩
          · intro q r hq hr
            try dsimp only
            by_cases y : q < n
            · by_cases y2 : r < n
              · rw [if_pos y, if_pos y2]; exact s3 q r y y2
              · rw [if_pos y, if_neg y2]; intro g; exact absurd g (hne q y)
            · by_cases y2 : r < n
              · rw [if_neg y, if_pos y2]; intro g; exact absurd g.symm (hne r y2)
              · intro _; omega
          · intro x hx
            by_cases y : x = zc (zp_d P a c) (zp_d Q b c)
            · left; exact ⟨n, by omega, by (try dsimp only); rw [if_neg (by omega)]; exact y.symm⟩
            · rcases s4 x hx with ⟨q, hq, eq⟩ | y2
              · left; exact ⟨q, by omega, by (try dsimp only); rw [if_pos hq]; exact eq⟩
              · right; rw [pk_un y]; exact y2
          · intro c' hc'
            by_cases y : c' = c
            · rw [y]; exact ⟨n, by omega, by (try dsimp only); rw [if_neg (by omega)]⟩
            · obtain ⟨q, hq, eq⟩ := hc c' (by omega)
              exact ⟨q, by omega, by (try dsimp only); rw [if_pos hq]; exact eq⟩
          · intro n' e' ip' pq' S' l1 l2 l3
            refine K n' e' ip' pq' S' (by omega) (fun q hq => ?_) l3
            rw [l2 q (by omega)]; exact if_pos hq
theorem zx_s66 {post : Int32 → SX → Prop} (hk : k < 8) (hj : j < 8) (W : zp_W P) (V : zp_W Q) (H : zx_P a_sizes a_hasEmpty a_firstSet a_lastSet a_takes a_behind k P) (H2 : zx_P a_sizes a_hasEmpty a_firstSet a_lastSet a_takes a_behind j Q)
    (K : ∀ (b : Bool) ip pq, (b = true ↔ zsame P Q) → post (zb_i b) (f_height, f_signs, f_demands, f_bounds, f_isSolved, f_kinds, f_solutionCount, f_leastSum, f_found, a_sizes, a_hasEmpty, a_firstSet, a_lastSet, a_takes, a_behind, a_sign, a_demandSigns, a_demandSign, a_demandPattern, a_demandKept, a_factor, a_limit, a_lengthOf, a_lettersOf, a_action, a_kindWord, a_kindCount, a_kindOf, a_kindAction, a_countOfSum, a_lengthSet, a_kindSet, a_firstWord, a_foundSet, a_numberOf, a_stepTo, a_group, a_nextGroup, a_counts, ip, pq, a_chosen)) :
    ∀ f i n e (al : Bool) a_isPair a_pairQueue, i ≤ n → 16384 < f + i → 0 < n → e 0 = zc 64 64 → zc_S P Q n e a_isPair a_pairQueue → (al = false → ¬ zsame P Q) →
    (al = true → ∀ q, q < i → ∀ a b, a < 128 → b < 128 → e q = zc a b → zp_a P a = zp_a Q b ∧ ∀ c, c < 2 → ∃ r, r < n ∧ e r = zc (zp_d P a c) (zp_d Q b c)) →
    wX_same_66 post (nI k) (nI j) f_height f_signs f_demands f_bounds f_isSolved f_kinds f_solutionCount f_leastSum f_found f (nI n) (zb_i al) (nI i) a_sizes a_hasEmpty a_firstSet a_lastSet a_takes a_behind a_sign a_demandSigns a_demandSign a_demandPattern a_demandKept a_factor a_limit a_lengthOf a_lettersOf a_action a_kindWord a_kindCount a_kindOf a_kindAction a_countOfSum a_lengthSet a_kindSet a_firstWord a_foundSet a_numberOf a_stepTo a_group a_nextGroup a_counts a_isPair a_pairQueue a_chosen := by
  intro f
  induction f with
  | zero => intro i n e al ip pq h1 h2 _ _ S; have := S.1; omega
  | succ f ih =>
    intro i n e al ip pq h1 h2 h0 he S hf ht
    have hn := S.1
    rw [wX_same_66]
    refine pk_le n i (fun h => ?_) (fun h => ?_)
    · refine And.intro (zb_in al) (K al ip pq ?_)
      cases al with
      | false => exact ⟨fun z => absurd z (by decide), fun z => absurd z (hf rfl)⟩
      | true =>
        refine ⟨fun _ => ?_, fun _ => rfl⟩
        have hi : i = n := by omega
        subst hi
        have hall := ht rfl
        have key : ∀ a b, zr2 P Q a b → ∃ q, q < i ∧ a < 128 ∧ b < 128 ∧ e q = zc a b := by
          intro a b R
          refine R (fun a b => ∃ q, q < i ∧ a < 128 ∧ b < 128 ∧ e q = zc a b) ⟨0, h0, by decide, by decide, he⟩ ?_
          rintro a b c ⟨q, hq, ha, hb, eq⟩ hc
          obtain ⟨r, hr, er⟩ := (hall q hq a b ha hb eq).2 c hc
          exact ⟨r, hr, zp_d128 W _ _, zp_d128 V _ _, er⟩
        intro a b R
        obtain ⟨q, hq, ha, hb, eq⟩ := key a b R
        exact (hall q hq a b ha hb eq).1
    · cases al with
      | false => exact br_t rfl (And.intro (zb_in false) (K false ip pq ⟨fun z => absurd z (by decide), fun z => absurd z (hf rfl)⟩))
      | true =>
        obtain ⟨⟨a, b, R, ha, hb, eab⟩, hpq, hip⟩ := S.2.1 i h
        have hua := zu_lt ha
        have hub := zu_lt hb
        have hlt := zc_lt ha hb
        have hin : vp_in (nI i) 16384 := vp_in_nI (by omega) (by decide)
        have hcl : pq (nI i).toNatClampNeg = nI (zc a b) := by rw [nI_clamp (show i < 2 ^ 31 by omega), hpq, eab]
        have e1 : nI (zc a b) / 128 = nI (zu a) := by
          rw [show (128 : Int32) = nI 128 from rfl, pk_div (by omega) (by decide) (by decide)]
          exact congrArg nI (by unfold zc; omega)
        have e2 : nI (zc a b) - nI (zc a b) / 128 * 128 = nI (zu b) := by
          rw [show (128 : Int32) = nI 128 from rfl, pk_rem (by omega) (by decide) (by decide)]
          exact congrArg nI (by unfold zc; omega)
        rw [hcl]
        refine br_f zb_10 (And.intro hin (And.intro (by decide) (nm_r e1 (And.intro hin (And.intro (by decide) (nm_r e2 ?_))))))
        refine zx_end hk ha W H (zx_end hj hb V H2 ?_)
        have hnew : ∀ {n' : Nat} {e' : Nat → Nat}, n ≤ n' → (∀ q, q < n → e' q = e q) → (∀ c', c' < 2 → ∃ q, q < n' ∧ e' q = zc (zp_d P a c') (zp_d Q b c')) → zp_a P a = zp_a Q b → ∀ q, q < i + 1 → ∀ a b, a < 128 → b < 128 → e' q = zc a b → zp_a P a = zp_a Q b ∧ ∀ c, c < 2 → ∃ r, r < n' ∧ e' r = zc (zp_d P a c) (zp_d Q b c) := by
          intro n' e' l1 l2 l3 l4 q hq a' b' ha' hb' eq
          rw [l2 q (by omega)] at eq
          by_cases z : q = i
          · rw [z, eab] at eq
            obtain ⟨r1, r2⟩ := zc_inj ha hb ha' hb' eq
            subst r1 r2
            exact ⟨l4, l3⟩
          · obtain ⟨g1, g2⟩ := ht rfl q (by omega) a' b' ha' hb' eq
            refine ⟨g1, fun c hc => ?_⟩
            obtain ⟨r, hr, er⟩ := g2 c hc
            exact ⟨r, by omega, by rw [l2 r hr]; exact er⟩
        refine br_c (fun hz => ?_) (fun hz => ?_)
        · have hz' := zb_ij.mp hz
          refine ⟨3, zx_s130 (al := true) hk hj W V H H2 R 3 0 n e ip pq (by omega) (by omega) S (fun c' h' => absurd h' (Nat.not_lt_zero c')) (by omega) ?_⟩
          intro n' e' ip' pq' S' l1 l2 l3
          exact ih (i + 1) n' e' true ip' pq' (by omega) (by omega) (by omega) (by rw [l2 0 h0]; exact he) S' (fun z => absurd z (by decide)) (fun _ => hnew l1 l2 l3 hz')
        · have hz' : ¬ zp_a P a = zp_a Q b := fun y => hz (zb_ij.mpr y)
          refine ⟨3, zx_s130 (al := false) hk hj W V H H2 R 3 0 n e ip pq (by omega) (by omega) S (fun c' h' => absurd h' (Nat.not_lt_zero c')) (by omega) ?_⟩
          intro n' e' ip' pq' S' l1 l2 l3
          exact ih (i + 1) n' e' false ip' pq' (by omega) (by omega) (by omega) (by rw [l2 0 h0]; exact he) S' (fun _ y => hz' (y a b R)) (fun z => absurd z (by decide))
theorem zx_same {post : Int32 → SX → Prop} (hk : k < 3) (hj : j < 3) (W : zp_W P) (V : zp_W Q) (H : zx_P a_sizes a_hasEmpty a_firstSet a_lastSet a_takes a_behind k P) (H2 : zx_P a_sizes a_hasEmpty a_firstSet a_lastSet a_takes a_behind j Q)
    (K : ∀ (b : Bool) ip pq, (b = true ↔ zsame P Q) → post (zb_i b) (f_height, f_signs, f_demands, f_bounds, f_isSolved, f_kinds, f_solutionCount, f_leastSum, f_found, a_sizes, a_hasEmpty, a_firstSet, a_lastSet, a_takes, a_behind, a_sign, a_demandSigns, a_demandSign, a_demandPattern, a_demandKept, a_factor, a_limit, a_lengthOf, a_lettersOf, a_action, a_kindWord, a_kindCount, a_kindOf, a_kindAction, a_countOfSum, a_lengthSet, a_kindSet, a_firstWord, a_foundSet, a_numberOf, a_stepTo, a_group, a_nextGroup, a_counts, ip, pq, a_chosen)) :
    wpX_same post (f_height, f_signs, f_demands, f_bounds, f_isSolved, f_kinds, f_solutionCount, f_leastSum, f_found, a_sizes, a_hasEmpty, a_firstSet, a_lastSet, a_takes, a_behind, a_sign, a_demandSigns, a_demandSign, a_demandPattern, a_demandKept, a_factor, a_limit, a_lengthOf, a_lettersOf, a_action, a_kindWord, a_kindCount, a_kindOf, a_kindAction, a_countOfSum, a_lengthSet, a_kindSet, a_firstWord, a_foundSet, a_numberOf, a_stepTo, a_group, a_nextGroup, a_counts, a_isPair, a_pairQueue, a_chosen) (nI k) (nI j) := by
  unfold wpX_same wpX_badThree
  try dsimp only
  refine br_f (nI_pos (by omega)) (br_t (nI_le (b := 2) (by omega) (by decide)) (br_t rfl (br_f (nI_pos (by omega)) (br_t (nI_le (b := 2) (by omega) (by decide)) (br_t rfl ?_)))))
  refine loop_0 (fun n i ip => wX_same_20 post (nI k) (nI j) f_height f_signs f_demands f_bounds f_isSolved f_kinds f_solutionCount f_leastSum f_found n (nI i) a_sizes a_hasEmpty a_firstSet a_lastSet a_takes a_behind a_sign a_demandSigns a_demandSign a_demandPattern a_demandKept a_factor a_limit a_lengthOf a_lettersOf a_action a_kindWord a_kindCount a_kindOf a_kindAction a_countOfSum a_lengthSet a_kindSet a_firstWord a_foundSet a_numberOf a_stepTo a_group a_nextGroup a_counts ip a_pairQueue a_chosen) (fun i ip => ∀ x, x < i → ip x = 0) 16384 a_isPair (fun x h => absurd h (Nat.not_lt_zero x)) ?_ ?_
  · intro n ip h1
    show wX_same_20 post (nI k) (nI j) f_height f_signs f_demands f_bounds f_isSolved f_kinds f_solutionCount f_leastSum f_found (n + 1) (nI 16384) a_sizes a_hasEmpty a_firstSet a_lastSet a_takes a_behind a_sign a_demandSigns a_demandSign a_demandPattern a_demandKept a_factor a_limit a_lengthOf a_lettersOf a_action a_kindWord a_kindCount a_kindOf a_kindAction a_countOfSum a_lengthSet a_kindSet a_firstWord a_foundSet a_numberOf a_stepTo a_group a_nextGroup a_counts ip a_pairQueue a_chosen
    rw [wX_same_20]
    refine br_t (by decide) (nm_e (nm_e ⟨16385, ?_⟩))
    refine zx_s66 (by omega) (by omega) W V H H2 K 16385 0 1 (fun _ => zc 64 64) true _ _ (by omega) (by omega) (by omega) rfl ⟨by omega, ?_, ?_, ?_⟩ (fun z => absurd z (by decide)) (fun _ q hq => absurd hq (Nat.not_lt_zero q))
    · intro q hq
      have : q = 0 := by omega
      subst this
      exact ⟨⟨64, 64, zr2_0 P Q, by decide, by decide, rfl⟩, pk_us, by
        show ¬ upd ip 129 (vp_nar .boolean 1) 129 = 0
        rw [pk_us]; decide⟩
    · intro q r hq hr _; omega
    · intro x hx
      by_cases z : x = 129
      · left; exact ⟨0, by omega, z.symm⟩
      · right; rw [pk_un z]; exact h1 x hx
  · intro n i ip hi h1 K'
    show wX_same_20 post (nI k) (nI j) f_height f_signs f_demands f_bounds f_isSolved f_kinds f_solutionCount f_leastSum f_found (n + 1) (nI i) a_sizes a_hasEmpty a_firstSet a_lastSet a_takes a_behind a_sign a_demandSigns a_demandSign a_demandPattern a_demandKept a_factor a_limit a_lengthOf a_lettersOf a_action a_kindWord a_kindCount a_kindOf a_kindAction a_countOfSum a_lengthSet a_kindSet a_firstWord a_foundSet a_numberOf a_stepTo a_group a_nextGroup a_counts ip a_pairQueue a_chosen
    rw [wX_same_20]
    refine br_f (nI_ge (b := 16384) hi (by decide)) (And.intro (vp_in_nI hi (by decide)) (nm_e (nm_r (nI_1 i) (K' _ ?_))))
    rw [nI_clamp (show i < 2 ^ 31 by omega)]
    intro x hx
    by_cases z : x = i
    · rw [z, pk_us]; rfl
    · rw [pk_un z]; exact h1 x (by omega)
end
end
section
/-! Y: pairs by closing a table -/
def zz0 (ap : Nat → Int32) (M : Nat) : Nat := zn (fun x => if ap x = 0 then 1 else 0) M
theorem zz_le {ap ap' : Nat → Int32} {M : Nat} (h : ∀ x, x < M → ap' x = 0 → ap x = 0) : zz0 ap' M ≤ zz0 ap M := by
  unfold zz0
  induction M with
  | zero => exact Nat.le_refl _
  | succ M ih =>
    have a := ih (fun x hx => h x (by omega))
    have b := h M (by omega)
    show zn _ M + (if ap' M = 0 then 1 else 0) ≤ zn _ M + (if ap M = 0 then 1 else 0)
    by_cases c : ap' M = 0
    · rw [if_pos c, if_pos (b c)]; omega
    · rw [if_neg c]; omega
theorem zz_lt {ap ap' : Nat → Int32} {M t : Nat} (h : ∀ x, x < M → ap' x = 0 → ap x = 0) (ht : t < M) (h0 : ap t = 0) (h1 : ¬ ap' t = 0) : zz0 ap' M < zz0 ap M := by
  induction M with
  | zero => omega
  | succ M ih =>
    have b := h M (by omega)
    show zn (fun x => if ap' x = 0 then 1 else 0) M + (if ap' M = 0 then 1 else 0) < zn (fun x => if ap x = 0 then 1 else 0) M + (if ap M = 0 then 1 else 0)
    by_cases e : t = M
    · subst e
      have a : zz0 ap' t ≤ zz0 ap t := zz_le (fun x hx => h x (by omega))
      unfold zz0 at a
      rw [if_neg h1, if_pos h0]; omega
    · have a := ih (fun x hx => h x (by omega)) (by omega)
      unfold zz0 at a
      by_cases c : ap' M = 0
      · rw [if_pos c, if_pos (b c)]; omega
      · rw [if_neg c]; omega
theorem zz_max (ap : Nat → Int32) (M : Nat) : zz0 ap M ≤ M := by
  have := zn_le (f := fun x => if ap x = 0 then 1 else 0) (b := 1) (n := M) (fun i _ => by
    show (if ap i = 0 then 1 else 0) ≤ 1
    by_cases c : ap i = 0
    · rw [if_pos c]; exact Nat.le_refl _
    · rw [if_neg c]; exact Nat.zero_le _)
  unfold zz0
  omega
section
variable {g_depth g_termLength g_demands g_boundCount g_known g_found g_least : Int32} {b_sizes b_empties b_firsts b_lasts b_letters b_behinds b_steps b_term b_patterns b_kepts b_signs b_signCounts b_bounds b_firstWords b_sums b_met b_tried b_seen b_apart b_counts b_next : Nat → Int32}
variable {k j : Nat} {P Q : PT}
/-- what the table of pairs holds: the beginnings, and only pairs that words lead to -/
def zy_R (P Q : PT) (ap : Nat → Int32) : Prop := ¬ ap 8256 = 0 ∧ ∀ a b, a < 128 → b < 128 → ¬ ap (128 * a + b) = 0 → zr2 P Q a b
theorem zy_181 {post : Int32 → SY → Prop} {i m n t : Nat} {more fresh : Bool} {x1 x2 z0 : Int32} {z : Bool} (hz : z0 = zb_i z) (ht : t < 16384) (hv : z = true ↔ (¬ b_apart t = 0 ∨ fresh = true))
    (K : ∀ ap, (∀ x, x ≠ t → ap x = b_apart x) → (¬ ap t = 0 ↔ (¬ b_apart t = 0 ∨ fresh = true)) → wY_isSame_44 post (wY_isSame_35 post x1 x2 g_depth g_termLength g_demands g_boundCount g_known g_found g_least m) x1 x2 g_depth g_termLength g_demands g_boundCount g_known g_found g_least n (zb_i (more || fresh)) (nI (i + 1)) b_sizes b_empties b_firsts b_lasts b_letters b_behinds b_steps b_term b_patterns b_kepts b_signs b_signCounts b_bounds b_firstWords b_sums b_met b_tried b_seen ap b_counts b_next) :
    wY_isSame_181 post (wY_isSame_35 post x1 x2 g_depth g_termLength g_demands g_boundCount g_known g_found g_least m) (wY_isSame_44 post (wY_isSame_35 post x1 x2 g_depth g_termLength g_demands g_boundCount g_known g_found g_least m) x1 x2 g_depth g_termLength g_demands g_boundCount g_known g_found g_least n) x1 x2 (zb_i more) (nI i) (zb_i fresh) z0 (nI t) g_depth g_termLength g_demands g_boundCount g_known g_found g_least b_sizes b_empties b_firsts b_lasts b_letters b_behinds b_steps b_term b_patterns b_kepts b_signs b_signCounts b_bounds b_firstWords b_sums b_met b_tried b_seen b_apart b_counts b_next := by
  subst hz
  rw [wY_isSame_181]
  refine And.intro (vp_in_nI ht (by decide)) (nm_e ?_)
  rw [nI_clamp (show t < 2 ^ 31 by omega), zb_iv]
  have K1 := K (upd b_apart t (zb_i z)) (fun x hx => pk_un hx) (by
    rw [pk_us, ← hv, zb_i0]
    cases z <;> decide)
  cases more with
  | false =>
    refine br_t rfl ?_
    cases fresh with
    | false => exact br_t rfl (nm_r (nI_1 i) K1)
    | true => exact br_f zb_10 (nm_r (nI_1 i) K1)
  | true => exact br_f zb_10 (nm_r (nI_1 i) K1)
theorem zy_139 {post : Int32 → SY → Prop} {i m n c d : Nat} {more fresh : Bool} {x1 x2 : Int32} (hc : c < 128) (hd : d < 128)
    (K : ∀ ap, (∀ x, x ≠ 128 * c + d → ap x = b_apart x) → (¬ ap (128 * c + d) = 0 ↔ (¬ b_apart (128 * c + d) = 0 ∨ fresh = true)) → wY_isSame_44 post (wY_isSame_35 post x1 x2 g_depth g_termLength g_demands g_boundCount g_known g_found g_least m) x1 x2 g_depth g_termLength g_demands g_boundCount g_known g_found g_least n (zb_i (more || fresh)) (nI (i + 1)) b_sizes b_empties b_firsts b_lasts b_letters b_behinds b_steps b_term b_patterns b_kepts b_signs b_signCounts b_bounds b_firstWords b_sums b_met b_tried b_seen ap b_counts b_next) :
    wY_isSame_139 post (wY_isSame_35 post x1 x2 g_depth g_termLength g_demands g_boundCount g_known g_found g_least m) (wY_isSame_44 post (wY_isSame_35 post x1 x2 g_depth g_termLength g_demands g_boundCount g_known g_found g_least m) x1 x2 g_depth g_termLength g_demands g_boundCount g_known g_found g_least n) x1 x2 (zb_i more) (nI i) (nI c) (nI d) (zb_i fresh) g_depth g_termLength g_demands g_boundCount g_known g_found g_least b_sizes b_empties b_firsts b_lasts b_letters b_behinds b_steps b_term b_patterns b_kepts b_signs b_signCounts b_bounds b_firstWords b_sums b_met b_tried b_seen b_apart b_counts b_next := by
  have ht : 128 * c + d < 16384 := by omega
  have e : (128 : Int32) * nI c + nI d = nI (128 * c + d) := by
    show nI 128 * nI c + nI d = _
    rw [pk_mul, nI_add]
  rw [wY_isSame_139]
  try dsimp only
  rw [e]
  refine And.intro (vp_in_nI ht (by decide)) ?_
  rw [nI_clamp (show 128 * c + d < 2 ^ 31 by omega)]
  refine br_c (fun h => ?_) (fun h => ?_)
  · cases fresh with
    | false => exact br_t rfl (zy_181 (z := false) rfl ht ⟨fun q => absurd q (by decide), fun q => q.elim (fun y => absurd h y) (fun y => absurd y (by decide))⟩ K)
    | true =>
      refine br_f zb_10 ?_
      rw [wY_isSame_176]
      exact zy_181 (z := true) rfl ht ⟨fun _ => Or.inr rfl, fun _ => rfl⟩ K
  · rw [wY_isSame_176]
    exact zy_181 (z := true) rfl ht ⟨fun _ => Or.inl h, fun _ => rfl⟩ K
/-- one pass over all pairs and letters -/
theorem zy_44 {post : Int32 → SY → Prop} {m : Nat} {ap0 : Nat → Int32} (hk : k < 3) (hj : j < 3) (W : zp_W P) (V : zp_W Q) (T : zy_T b_steps k P) (T2 : zy_T b_steps j Q)
    (K : ∀ (more : Bool) ap, zy_R P Q ap → (more = true → zz0 ap 16384 < zz0 ap0 16384) → (more = false → ∀ a b c, a < 128 → b < 128 → c < 2 → ¬ ap (128 * a + b) = 0 → ¬ ap (128 * zp_d P a c + zp_d Q b c) = 0) → wY_isSame_35 post (nI k) (nI j) g_depth g_termLength g_demands g_boundCount g_known g_found g_least m (zb_i more) b_sizes b_empties b_firsts b_lasts b_letters b_behinds b_steps b_term b_patterns b_kepts b_signs b_signCounts b_bounds b_firstWords b_sums b_met b_tried b_seen ap b_counts b_next) :
    ∀ n i (more : Bool) b_apart, i ≤ 32768 → 32768 < n + i → zy_R P Q b_apart → zz0 b_apart 16384 ≤ zz0 ap0 16384 → (more = true → zz0 b_apart 16384 < zz0 ap0 16384) →
    (more = false → ∀ q, q < i → ¬ b_apart (q / 2) = 0 → ¬ b_apart (128 * zp_d P (q / 256) (q % 2) + zp_d Q (q / 2 % 128) (q % 2)) = 0) →
    wY_isSame_44 post (wY_isSame_35 post (nI k) (nI j) g_depth g_termLength g_demands g_boundCount g_known g_found g_least m) (nI k) (nI j) g_depth g_termLength g_demands g_boundCount g_known g_found g_least n (zb_i more) (nI i) b_sizes b_empties b_firsts b_lasts b_letters b_behinds b_steps b_term b_patterns b_kepts b_signs b_signCounts b_bounds b_firstWords b_sums b_met b_tried b_seen b_apart b_counts b_next := by
  intro n
  induction n with
  | zero => intro i more ap h1 h2; omega
  | succ n ih =>
    intro i more ap h1 h2 hR hle hm hcl
    rw [wY_isSame_44]
    refine pk_le 32768 i (fun h => ?_) (fun h => ?_)
    · refine K more ap hR hm (fun hf a b c ha hb hc => ?_)
      have := hcl hf (2 * (128 * a + b) + c) (by omega)
      rw [show (2 * (128 * a + b) + c) / 2 = 128 * a + b by omega, show (2 * (128 * a + b) + c) / 256 = a by omega, show (2 * (128 * a + b) + c) % 2 = c by omega, show (128 * a + b) % 128 = b by omega] at this
      exact this
    · have e2 : nI i / 2 = nI (i / 2) := pk_div (d := 2) (by omega) (by decide) (by decide)
      have e256 : nI i / 256 = nI (i / 256) := pk_div (d := 256) (by omega) (by decide) (by decide)
      have er : nI i - nI i / 2 * 2 = nI (i % 2) := pk_rem (d := 2) (by omega) (by decide) (by decide)
      have e128 : nI (i / 2) - nI (i / 2) / 128 * 128 = nI (i / 2 % 128) := pk_rem (d := 128) (by omega) (by decide) (by decide)
      have ea : ((256 : Int32) * nI k + nI (i / 256) * 2) + nI (i % 2) = nI (256 * k + 2 * (i / 256) + i % 2) := by
        show nI 256 * nI k + nI (i / 256) * nI 2 + nI (i % 2) = _
        rw [pk_mul, pk_mul, nI_add, nI_add, Nat.mul_comm (i / 256) 2]
      have eb : ((256 : Int32) * nI j + nI (i / 2 % 128) * 2) + nI (i % 2) = nI (256 * j + 2 * (i / 2 % 128) + i % 2) := by
        show nI 256 * nI j + nI (i / 2 % 128) * nI 2 + nI (i % 2) = _
        rw [pk_mul, pk_mul, nI_add, nI_add, Nat.mul_comm (i / 2 % 128) 2]
      have h1' := T (i / 256) (i % 2) (by omega) (by omega)
      have h2' := T2 (i / 2 % 128) (i % 2) (by omega) (by omega)
      have hd1 := zp_d128 W (i / 256) (i % 2)
      have hd2 := zp_d128 V (i / 2 % 128) (i % 2)
      have hi2 : 128 * (i / 256) + i / 2 % 128 = i / 2 := by omega
      rw [er, e2, e256, e128, ea, eb]
      refine And.intro (by decide) (And.intro (by decide) (And.intro (vp_in_nI (by omega) (by decide)) (nm_r (e' := nI (zp_d P (i / 256) (i % 2))) (by rw [nI_clamp (show 256 * k + 2 * (i / 256) + i % 2 < 2 ^ 31 by omega), h1']) ?_)))
      refine And.intro (by decide) (And.intro (by decide) (And.intro (by decide) (And.intro (vp_in_nI (by omega) (by decide)) (nm_r (e' := nI (zp_d Q (i / 2 % 128) (i % 2))) (by rw [nI_clamp (show 256 * j + 2 * (i / 2 % 128) + i % 2 < 2 ^ 31 by omega), h2']) ?_))))
      refine And.intro (by decide) (And.intro (vp_in_nI (by omega) (by decide)) ?_)
      have ed : (128 : Int32) * nI (zp_d P (i / 256) (i % 2)) + nI (zp_d Q (i / 2 % 128) (i % 2)) = nI (128 * zp_d P (i / 256) (i % 2) + zp_d Q (i / 2 % 128) (i % 2)) := by
        show nI 128 * _ + _ = _
        rw [pk_mul, nI_add]
      rw [nI_clamp (show i / 2 < 2 ^ 31 by omega), ed, nI_clamp (show 128 * zp_d P (i / 256) (i % 2) + zp_d Q (i / 2 % 128) (i % 2) < 2 ^ 31 by omega)]
      -- the step without a new pair
      have keep : (¬ ap (i / 2) = 0 → ¬ ap (128 * zp_d P (i / 256) (i % 2) + zp_d Q (i / 2 % 128) (i % 2)) = 0) → wY_isSame_138 post (wY_isSame_35 post (nI k) (nI j) g_depth g_termLength g_demands g_boundCount g_known g_found g_least m) (wY_isSame_44 post (wY_isSame_35 post (nI k) (nI j) g_depth g_termLength g_demands g_boundCount g_known g_found g_least m) (nI k) (nI j) g_depth g_termLength g_demands g_boundCount g_known g_found g_least n) (nI k) (nI j) (zb_i more) (nI i) (nI (zp_d P (i / 256) (i % 2))) (nI (zp_d Q (i / 2 % 128) (i % 2))) g_depth g_termLength g_demands g_boundCount g_known g_found g_least b_sizes b_empties b_firsts b_lasts b_letters b_behinds b_steps b_term b_patterns b_kepts b_signs b_signCounts b_bounds b_firstWords b_sums b_met b_tried b_seen ap b_counts b_next := by
        intro hq
        rw [wY_isSame_138]
        refine zy_139 (fresh := false) hd1 hd2 (fun ap' g1 g2 => ?_)
        have hs : ∀ x, ap' x = 0 ↔ ap x = 0 := by
          intro x
          by_cases z : x = 128 * zp_d P (i / 256) (i % 2) + zp_d Q (i / 2 % 128) (i % 2)
          · subst z
            have : (false = true) ↔ False := by decide
            rw [this, or_false] at g2
            exact zb_nn g2
          · rw [g1 x z]
        have hle' : zz0 ap' 16384 ≤ zz0 ap 16384 := zz_le (fun x _ => (hs x).mp)
        rw [Bool.or_false]
        refine ih (i + 1) more ap' (by omega) (by omega) ⟨?_, ?_⟩ (by omega) (fun z => by have := hm z; omega) (fun hf q hq' => ?_)
        · rw [hs]; exact hR.1
        · intro a b ha hb; rw [hs]; exact hR.2 a b ha hb
        · rw [hs, hs]
          by_cases z : q = i
          · rw [z]; exact hq
          · exact hcl hf q (by omega)
      refine br_c (fun hz => keep (fun y => absurd hz y)) (fun hz => ?_)
      refine And.intro (vp_in_nI (by omega) (by decide)) (br_c (fun hw => ?_) (fun hw => keep (fun _ => hw)))
      refine zy_139 (fresh := true) hd1 hd2 (fun ap' g1 g2 => ?_)
      have hnew : ¬ ap' (128 * zp_d P (i / 256) (i % 2) + zp_d Q (i / 2 % 128) (i % 2)) = 0 := g2.mpr (Or.inr rfl)
      have hmon : ∀ x, x < 16384 → ap' x = 0 → ap x = 0 := by
        intro x _ hx
        by_cases z : x = 128 * zp_d P (i / 256) (i % 2) + zp_d Q (i / 2 % 128) (i % 2)
        · rw [z] at hx; exact absurd hx hnew
        · rw [g1 x z] at hx; exact hx
      have hlt : zz0 ap' 16384 < zz0 ap 16384 := zz_lt hmon (t := 128 * zp_d P (i / 256) (i % 2) + zp_d Q (i / 2 % 128) (i % 2)) (by omega) hw hnew
      rw [Bool.or_true]
      refine ih (i + 1) true ap' (by omega) (by omega) ⟨?_, ?_⟩ (by omega) (fun _ => by omega) (fun z => absurd z (by decide))
      · exact fun z => hR.1 (hmon _ (by omega) z)
      · intro a b ha hb hx
        by_cases z : 128 * a + b = 128 * zp_d P (i / 256) (i % 2) + zp_d Q (i / 2 % 128) (i % 2)
        · have r1 : a = zp_d P (i / 256) (i % 2) := by omega
          have r2 : b = zp_d Q (i / 2 % 128) (i % 2) := by omega
          rw [r1, r2]
          refine zr2_s (hR.2 (i / 256) (i / 2 % 128) (by omega) (by omega) ?_) (by omega)
          rw [hi2]; exact hz
        · rw [g1 _ z] at hx; exact hR.2 a b ha hb hx
/-- the last look -/
theorem zy_209 {post : Int32 → SY → Prop} (hk : k < 3) (hj : j < 3) (W : zp_W P) (V : zp_W Q) (H : zy_P b_sizes b_empties b_firsts b_lasts b_letters b_behinds (5 + k) P) (H2 : zy_P b_sizes b_empties b_firsts b_lasts b_letters b_behinds (5 + j) Q)
    (K0 : (∃ a b, a < 128 ∧ b < 128 ∧ ¬ b_apart (128 * a + b) = 0 ∧ ¬ zp_a P a = zp_a Q b) → post 0 (g_depth, g_termLength, g_demands, g_boundCount, g_known, g_found, g_least, b_sizes, b_empties, b_firsts, b_lasts, b_letters, b_behinds, b_steps, b_term, b_patterns, b_kepts, b_signs, b_signCounts, b_bounds, b_firstWords, b_sums, b_met, b_tried, b_seen, b_apart, b_counts, b_next)) (K1 : (∀ a b, a < 128 → b < 128 → ¬ b_apart (128 * a + b) = 0 → zp_a P a = zp_a Q b) → post 1 (g_depth, g_termLength, g_demands, g_boundCount, g_known, g_found, g_least, b_sizes, b_empties, b_firsts, b_lasts, b_letters, b_behinds, b_steps, b_term, b_patterns, b_kepts, b_signs, b_signCounts, b_bounds, b_firstWords, b_sums, b_met, b_tried, b_seen, b_apart, b_counts, b_next)) :
    ∀ n i, i ≤ 16384 → 16384 < n + i → (∀ x, x < i → ¬ b_apart x = 0 → zp_a P (x / 128) = zp_a Q (x % 128)) → wY_isSame_209 post (nI k) (nI j) g_depth g_termLength g_demands g_boundCount g_known g_found g_least b_sizes b_empties b_firsts b_lasts b_letters b_behinds b_steps b_term b_patterns b_kepts b_signs b_signCounts b_bounds b_firstWords b_sums b_met b_tried b_seen b_apart b_counts b_next n (nI i) := by
  intro n
  induction n with
  | zero => intro i h1 h2; omega
  | succ n ih =>
    intro i h1 h2 hI
    rw [wY_isSame_209]
    refine pk_le 16384 i (fun h => ?_) (fun h => ?_)
    · refine K1 (fun a b ha hb hx => ?_)
      have := hI (128 * a + b) (by omega) hx
      rw [show (128 * a + b) / 128 = a by omega, show (128 * a + b) % 128 = b by omega] at this
      exact this
    · have e1 : nI i / 128 = nI (i / 128) := pk_div (d := 128) (by omega) (by decide) (by decide)
      have e2 : nI i - nI i / 128 * 128 = nI (i % 128) := pk_rem (d := 128) (by omega) (by decide) (by decide)
      refine And.intro (vp_in_nI h (by decide)) ?_
      rw [nI_clamp (show i < 2 ^ 31 by omega)]
      refine br_c (fun hz => ?_) (fun hz => ?_)
      · refine nm_r (nI_1 i) (ih (i + 1) (by omega) (by omega) (fun x hx g => ?_))
        by_cases y : x = i
        · rw [y] at g; exact absurd hz g
        · exact hI x (by omega) g
      · rw [e2, e1]
        refine And.intro (by decide) (zy_acc hk (by omega) W H (And.intro (by decide) (zy_acc hj (by omega) V H2 ?_)))
        refine br_c (fun hq => ?_) (fun hq => ?_)
        · refine nm_r (nI_1 i) (ih (i + 1) (by omega) (by omega) (fun x hx g => ?_))
          by_cases y : x = i
          · rw [y]; exact zb_ij.mp hq
          · exact hI x (by omega) g
        · refine K0 ⟨i / 128, i % 128, by omega, by omega, ?_, fun y => hq (zb_ij.mpr y)⟩
          rw [show 128 * (i / 128) + i % 128 = i by omega]; exact hz
theorem zy_35 {post : Int32 → SY → Prop} (hk : k < 3) (hj : j < 3) (W : zp_W P) (V : zp_W Q) (H : zy_P b_sizes b_empties b_firsts b_lasts b_letters b_behinds (5 + k) P) (H2 : zy_P b_sizes b_empties b_firsts b_lasts b_letters b_behinds (5 + j) Q) (T : zy_T b_steps k P) (T2 : zy_T b_steps j Q)
    (K : ∀ (b : Bool) ap, (b = true ↔ zsame P Q) → post (zb_i b) (g_depth, g_termLength, g_demands, g_boundCount, g_known, g_found, g_least, b_sizes, b_empties, b_firsts, b_lasts, b_letters, b_behinds, b_steps, b_term, b_patterns, b_kepts, b_signs, b_signCounts, b_bounds, b_firstWords, b_sums, b_met, b_tried, b_seen, ap, b_counts, b_next)) :
    ∀ n (more : Bool) b_apart, 1 ≤ n → (more = true → zz0 b_apart 16384 + 2 ≤ n) → zy_R P Q b_apart → (more = false → ∀ a b c, a < 128 → b < 128 → c < 2 → ¬ b_apart (128 * a + b) = 0 → ¬ b_apart (128 * zp_d P a c + zp_d Q b c) = 0) →
    wY_isSame_35 post (nI k) (nI j) g_depth g_termLength g_demands g_boundCount g_known g_found g_least n (zb_i more) b_sizes b_empties b_firsts b_lasts b_letters b_behinds b_steps b_term b_patterns b_kepts b_signs b_signCounts b_bounds b_firstWords b_sums b_met b_tried b_seen b_apart b_counts b_next := by
  intro n
  induction n with
  | zero => intro more ap h; omega
  | succ n ih =>
    intro more ap _ hfu hR hcl
    rw [wY_isSame_35]
    cases more with
    | false =>
      have hc := hcl rfl
      have all : ∀ a b, zr2 P Q a b → a < 128 ∧ b < 128 ∧ ¬ ap (128 * a + b) = 0 := by
        intro a b R
        refine R (fun a b => a < 128 ∧ b < 128 ∧ ¬ ap (128 * a + b) = 0) ⟨by decide, by decide, hR.1⟩ ?_
        rintro a b c ⟨ha, hb, g⟩ hcc
        exact ⟨zp_d128 W _ _, zp_d128 V _ _, hc a b c ha hb hcc g⟩
      refine br_t rfl ⟨16385, zy_209 hk hj W V H H2 ?_ ?_ 16385 0 (by omega) (by omega) (fun x hx => absurd hx (Nat.not_lt_zero x))⟩
      · rintro ⟨a, b, ha, hb, g1, g2⟩
        exact K false ap ⟨fun z => absurd z (by decide), fun z => absurd (z a b (hR.2 a b ha hb g1)) g2⟩
      · intro g
        refine K true ap ⟨fun _ a b R => ?_, fun _ => rfl⟩
        obtain ⟨ha, hb, g1⟩ := all a b R
        exact g a b ha hb g1
    | true =>
      have hfu' := hfu rfl
      refine br_f zb_10 ⟨32769, zy_44 (ap0 := ap) hk hj W V T T2 ?_ 32769 0 false ap (by omega) (by omega) hR (Nat.le_refl _) (fun z => absurd z (by decide)) (fun _ q hq => absurd hq (Nat.not_lt_zero q))⟩
      intro more ap' hR' hm hcl'
      exact ih more ap' (by omega) (fun z => by have := hm z; omega) hR' hcl'
theorem zy_isSame {post : Int32 → SY → Prop} (hk : k < 3) (hj : j < 3) (W : zp_W P) (V : zp_W Q) (H : zy_P b_sizes b_empties b_firsts b_lasts b_letters b_behinds (5 + k) P) (H2 : zy_P b_sizes b_empties b_firsts b_lasts b_letters b_behinds (5 + j) Q) (T : zy_T b_steps k P) (T2 : zy_T b_steps j Q)
    (K : ∀ (b : Bool) ap, (b = true ↔ zsame P Q) → post (zb_i b) (g_depth, g_termLength, g_demands, g_boundCount, g_known, g_found, g_least, b_sizes, b_empties, b_firsts, b_lasts, b_letters, b_behinds, b_steps, b_term, b_patterns, b_kepts, b_signs, b_signCounts, b_bounds, b_firstWords, b_sums, b_met, b_tried, b_seen, ap, b_counts, b_next)) : wpY_isSame post (g_depth, g_termLength, g_demands, g_boundCount, g_known, g_found, g_least, b_sizes, b_empties, b_firsts, b_lasts, b_letters, b_behinds, b_steps, b_term, b_patterns, b_kepts, b_signs, b_signCounts, b_bounds, b_firstWords, b_sums, b_met, b_tried, b_seen, b_apart, b_counts, b_next) (nI k) (nI j) := by
  refine loop_0 (fun n i ap => wY_isSame_2 post (nI k) (nI j) g_depth g_termLength g_demands g_boundCount g_known g_found g_least n (nI i) b_sizes b_empties b_firsts b_lasts b_letters b_behinds b_steps b_term b_patterns b_kepts b_signs b_signCounts b_bounds b_firstWords b_sums b_met b_tried b_seen ap b_counts b_next) (fun i ap => ∀ x, x < i → (¬ ap x = 0 ↔ x = 8256)) 16384 b_apart (fun x h => absurd h (Nat.not_lt_zero x)) ?_ ?_
  · intro n ap h1
    show wY_isSame_2 post (nI k) (nI j) g_depth g_termLength g_demands g_boundCount g_known g_found g_least (n + 1) (nI 16384) b_sizes b_empties b_firsts b_lasts b_letters b_behinds b_steps b_term b_patterns b_kepts b_signs b_signCounts b_bounds b_firstWords b_sums b_met b_tried b_seen ap b_counts b_next
    rw [wY_isSame_2]
    have hmax := zz_max ap 16384
    refine br_t (by decide) ⟨16386, zy_35 hk hj W V H H2 T T2 K 16386 true ap (by omega) (fun _ => by omega) ⟨?_, ?_⟩ (fun z => absurd z (by decide))⟩
    · exact (h1 8256 (by decide)).mpr rfl
    · intro a b ha hb g
      have := (h1 _ (by omega)).mp g
      have r1 : a = 64 := by omega
      have r2 : b = 64 := by omega
      rw [r1, r2]; exact zr2_0 P Q
  · intro n i ap hi h1 K'
    show wY_isSame_2 post (nI k) (nI j) g_depth g_termLength g_demands g_boundCount g_known g_found g_least (n + 1) (nI i) b_sizes b_empties b_firsts b_lasts b_letters b_behinds b_steps b_term b_patterns b_kepts b_signs b_signCounts b_bounds b_firstWords b_sums b_met b_tried b_seen ap b_counts b_next
    rw [wY_isSame_2]
    refine br_f (nI_ge (b := 16384) hi (by decide)) (pk_eq i 8256 (fun h => ?_) (fun h => ?_))
    · refine And.intro (vp_in_nI hi (by decide)) (nm_e (nm_r (nI_1 i) (K' _ ?_)))
      rw [nI_clamp (show i < 2 ^ 31 by omega), zb_v1]
      intro x hx
      by_cases z : x = i
      · rw [z, pk_us]; exact ⟨fun _ => h, fun _ => by decide⟩
      · rw [pk_un z]; exact h1 x (by omega)
    · refine And.intro (vp_in_nI hi (by decide)) (nm_e (nm_r (nI_1 i) (K' _ ?_)))
      rw [nI_clamp (show i < 2 ^ 31 by omega), zb_v0]
      intro x hx
      by_cases z : x = i
      · rw [z, pk_us]; exact ⟨fun g => absurd rfl g, fun g => absurd g h⟩
      · rw [pk_un z]; exact h1 x (by omega)
theorem zy_same {post : Int32 → SY → Prop} (hk : k < 3) (hj : j < 3) (W : zp_W P) (V : zp_W Q) (H : zy_P b_sizes b_empties b_firsts b_lasts b_letters b_behinds (5 + k) P) (H2 : zy_P b_sizes b_empties b_firsts b_lasts b_letters b_behinds (5 + j) Q) (T : zy_T b_steps k P) (T2 : zy_T b_steps j Q)
    (K : ∀ (b : Bool) ap, (b = true ↔ zsame P Q) → post (zb_i b) (g_depth, g_termLength, g_demands, g_boundCount, g_known, g_found, g_least, b_sizes, b_empties, b_firsts, b_lasts, b_letters, b_behinds, b_steps, b_term, b_patterns, b_kepts, b_signs, b_signCounts, b_bounds, b_firstWords, b_sums, b_met, b_tried, b_seen, ap, b_counts, b_next)) : wpY_same post (g_depth, g_termLength, g_demands, g_boundCount, g_known, g_found, g_least, b_sizes, b_empties, b_firsts, b_lasts, b_letters, b_behinds, b_steps, b_term, b_patterns, b_kepts, b_signs, b_signCounts, b_bounds, b_firstWords, b_sums, b_met, b_tried, b_seen, b_apart, b_counts, b_next) (nI k) (nI j) := by
  unfold wpY_same wpY_isThird
  try dsimp only
  refine br_f (nI_pos (by omega)) (br_f (nI_nlt (a := 2) (by omega) (by decide)) (br_f zb_10 (br_f (nI_pos (by omega)) (br_f (nI_nlt (a := 2) (by omega) (by decide)) (br_f zb_10 ?_)))))
  refine zy_isSame hk hj W V H H2 T T2 (fun b ap hb => ?_)
  cases b with
  | false => exact br_t rfl (K false ap hb)
  | true => exact br_f zb_10 (K true ap hb)
end
end
section
/-! X: groups parted until no more -/
section
variable {f_height f_signs f_demands f_bounds f_isSolved f_kinds f_solutionCount f_leastSum f_found : Int32} {a_sizes a_hasEmpty a_firstSet a_lastSet a_takes a_behind a_sign a_demandSigns a_demandSign a_demandPattern a_demandKept a_factor a_limit a_lengthOf a_lettersOf a_action a_kindWord a_kindCount a_kindOf a_kindAction a_countOfSum a_lengthSet a_kindSet a_firstWord a_foundSet a_numberOf a_stepTo a_group a_nextGroup a_counts a_isPair a_pairQueue a_chosen : Nat → Int32}
variable {k : Nat} {P : PT} {N : Nat} {e : Nat → Nat}
/-- groups told by r letters -/
def zg_r (P : PT) (N : Nat) (e : Nat → Nat) (g : Nat → Int32) (r : Nat) : Prop := ∀ i j, i < N → j < N → (g i = g j ↔ zm P r (e i) (e j))
/-- whether number i is the first of its group -/
def zg_f (g : Nat → Int32) (i : Nat) : Bool := (List.range i).all (fun j => decide (¬ g i = g j))
theorem zg_ft {g : Nat → Int32} {i : Nat} : zg_f g i = true ↔ ∀ j, j < i → ¬ g i = g j := by
  unfold zg_f
  rw [List.all_eq_true]
  constructor
  · intro h j hj
    exact of_decide_eq_true (h j (List.mem_range.mpr hj))
  · intro h j hj
    exact decide_eq_true (h j (List.mem_range.mp hj))
theorem zx_c17 {post : Int32 → Prop} {i m : Nat} {x1 : Nat} (hN : N ≤ 128) (hi : i < N)
    (K : wX_countGroups_4 post f_height f_signs f_demands f_bounds f_isSolved f_kinds f_solutionCount f_leastSum (nI N) a_sizes a_hasEmpty a_firstSet a_lastSet a_takes a_behind a_sign a_demandSigns a_demandSign a_demandPattern a_demandKept a_factor a_limit a_lengthOf a_lettersOf a_action a_kindWord a_kindCount a_kindOf a_kindAction a_countOfSum a_lengthSet a_kindSet a_firstWord a_foundSet a_numberOf a_stepTo a_group a_nextGroup a_counts a_isPair a_pairQueue a_chosen m (nI (x1 + if zg_f a_group i then 1 else 0)) (nI (i + 1))) :
    ∀ n j (fr : Bool), j ≤ i → i < n + j → (fr = true ↔ ∀ q, q < j → ¬ a_group i = a_group q) → wX_countGroups_17 post (wX_countGroups_4 post f_height f_signs f_demands f_bounds f_isSolved f_kinds f_solutionCount f_leastSum (nI N) a_sizes a_hasEmpty a_firstSet a_lastSet a_takes a_behind a_sign a_demandSigns a_demandSign a_demandPattern a_demandKept a_factor a_limit a_lengthOf a_lettersOf a_action a_kindWord a_kindCount a_kindOf a_kindAction a_countOfSum a_lengthSet a_kindSet a_firstWord a_foundSet a_numberOf a_stepTo a_group a_nextGroup a_counts a_isPair a_pairQueue a_chosen m) (nI x1) (nI i) f_height f_signs f_demands f_bounds f_isSolved f_kinds f_solutionCount f_leastSum (nI N) a_sizes a_hasEmpty a_firstSet a_lastSet a_takes a_behind a_sign a_demandSigns a_demandSign a_demandPattern a_demandKept a_factor a_limit a_lengthOf a_lettersOf a_action a_kindWord a_kindCount a_kindOf a_kindAction a_countOfSum a_lengthSet a_kindSet a_firstWord a_foundSet a_numberOf a_stepTo a_group a_nextGroup a_counts a_isPair a_pairQueue a_chosen n (zb_i fr) (nI j) := by
  intro n
  induction n with
  | zero => intro j fr h1 h2; omega
  | succ n ih =>
    intro j fr h1 h2 hf
    rw [wX_countGroups_17]
    refine pk_le i j (fun h => ?_) (fun h => ?_)
    · have e1 : j = i := by omega
      subst e1
      rw [← zg_ft] at hf
      have e2 : fr = zg_f a_group j := by
        cases fr <;> cases z : zg_f a_group j <;> simp_all
      rw [← e2] at K
      cases fr with
      | false => exact br_t rfl (nm_r (nI_1 j) K)
      | true => exact br_f zb_10 (nm_r (nI_1 x1) (nm_r (nI_1 j) K))
    · cases fr with
      | false =>
        refine br_t rfl (nm_r (nI_1 j) (ih (j + 1) false (by omega) (by omega) ⟨fun z => absurd z (by decide), fun z => ?_⟩))
        exact absurd (hf.mpr (fun q hq => z q (by omega))) (by decide)
      | true =>
        have hall := hf.mp rfl
        refine br_f zb_10 (And.intro (vp_in_nI (by omega) (by decide)) (And.intro (vp_in_nI (by omega) (by decide)) ?_))
        rw [nI_clamp (show i < 2 ^ 31 by omega), nI_clamp (show j < 2 ^ 31 by omega)]
        refine br_c (fun z => ?_) (fun z => ?_)
        · exact nm_r (nI_1 j) (ih (j + 1) false (by omega) (by omega) ⟨fun y => absurd y (by decide), fun y => absurd z (y j (by omega))⟩)
        · refine nm_r (nI_1 j) (ih (j + 1) true (by omega) (by omega) ⟨fun _ q hq => ?_, fun _ => rfl⟩)
          by_cases y : q = j
          · rw [y]; exact z
          · exact hall q (by omega)
theorem zx_c4 {post : Int32 → Prop} (hN : N ≤ 128) (K : post (nI (zk_l (zg_f a_group) e N).length)) :
    ∀ n i, i ≤ N → N < n + i → wX_countGroups_4 post f_height f_signs f_demands f_bounds f_isSolved f_kinds f_solutionCount f_leastSum (nI N) a_sizes a_hasEmpty a_firstSet a_lastSet a_takes a_behind a_sign a_demandSigns a_demandSign a_demandPattern a_demandKept a_factor a_limit a_lengthOf a_lettersOf a_action a_kindWord a_kindCount a_kindOf a_kindAction a_countOfSum a_lengthSet a_kindSet a_firstWord a_foundSet a_numberOf a_stepTo a_group a_nextGroup a_counts a_isPair a_pairQueue a_chosen n (nI (zk_l (zg_f a_group) e i).length) (nI i) := by
  intro n
  induction n with
  | zero => intro i h1 h2; omega
  | succ n ih =>
    intro i h1 h2
    rw [wX_countGroups_4]
    refine pk_le N i (fun h => ?_) (fun h => ?_)
    · have e1 : i = N := by omega
      rw [e1]; exact K
    · refine ⟨i + 1, zx_c17 hN h ?_ (i + 1) 0 true (by omega) (by omega) ⟨fun _ q hq => absurd hq (Nat.not_lt_zero q), fun _ => rfl⟩⟩
      have := ih (i + 1) (by omega) (by omega)
      rw [zk_ls] at this
      exact this
theorem zx_cg {post : Int32 → Prop} (hN : N ≤ 128) (e : Nat → Nat) (K : post (nI (zk_l (zg_f a_group) e N).length)) : wpX_countGroups post (f_height, f_signs, f_demands, f_bounds, f_isSolved, f_kinds, f_solutionCount, f_leastSum, nI N, a_sizes, a_hasEmpty, a_firstSet, a_lastSet, a_takes, a_behind, a_sign, a_demandSigns, a_demandSign, a_demandPattern, a_demandKept, a_factor, a_limit, a_lengthOf, a_lettersOf, a_action, a_kindWord, a_kindCount, a_kindOf, a_kindAction, a_countOfSum, a_lengthSet, a_kindSet, a_firstWord, a_foundSet, a_numberOf, a_stepTo, a_group, a_nextGroup, a_counts, a_isPair, a_pairQueue, a_chosen) :=
  ⟨N + 1, zx_c4 (e := e) hN K (N + 1) 0 (by omega) (by omega)⟩
/-- alike: by group, and by the groups that letters lead to -/
theorem zx_alike {post : Int32 → Prop} {r i j : Nat} (hN : N ≤ 128) (T : zf_T P N e a_stepTo (2 * N)) (G : zg_r P N e a_group r) (hi : i < N) (hj : j < N) (h1 : zm P (r + 1) (e i) (e j) → post 1) (h0 : ¬ zm P (r + 1) (e i) (e j) → post 0) :
    wpX_alike post (f_height, f_signs, f_demands, f_bounds, f_isSolved, f_kinds, f_solutionCount, f_leastSum, nI N, a_sizes, a_hasEmpty, a_firstSet, a_lastSet, a_takes, a_behind, a_sign, a_demandSigns, a_demandSign, a_demandPattern, a_demandKept, a_factor, a_limit, a_lengthOf, a_lettersOf, a_action, a_kindWord, a_kindCount, a_kindOf, a_kindAction, a_countOfSum, a_lengthSet, a_kindSet, a_firstWord, a_foundSet, a_numberOf, a_stepTo, a_group, a_nextGroup, a_counts, a_isPair, a_pairQueue, a_chosen) (nI i) (nI j) := by
  obtain ⟨i0, hi0, si0, ei0⟩ := T i 0 (by omega) (by omega)
  obtain ⟨i1, hi1, si1, ei1⟩ := T i 1 (by omega) (by omega)
  obtain ⟨j0, hj0, sj0, ej0⟩ := T j 0 (by omega) (by omega)
  obtain ⟨j1, hj1, sj1, ej1⟩ := T j 1 (by omega) (by omega)
  rw [Nat.add_zero] at si0 sj0
  have a0 : (2 : Int32) * nI i = nI (2 * i) := pk_mul 2 i
  have b0 : (2 : Int32) * nI j = nI (2 * j) := pk_mul 2 j
  have a1 : nI (2 * i) + 1 = nI (2 * i + 1) := nI_1 _
  have b1 : nI (2 * j) + 1 = nI (2 * j + 1) := nI_1 _
  have g0 := G i0 j0 hi0 hj0
  have g1 := G i1 j1 hi1 hj1
  have g := G i j hi hj
  rw [ei0, ej0] at g0
  rw [ei1, ej1] at g1
  have last : ∀ z : Bool, (z = true ↔ a_group i0 = a_group j0) → wX_alike_34 post (nI i) (nI j) (zb_i z) f_height f_signs f_demands f_bounds f_isSolved f_kinds f_solutionCount f_leastSum (nI N) a_sizes a_hasEmpty a_firstSet a_lastSet a_takes a_behind a_sign a_demandSigns a_demandSign a_demandPattern a_demandKept a_factor a_limit a_lengthOf a_lettersOf a_action a_kindWord a_kindCount a_kindOf a_kindAction a_countOfSum a_lengthSet a_kindSet a_firstWord a_foundSet a_numberOf a_stepTo a_group a_nextGroup a_counts a_isPair a_pairQueue a_chosen := by
    intro z hz
    rw [wX_alike_34]
    refine And.intro (vp_in_nI (by omega) (by decide)) (And.intro (vp_in_nI (by omega) (by decide)) ?_)
    rw [nI_clamp (show i < 2 ^ 31 by omega), nI_clamp (show j < 2 ^ 31 by omega)]
    refine br_c (fun y => ?_) (fun y => h0 (fun q => y (g.mpr q.1)))
    cases z with
    | false => exact br_t rfl (h0 (fun q => absurd (hz.mpr (g0.mpr q.2.1)) (by decide)))
    | true =>
      refine br_f zb_10 ?_
      rw [a0, b0, a1, b1]
      refine And.intro (vp_in_nI (by omega) (by decide)) ?_
      rw [nI_clamp (show 2 * i + 1 < 2 ^ 31 by omega), si1]
      refine And.intro (vp_in_nI (by omega) (by decide)) (And.intro (vp_in_nI (by omega) (by decide)) ?_)
      rw [nI_clamp (show 2 * j + 1 < 2 ^ 31 by omega), sj1]
      refine And.intro (vp_in_nI (by omega) (by decide)) ?_
      rw [nI_clamp (show i1 < 2 ^ 31 by omega), nI_clamp (show j1 < 2 ^ 31 by omega)]
      exact br_c (fun x => h1 ⟨g.mp y, g0.mp (hz.mp rfl), g1.mp x⟩) (fun x => h0 (fun q => x (g1.mpr q.2.2)))
  unfold wpX_alike
  try dsimp only
  rw [a0, b0]
  refine And.intro (vp_in_nI (by omega) (by decide)) ?_
  rw [nI_clamp (show 2 * i < 2 ^ 31 by omega), si0]
  refine And.intro (vp_in_nI (by omega) (by decide)) (And.intro (vp_in_nI (by omega) (by decide)) ?_)
  rw [nI_clamp (show 2 * j < 2 ^ 31 by omega), sj0]
  refine And.intro (vp_in_nI (by omega) (by decide)) ?_
  rw [nI_clamp (show i0 < 2 ^ 31 by omega), nI_clamp (show j0 < 2 ^ 31 by omega)]
  exact br_c (fun z => last true ⟨fun _ => z, fun _ => rfl⟩) (fun z => last false ⟨fun y => absurd y (by decide), fun y => absurd y z⟩)
/-- the least number alike -/
def zg_t (P : PT) (e : Nat → Nat) (r i t : Nat) : Prop := t ≤ i ∧ zm P (r + 1) (e i) (e t) ∧ ∀ q, q < t → ¬ zm P (r + 1) (e i) (e q)
theorem zx_p16 {post : SX → Prop} {r i m : Nat} (hN : N ≤ 128) (T : zf_T P N e a_stepTo (2 * N)) (G : zg_r P N e a_group r) (hi : i < N)
    (K : ∀ t ng, zg_t P e r i t → ng = upd a_nextGroup i (nI t) → wX_partGroups_2 post f_height f_signs f_demands f_bounds f_isSolved f_kinds f_solutionCount f_leastSum (nI N) m (nI (i + 1)) a_sizes a_hasEmpty a_firstSet a_lastSet a_takes a_behind a_sign a_demandSigns a_demandSign a_demandPattern a_demandKept a_factor a_limit a_lengthOf a_lettersOf a_action a_kindWord a_kindCount a_kindOf a_kindAction a_countOfSum a_lengthSet a_kindSet a_firstWord a_foundSet a_numberOf a_stepTo a_group ng a_counts a_isPair a_pairQueue a_chosen) :
    ∀ n j t, j ≤ i → j < n → t ≤ i → j ≤ t → zm P (r + 1) (e i) (e t) → (∀ q, j ≤ q → q < t → ¬ zm P (r + 1) (e i) (e q)) → wX_partGroups_16 post (wX_partGroups_2 post f_height f_signs f_demands f_bounds f_isSolved f_kinds f_solutionCount f_leastSum (nI N) m) (nI i) f_height f_signs f_demands f_bounds f_isSolved f_kinds f_solutionCount f_leastSum (nI N) a_sizes a_hasEmpty a_firstSet a_lastSet a_takes a_behind a_sign a_demandSigns a_demandSign a_demandPattern a_demandKept a_factor a_limit a_lengthOf a_lettersOf a_action a_kindWord a_kindCount a_kindOf a_kindAction a_countOfSum a_lengthSet a_kindSet a_firstWord a_foundSet a_numberOf a_stepTo a_group a_nextGroup a_counts a_isPair a_pairQueue a_chosen n (nI t) (nI j - 1) := by
  intro n
  induction n with
  | zero => intro j t _ h; omega
  | succ n ih =>
    intro j t h1 h2 h3 h4 hz hq
    rw [wX_partGroups_16]
    cases j with
    | zero =>
      refine br_t (by decide) (And.intro (vp_in_nI (by omega) (by decide)) (nm_e (nm_r (nI_1 i) ?_)))
      rw [nI_clamp (show i < 2 ^ 31 by omega)]
      exact K t _ ⟨h3, hz, fun q h => hq q (by omega) h⟩ rfl
    | succ j =>
      rw [nI_pred]
      refine br_f (nI_pos (by omega)) (zx_alike hN T G hi (by omega) (fun y => ?_) (fun y => ?_))
      · refine br_f zb_10 ?_
        show ∀ x, x = nI j + -1 → _
        refine nm_r (e' := nI j - 1) (by grind) (ih j j (by omega) (by omega) (by omega) (by omega) y (fun q a b => absurd b (by omega)))
      · refine br_t rfl ?_
        refine nm_r (e' := nI j - 1) (by grind) (ih j t (by omega) (by omega) h3 (by omega) hz (fun q a b => ?_))
        by_cases x : q = j
        · rw [x]; exact y
        · exact hq q (by omega) b
theorem zg_tu {r i j t s : Nat} (a : zg_t P e r i t) (b : zg_t P e r j s) : t = s ↔ zm P (r + 1) (e i) (e j) := by
  constructor
  · intro z
    rw [z] at a
    exact zm_t a.2.1 (zm_y b.2.1)
  · intro z
    rcases Nat.lt_trichotomy t s with h | h | h
    · exact absurd (zm_t (zm_y z) a.2.1) (b.2.2 t h)
    · exact h
    · exact absurd (zm_t z b.2.1) (a.2.2 s h)
theorem zx_part {post : SX → Prop} {r : Nat} (hN : N ≤ 128) (T : zf_T P N e a_stepTo (2 * N)) (G : zg_r P N e a_group r)
    (K : ∀ g ng, zg_r P N e g (r + 1) → post (f_height, f_signs, f_demands, f_bounds, f_isSolved, f_kinds, f_solutionCount, f_leastSum, nI N, a_sizes, a_hasEmpty, a_firstSet, a_lastSet, a_takes, a_behind, a_sign, a_demandSigns, a_demandSign, a_demandPattern, a_demandKept, a_factor, a_limit, a_lengthOf, a_lettersOf, a_action, a_kindWord, a_kindCount, a_kindOf, a_kindAction, a_countOfSum, a_lengthSet, a_kindSet, a_firstWord, a_foundSet, a_numberOf, a_stepTo, g, ng, a_counts, a_isPair, a_pairQueue, a_chosen)) : wpX_partGroups post (f_height, f_signs, f_demands, f_bounds, f_isSolved, f_kinds, f_solutionCount, f_leastSum, nI N, a_sizes, a_hasEmpty, a_firstSet, a_lastSet, a_takes, a_behind, a_sign, a_demandSigns, a_demandSign, a_demandPattern, a_demandKept, a_factor, a_limit, a_lengthOf, a_lettersOf, a_action, a_kindWord, a_kindCount, a_kindOf, a_kindAction, a_countOfSum, a_lengthSet, a_kindSet, a_firstWord, a_foundSet, a_numberOf, a_stepTo, a_group, a_nextGroup, a_counts, a_isPair, a_pairQueue, a_chosen) := by
  refine loop_0 (fun n i ng => wX_partGroups_2 post f_height f_signs f_demands f_bounds f_isSolved f_kinds f_solutionCount f_leastSum (nI N) n (nI i) a_sizes a_hasEmpty a_firstSet a_lastSet a_takes a_behind a_sign a_demandSigns a_demandSign a_demandPattern a_demandKept a_factor a_limit a_lengthOf a_lettersOf a_action a_kindWord a_kindCount a_kindOf a_kindAction a_countOfSum a_lengthSet a_kindSet a_firstWord a_foundSet a_numberOf a_stepTo a_group ng a_counts a_isPair a_pairQueue a_chosen) (fun i ng => ∀ q, q < i → ∃ t, zg_t P e r q t ∧ ng q = nI t) N a_nextGroup (fun q h => absurd h (Nat.not_lt_zero q)) ?_ ?_
  · intro n ng h1
    show wX_partGroups_2 post f_height f_signs f_demands f_bounds f_isSolved f_kinds f_solutionCount f_leastSum (nI N) (n + 1) (nI N) a_sizes a_hasEmpty a_firstSet a_lastSet a_takes a_behind a_sign a_demandSigns a_demandSign a_demandPattern a_demandKept a_factor a_limit a_lengthOf a_lettersOf a_action a_kindWord a_kindCount a_kindOf a_kindAction a_countOfSum a_lengthSet a_kindSet a_firstWord a_foundSet a_numberOf a_stepTo a_group ng a_counts a_isPair a_pairQueue a_chosen
    rw [wX_partGroups_2]
    refine br_t (nI_le (Nat.le_refl _) (by omega)) ?_
    refine loop_0 (fun n i g => wX_partGroups_56 post f_height f_signs f_demands f_bounds f_isSolved f_kinds f_solutionCount f_leastSum (nI N) n (nI i) a_sizes a_hasEmpty a_firstSet a_lastSet a_takes a_behind a_sign a_demandSigns a_demandSign a_demandPattern a_demandKept a_factor a_limit a_lengthOf a_lettersOf a_action a_kindWord a_kindCount a_kindOf a_kindAction a_countOfSum a_lengthSet a_kindSet a_firstWord a_foundSet a_numberOf a_stepTo g ng a_counts a_isPair a_pairQueue a_chosen) (fun i g => ∀ q, q < i → g q = ng q) N a_group (fun q h => absurd h (Nat.not_lt_zero q)) ?_ ?_
    · intro n g h2
      show wX_partGroups_56 post f_height f_signs f_demands f_bounds f_isSolved f_kinds f_solutionCount f_leastSum (nI N) (n + 1) (nI N) a_sizes a_hasEmpty a_firstSet a_lastSet a_takes a_behind a_sign a_demandSigns a_demandSign a_demandPattern a_demandKept a_factor a_limit a_lengthOf a_lettersOf a_action a_kindWord a_kindCount a_kindOf a_kindAction a_countOfSum a_lengthSet a_kindSet a_firstWord a_foundSet a_numberOf a_stepTo g ng a_counts a_isPair a_pairQueue a_chosen
      rw [wX_partGroups_56]
      refine br_t (nI_le (Nat.le_refl _) (by omega)) (K g ng (fun i j hi hj => ?_))
      obtain ⟨t, a, b⟩ := h1 i hi
      obtain ⟨s, c, d⟩ := h1 j hj
      have := a.1
      have := c.1
      rw [h2 i hi, h2 j hj, b, d, nI_eq (by omega) (by omega)]
      exact zg_tu a c
    · intro n i g hi h2 K'
      show wX_partGroups_56 post f_height f_signs f_demands f_bounds f_isSolved f_kinds f_solutionCount f_leastSum (nI N) (n + 1) (nI i) a_sizes a_hasEmpty a_firstSet a_lastSet a_takes a_behind a_sign a_demandSigns a_demandSign a_demandPattern a_demandKept a_factor a_limit a_lengthOf a_lettersOf a_action a_kindWord a_kindCount a_kindOf a_kindAction a_countOfSum a_lengthSet a_kindSet a_firstWord a_foundSet a_numberOf a_stepTo g ng a_counts a_isPair a_pairQueue a_chosen
      rw [wX_partGroups_56]
      refine br_f (nI_ge hi (by omega)) (And.intro (vp_in_nI (by omega) (by decide)) (And.intro (vp_in_nI (by omega) (by decide)) (nm_e (nm_r (nI_1 i) (K' _ ?_)))))
      rw [nI_clamp (show i < 2 ^ 31 by omega)]
      intro q hq
      by_cases z : q = i
      · rw [z, pk_us]
      · rw [pk_un z]; exact h2 q (by omega)
  · intro n i ng hi h1 K'
    show wX_partGroups_2 post f_height f_signs f_demands f_bounds f_isSolved f_kinds f_solutionCount f_leastSum (nI N) (n + 1) (nI i) a_sizes a_hasEmpty a_firstSet a_lastSet a_takes a_behind a_sign a_demandSigns a_demandSign a_demandPattern a_demandKept a_factor a_limit a_lengthOf a_lettersOf a_action a_kindWord a_kindCount a_kindOf a_kindAction a_countOfSum a_lengthSet a_kindSet a_firstWord a_foundSet a_numberOf a_stepTo a_group ng a_counts a_isPair a_pairQueue a_chosen
    rw [wX_partGroups_2]
    refine br_f (nI_ge hi (by omega)) (nm_e ⟨i + 1, ?_⟩)
    refine zx_p16 hN T G hi (fun t ng' ht e1 => K' ng' ?_) (i + 1) i i (by omega) (by omega) (by omega) (by omega) (zm_r P _ _) (fun q a b => absurd b (by omega))
    subst e1
    intro q hq
    by_cases z : q = i
    · rw [z, pk_us]; exact ⟨t, ht, rfl⟩
    · rw [pk_un z]; exact h1 q (by omega)
/-- classes of the numbered sets -/
theorem zg_k {r : Nat} {g : Nat → Int32} (G : zg_r P N e g r) : zk (zm P r) (fun a => ∃ i, i < N ∧ True ∧ a = e i) (zk_l (zg_f g) e N) :=
  zk_of (zm_r P r) (fun a b c => zm_t) N (fun i hi => by
    rw [zg_ft]
    constructor
    · intro h
      exact ⟨trivial, fun j hj _ z => h j hj ((G i j hi (by omega)).mpr z)⟩
    · intro h j hj z
      exact h.2 j hj trivial ((G i j hi (by omega)).mp z))
/-- no more groups: all is told -/
theorem zg_end {r : Nat} {g g' : Nat → Int32} (T : ∀ i c, i < N → c < 2 → ∃ j, j < N ∧ e j = zp_d P (e i) c) (G : zg_r P N e g r) (G' : zg_r P N e g' (r + 1)) (hl : (zk_l (zg_f g') e N).length ≤ (zk_l (zg_f g) e N).length) : zk (zq P) (fun a => ∃ i, i < N ∧ True ∧ a = e i) (zk_l (zg_f g') e N) := by
  have hst := zk_stab (E := zm P r) (D := zm P (r + 1)) (fun _ _ => zm_y) (fun _ _ _ => zm_t) (fun _ _ => zm_y) (fun _ _ _ => zm_t) (fun _ _ h => h.1) (zg_k G) (zg_k G') hl
  have hR : ∀ s c, (∃ i, i < N ∧ True ∧ s = e i) → c < 2 → ∃ i, i < N ∧ True ∧ zp_d P s c = e i := by
    rintro s c ⟨i, hi, _, rfl⟩ hc
    obtain ⟨j, hj, ej⟩ := T i c hi hc
    exact ⟨j, hj, trivial, ej.symm⟩
  obtain ⟨k1, k2, k3⟩ := zg_k G'
  refine ⟨k1.imp (fun h z => h (z _)), k2, fun a ha => ?_⟩
  obtain ⟨b, hb, hab⟩ := k3 a ha
  exact ⟨b, hb, zm_stq (R := fun a => ∃ i, i < N ∧ True ∧ a = e i) hR hst ha (k2 b hb) hab.1⟩
end
end
section
/-! X: rests -/
section
variable {f_height f_signs f_demands f_bounds f_isSolved f_kinds f_solutionCount f_leastSum f_found : Int32} {a_sizes a_hasEmpty a_firstSet a_lastSet a_takes a_behind a_sign a_demandSigns a_demandSign a_demandPattern a_demandKept a_factor a_limit a_lengthOf a_lettersOf a_action a_kindWord a_kindCount a_kindOf a_kindAction a_countOfSum a_lengthSet a_kindSet a_firstWord a_foundSet a_numberOf a_stepTo a_group a_nextGroup a_counts a_isPair a_pairQueue a_chosen : Nat → Int32}
variable {k : Nat} {P : PT} {N : Nat} {e : Nat → Nat}
/-- what is answered: as many as a list of representatives of the sets that words lead to -/
def zk_A (P : PT) (x : Nat) : Prop := ∃ l, zk (zq P) (zr1 P) l ∧ x = l.length
theorem zk_R {l : List Nat} (h0 : 0 < N) (he : e 0 = 64) (hr : ∀ i, i < N → zr1 P (e i)) (T : ∀ i c, i < N → c < 2 → ∃ j, j < N ∧ e j = zp_d P (e i) c) (h : zk (zq P) (fun a => ∃ i, i < N ∧ True ∧ a = e i) l) : zk (zq P) (zr1 P) l := by
  refine ⟨h.1, fun a ha => ?_, fun a ha => ?_⟩
  · obtain ⟨i, hi, _, ei⟩ := h.2.1 a ha
    rw [ei]; exact hr i hi
  · refine h.2.2 a (ha (fun a => ∃ i, i < N ∧ True ∧ a = e i) ⟨0, h0, trivial, he.symm⟩ ?_)
    rintro s c ⟨i, hi, _, rfl⟩ hc
    obtain ⟨j, hj, ej⟩ := T i c hi hc
    exact ⟨j, hj, trivial, ej.symm⟩
theorem zx_r66 {post : Int32 → SX → Prop} (h0 : 0 < N) (he : e 0 = 64) (F : zf_S P N e a_foundSet a_numberOf) (T : zf_T P N e a_stepTo (2 * N))
    (K : ∀ x g ng, zk_A P x → post (nI x) (f_height, f_signs, f_demands, f_bounds, f_isSolved, f_kinds, f_solutionCount, f_leastSum, nI N, a_sizes, a_hasEmpty, a_firstSet, a_lastSet, a_takes, a_behind, a_sign, a_demandSigns, a_demandSign, a_demandPattern, a_demandKept, a_factor, a_limit, a_lengthOf, a_lettersOf, a_action, a_kindWord, a_kindCount, a_kindOf, a_kindAction, a_countOfSum, a_lengthSet, a_kindSet, a_firstWord, a_foundSet, a_numberOf, a_stepTo, g, ng, a_counts, a_isPair, a_pairQueue, a_chosen)) :
    ∀ n r (more : Bool) a_group a_nextGroup, 1 ≤ n → (more = true → 129 ≤ n + r) → (more = true → zg_r P N e a_group r ∧ r + 1 ≤ (zk_l (zg_f a_group) e N).length) →
    (more = false → zk (zq P) (fun a => ∃ i, i < N ∧ True ∧ a = e i) (zk_l (zg_f a_group) e N)) → r ≤ 128 → wX_rests_66 post n (nI (zk_l (zg_f a_group) e N).length) (zb_i more) (nI r) f_height f_signs f_demands f_bounds f_isSolved f_kinds f_solutionCount f_leastSum (nI N) a_sizes a_hasEmpty a_firstSet a_lastSet a_takes a_behind a_sign a_demandSigns a_demandSign a_demandPattern a_demandKept a_factor a_limit a_lengthOf a_lettersOf a_action a_kindWord a_kindCount a_kindOf a_kindAction a_countOfSum a_lengthSet a_kindSet a_firstWord a_foundSet a_numberOf a_stepTo a_group a_nextGroup a_counts a_isPair a_pairQueue a_chosen := by
  have hN := F.1
  have hT : ∀ i c, i < N → c < 2 → ∃ j, j < N ∧ e j = zp_d P (e i) c := fun i c hi hc => by
    obtain ⟨j, a, _, d⟩ := T i c hc (by omega)
    exact ⟨j, a, d⟩
  have fin : ∀ g ng, zk (zq P) (fun a => ∃ i, i < N ∧ True ∧ a = e i) (zk_l (zg_f g) e N) → post (nI (zk_l (zg_f g) e N).length) (f_height, f_signs, f_demands, f_bounds, f_isSolved, f_kinds, f_solutionCount, f_leastSum, nI N, a_sizes, a_hasEmpty, a_firstSet, a_lastSet, a_takes, a_behind, a_sign, a_demandSigns, a_demandSign, a_demandPattern, a_demandKept, a_factor, a_limit, a_lengthOf, a_lettersOf, a_action, a_kindWord, a_kindCount, a_kindOf, a_kindAction, a_countOfSum, a_lengthSet, a_kindSet, a_firstWord, a_foundSet, a_numberOf, a_stepTo, g, ng, a_counts, a_isPair, a_pairQueue, a_chosen) :=
    fun g ng h => K _ g ng ⟨_, zk_R h0 he (fun i hi => (F.2.1 i hi).1) hT h, rfl⟩
  intro n
  induction n with
  | zero => intro r more g ng h; omega
  | succ n ih =>
    intro r more g ng _ hf ht hz hr
    have hlen := zk_len (zg_f g) e N
    rw [wX_rests_66]
    cases more with
    | false =>
      refine br_c (fun _ => ?_) (fun _ => br_t rfl ?_)
      · exact fin g ng (hz rfl)
      · exact fin g ng (hz rfl)
    | true =>
      obtain ⟨G, hl⟩ := ht rfl
      have hf' := hf rfl
      refine pk_le 128 r (fun h => absurd hl (by omega)) (fun h => br_f zb_10 ?_)
      refine zx_part hN T G (fun g' ng' G' => ?_)
      have hlen' := zk_len (zg_f g') e N
      refine zx_cg hN e ?_
      refine pk_le (zk_l (zg_f g') e N).length (zk_l (zg_f g) e N).length (fun z => ?_) (fun z => ?_)
      · refine nm_r (nI_1 r) (ih (r + 1) false g' ng' (by omega) (fun y => absurd y (by decide)) (fun y => absurd y (by decide)) (fun _ => zg_end hT G G' z) (by omega))
      · refine nm_r (nI_1 r) (ih (r + 1) true g' ng' (by omega) (fun _ => by omega) (fun _ => ⟨G', by omega⟩) (fun y => absurd y (by decide)) (by omega))
theorem zk_pos {g : Nat → Int32} (h0 : 0 < N) : 1 ≤ (zk_l (zg_f g) e N).length := by
  have key : ∀ n, 1 ≤ (zk_l (zg_f g) e (n + 1)).length := by
    intro n
    induction n with
    | zero => rw [zk_ls, if_pos (zg_ft.mpr (fun j hj => absurd hj (Nat.not_lt_zero j)))]; exact Nat.le_add_left _ _
    | succ n ih => rw [zk_ls]; omega
  obtain ⟨m, rfl⟩ : ∃ m, N = m + 1 := ⟨N - 1, by omega⟩
  exact key m
theorem zx_rests {post : Int32 → SX → Prop} (hk : k < 3) (W : zp_W P) (H : zx_P a_sizes a_hasEmpty a_firstSet a_lastSet a_takes a_behind k P)
    (K : ∀ x fo fs no st g ng, zk_A P x → post (nI x) (f_height, f_signs, f_demands, f_bounds, f_isSolved, f_kinds, f_solutionCount, f_leastSum, fo, a_sizes, a_hasEmpty, a_firstSet, a_lastSet, a_takes, a_behind, a_sign, a_demandSigns, a_demandSign, a_demandPattern, a_demandKept, a_factor, a_limit, a_lengthOf, a_lettersOf, a_action, a_kindWord, a_kindCount, a_kindOf, a_kindAction, a_countOfSum, a_lengthSet, a_kindSet, a_firstWord, fs, no, st, g, ng, a_counts, a_isPair, a_pairQueue, a_chosen)) :
    wpX_rests post (f_height, f_signs, f_demands, f_bounds, f_isSolved, f_kinds, f_solutionCount, f_leastSum, f_found, a_sizes, a_hasEmpty, a_firstSet, a_lastSet, a_takes, a_behind, a_sign, a_demandSigns, a_demandSign, a_demandPattern, a_demandKept, a_factor, a_limit, a_lengthOf, a_lettersOf, a_action, a_kindWord, a_kindCount, a_kindOf, a_kindAction, a_countOfSum, a_lengthSet, a_kindSet, a_firstWord, a_foundSet, a_numberOf, a_stepTo, a_group, a_nextGroup, a_counts, a_isPair, a_pairQueue, a_chosen) (nI k) := by
  unfold wpX_rests wpX_badThree
  try dsimp only
  refine br_f (nI_pos (by omega)) (br_t (nI_le (b := 2) (by omega) (by decide)) (br_t rfl ?_))
  refine zx_find (by omega) W H (fun N e fs no st h0 he F T => ?_)
  have hN := F.1
  refine loop_0 (fun n i g => wX_rests_17 post (nI k) f_height f_signs f_demands f_bounds f_isSolved f_kinds f_solutionCount f_leastSum (nI N) n (nI i) a_sizes a_hasEmpty a_firstSet a_lastSet a_takes a_behind a_sign a_demandSigns a_demandSign a_demandPattern a_demandKept a_factor a_limit a_lengthOf a_lettersOf a_action a_kindWord a_kindCount a_kindOf a_kindAction a_countOfSum a_lengthSet a_kindSet a_firstWord fs no st g a_nextGroup a_counts a_isPair a_pairQueue a_chosen) (fun i g => ∀ q, q < i → g q = zb_i (zp_a P (e q))) N a_group (fun q h => absurd h (Nat.not_lt_zero q)) ?_ ?_
  · intro n g h1
    show wX_rests_17 post (nI k) f_height f_signs f_demands f_bounds f_isSolved f_kinds f_solutionCount f_leastSum (nI N) (n + 1) (nI N) a_sizes a_hasEmpty a_firstSet a_lastSet a_takes a_behind a_sign a_demandSigns a_demandSign a_demandPattern a_demandKept a_factor a_limit a_lengthOf a_lettersOf a_action a_kindWord a_kindCount a_kindOf a_kindAction a_countOfSum a_lengthSet a_kindSet a_firstWord fs no st g a_nextGroup a_counts a_isPair a_pairQueue a_chosen
    rw [wX_rests_17]
    refine br_t (nI_le (Nat.le_refl _) (by omega)) (zx_cg hN e ⟨129, ?_⟩)
    refine zx_r66 h0 he F T (fun x g' ng' hx => K x (nI N) fs no st g' ng' hx) 129 0 true g a_nextGroup (by omega) (fun _ => by omega) (fun _ => ⟨fun i j hi hj => ?_, zk_pos h0⟩) (fun y => absurd y (by decide)) (by omega)
    rw [h1 i hi, h1 j hj, zb_ij]; rfl
  · intro n i g hi h1 K'
    show wX_rests_17 post (nI k) f_height f_signs f_demands f_bounds f_isSolved f_kinds f_solutionCount f_leastSum (nI N) (n + 1) (nI i) a_sizes a_hasEmpty a_firstSet a_lastSet a_takes a_behind a_sign a_demandSigns a_demandSign a_demandPattern a_demandKept a_factor a_limit a_lengthOf a_lettersOf a_action a_kindWord a_kindCount a_kindOf a_kindAction a_countOfSum a_lengthSet a_kindSet a_firstWord fs no st g a_nextGroup a_counts a_isPair a_pairQueue a_chosen
    rw [wX_rests_17]
    obtain ⟨q1, q2, q3, q4⟩ := F.2.1 i hi
    refine br_f (nI_ge hi (by omega)) (And.intro (vp_in_nI (by omega) (by decide)) ?_)
    rw [nI_clamp (show i < 2 ^ 31 by omega), q3]
    refine zx_end (by omega) q2 W H ?_
    have fill : ∀ v, v = zb_i (zp_a P (e i)) → ∀ q, q < i + 1 → upd g i v q = zb_i (zp_a P (e q)) := by
      intro v hv q hq
      by_cases z : q = i
      · rw [z, pk_us]; exact hv
      · rw [pk_un z]; exact h1 q (by omega)
    cases ea : zp_a P (e i) with
    | false =>
      refine br_t rfl (And.intro (vp_in_nI (by omega) (by decide)) (nm_e (nm_r (nI_1 i) (K' _ ?_))))
      exact fill 0 (by rw [ea]; rfl)
    | true =>
      refine br_f zb_10 (And.intro (vp_in_nI (by omega) (by decide)) (nm_e (nm_r (nI_1 i) (K' _ ?_))))
      exact fill 1 (by rw [ea]; rfl)
end
end
section
/-! Y: sets told apart, sets met, classes counted -/
section
variable {g_depth g_termLength g_demands g_boundCount g_known g_found g_least : Int32} {b_sizes b_empties b_firsts b_lasts b_letters b_behinds b_steps b_term b_patterns b_kepts b_signs b_signCounts b_bounds b_firstWords b_sums b_met b_tried b_seen b_apart b_counts b_next : Nat → Int32}
variable {k : Nat} {P : PT}
/-- what the table of pairs told apart holds: only pairs that are, and those that end unlike -/
def zy_A (P : PT) (ap : Nat → Int32) : Prop := (∀ a b, a < 128 → b < 128 → ¬ ap (128 * a + b) = 0 → ¬ zq P a b) ∧ ∀ a b, a < 128 → b < 128 → ¬ zp_a P a = zp_a P b → ¬ ap (128 * a + b) = 0
def zy_tg (P : PT) (i c : Nat) : Nat := 128 * zp_d P (i / 128) c + zp_d P (i % 128) c
theorem zy_tl {P : PT} (W : zp_W P) (i c : Nat) : zy_tg P i c < 16384 := by
  have := zp_d128 W (i / 128) c
  have := zp_d128 W (i % 128) c
  unfold zy_tg; omega
theorem zy_l3 {post : Int32 → SY → Prop} {i : Nat} {ap0 : Nat → Int32} (hk : k < 3) (W : zp_W P) (T : zy_T b_steps k P) (hi : i < 16384) (hz : ap0 i = 0)
    (K : ∀ (b : Bool) ap, (∀ x, x ≠ i → ap x = ap0 x) → ap i = zb_i b → (b = true ↔ ∃ c, c < 2 ∧ ¬ ap0 (zy_tg P i c) = 0) → post (zb_i b) (g_depth, g_termLength, g_demands, g_boundCount, g_known, g_found, g_least, b_sizes, b_empties, b_firsts, b_lasts, b_letters, b_behinds, b_steps, b_term, b_patterns, b_kepts, b_signs, b_signCounts, b_bounds, b_firstWords, b_sums, b_met, b_tried, b_seen, ap, b_counts, b_next)) :
    ∀ n c (b : Bool) b_apart, c ≤ 2 → 2 < n + c → (∀ x, x ≠ i → b_apart x = ap0 x) → b_apart i = zb_i b → (b = true ↔ ∃ c', c' < c ∧ ¬ ap0 (zy_tg P i c') = 0) → wY_leadApart_3 post (nI k) (nI k) (nI i) g_depth g_termLength g_demands g_boundCount g_known g_found g_least n (nI c) b_sizes b_empties b_firsts b_lasts b_letters b_behinds b_steps b_term b_patterns b_kepts b_signs b_signCounts b_bounds b_firstWords b_sums b_met b_tried b_seen b_apart b_counts b_next := by
  intro n
  induction n with
  | zero => intro c b ap h1 h2; omega
  | succ n ih =>
    intro c b ap h1 h2 hx hb hc
    have hin : vp_in (nI i) 16384 := vp_in_nI hi (by decide)
    have hcl : (nI i).toNatClampNeg = i := nI_clamp (by omega)
    rw [wY_leadApart_3]
    refine pk_le 2 c (fun h => ?_) (fun h => ?_)
    · have : c = 2 := by omega
      subst this
      rw [hcl, hb]
      exact And.intro hin (And.intro (zb_in b) (K b ap hx hb hc))
    · have e1 : nI i / 128 = nI (i / 128) := pk_div (d := 128) (by omega) (by decide) (by decide)
      have e2 : nI i - nI i / 128 * 128 = nI (i % 128) := pk_rem (d := 128) (by omega) (by decide) (by decide)
      have ea : ∀ y : Nat, ((256 : Int32) * nI k + nI y * 2) + nI c = nI (256 * k + 2 * y + c) := by
        intro y
        show nI 256 * nI k + nI y * nI 2 + nI c = _
        rw [pk_mul, pk_mul, nI_add, nI_add, Nat.mul_comm y 2]
      have h1' := T (i / 128) c (by omega) h
      have h2' := T (i % 128) c (by omega) h
      have hd1 := zp_d128 W (i / 128) c
      have hd2 := zp_d128 W (i % 128) c
      have htl := zy_tl W i c
      rw [e2, e1, ea, ea]
      refine And.intro (by decide) (And.intro (vp_in_nI (by omega) (by decide)) (nm_r (e' := nI (zp_d P (i / 128) c)) (by rw [nI_clamp (show 256 * k + 2 * (i / 128) + c < 2 ^ 31 by omega), h1']) ?_))
      refine And.intro (by decide) (And.intro (vp_in_nI (by omega) (by decide)) (nm_r (e' := nI (zp_d P (i % 128) c)) (by rw [nI_clamp (show 256 * k + 2 * (i % 128) + c < 2 ^ 31 by omega), h2']) ?_))
      have et : (128 : Int32) * nI (zp_d P (i / 128) c) + nI (zp_d P (i % 128) c) = nI (zy_tg P i c) := by
        show nI 128 * _ + _ = _
        rw [pk_mul, nI_add]; rfl
      rw [et, hcl, nI_clamp (show zy_tg P i c < 2 ^ 31 by omega), hb]
      refine And.intro hin ?_
      -- one more letter, with answer b'
      have go : ∀ (b' : Bool) v, v = zb_i b' → (b' = true ↔ ∃ c', c' < c + 1 ∧ ¬ ap0 (zy_tg P i c') = 0) → wY_leadApart_3 post (nI k) (nI k) (nI i) g_depth g_termLength g_demands g_boundCount g_known g_found g_least n (nI (c + 1)) b_sizes b_empties b_firsts b_lasts b_letters b_behinds b_steps b_term b_patterns b_kepts b_signs b_signCounts b_bounds b_firstWords b_sums b_met b_tried b_seen (upd ap i v) b_counts b_next := by
        intro b' v hv hc'
        refine ih (c + 1) b' _ (by omega) (by omega) (fun x hx' => ?_) ?_ hc'
        · rw [pk_un hx']; exact hx x hx'
        · rw [pk_us]; exact hv
      cases b with
      | true =>
        refine br_f zb_10 (And.intro hin (nm_e (nm_r (nI_1 c) (go true _ rfl ⟨fun _ => ?_, fun _ => rfl⟩))))
        obtain ⟨c', h3, h4⟩ := hc.mp rfl
        exact ⟨c', by omega, h4⟩
      | false =>
        refine br_t rfl (And.intro (vp_in_nI htl (by decide)) ?_)
        have hno : ∀ c', c' < c → ap0 (zy_tg P i c') = 0 := fun c' h3 => Classical.byContradiction fun h4 => absurd (hc.mpr ⟨c', h3, h4⟩) (by decide)
        have hsame : ap (zy_tg P i c) = 0 ↔ ap0 (zy_tg P i c) = 0 := by
          by_cases y : zy_tg P i c = i
          · rw [y, hb, hz]; exact ⟨fun _ => rfl, fun _ => rfl⟩
          · rw [hx _ y]
        refine br_c (fun y => ?_) (fun y => ?_)
        · refine And.intro hin (nm_e (nm_r (nI_1 c) (go false _ rfl ⟨fun z => absurd z (by decide), ?_⟩)))
          rintro ⟨c', h3, h4⟩
          by_cases z : c' = c
          · rw [z] at h4; exact absurd (hsame.mp y) h4
          · exact absurd (hno c' (by omega)) h4
        · exact And.intro hin (nm_e (nm_r (nI_1 c) (go true _ rfl ⟨fun _ => ⟨c, by omega, fun z => y (hsame.mpr z)⟩, fun _ => rfl⟩)))
/-- a pass -/
theorem zy_60 {post : SY → Prop} {m : Nat} {ap0 : Nat → Int32} (hk : k < 3) (W : zp_W P) (T : zy_T b_steps k P)
    (K : ∀ (more : Bool) ap, zy_A P ap → (more = true → zz0 ap 16384 < zz0 ap0 16384) → (more = false → ∀ q c, q < 16384 → c < 2 → ¬ ap (zy_tg P q c) = 0 → ¬ ap q = 0) → wY_tellApart_51 post (nI k) (nI k) m (zb_i more) g_depth g_termLength g_demands g_boundCount g_known g_found g_least b_sizes b_empties b_firsts b_lasts b_letters b_behinds b_steps b_term b_patterns b_kepts b_signs b_signCounts b_bounds b_firstWords b_sums b_met b_tried b_seen ap b_counts b_next) :
    ∀ n i (more : Bool) b_apart, i ≤ 16384 → 16384 < n + i → zy_A P b_apart → zz0 b_apart 16384 ≤ zz0 ap0 16384 → (more = true → zz0 b_apart 16384 < zz0 ap0 16384) →
    (more = false → ∀ q c, q < i → c < 2 → ¬ b_apart (zy_tg P q c) = 0 → ¬ b_apart q = 0) →
    wY_tellApart_60 post (wY_tellApart_51 post (nI k) (nI k) m) (nI k) (nI k) n (zb_i more) (nI i) g_depth g_termLength g_demands g_boundCount g_known g_found g_least b_sizes b_empties b_firsts b_lasts b_letters b_behinds b_steps b_term b_patterns b_kepts b_signs b_signCounts b_bounds b_firstWords b_sums b_met b_tried b_seen b_apart b_counts b_next := by
  intro n
  induction n with
  | zero => intro i more ap h1 h2; omega
  | succ n ih =>
    intro i more ap h1 h2 hA hle hm hcl
    rw [wY_tellApart_60]
    refine pk_le 16384 i (fun h => ?_) (fun h => ?_)
    · exact K more ap hA hm (fun hf q c hq hc => hcl hf q c (by omega) hc)
    · refine And.intro (vp_in_nI h (by decide)) ?_
      rw [nI_clamp (show i < 2 ^ 31 by omega)]
      have keep : ∀ ap', (∀ x, ap' x = 0 ↔ ap x = 0) → ((∃ c, c < 2 ∧ ¬ ap (zy_tg P i c) = 0) → ¬ ap i = 0) → wY_tellApart_89 post (wY_tellApart_51 post (nI k) (nI k) m) (wY_tellApart_60 post (wY_tellApart_51 post (nI k) (nI k) m) (nI k) (nI k) n) (nI k) (nI k) (zb_i more) (nI i) g_depth g_termLength g_demands g_boundCount g_known g_found g_least b_sizes b_empties b_firsts b_lasts b_letters b_behinds b_steps b_term b_patterns b_kepts b_signs b_signCounts b_bounds b_firstWords b_sums b_met b_tried b_seen ap' b_counts b_next := by
        intro ap' hs hq
        have hle' : zz0 ap' 16384 ≤ zz0 ap 16384 := zz_le (fun x _ => (hs x).mp)
        have go := ih (i + 1) more ap' (by omega) (by omega) ⟨fun a b ha hb => by rw [hs]; exact hA.1 a b ha hb, fun a b ha hb => by rw [hs]; exact hA.2 a b ha hb⟩ (by omega) (fun z => by have := hm z; omega) (fun hf q c hq' hc => by
          rw [hs, hs]
          by_cases z : q = i
          · rw [z]; exact fun y => hq ⟨c, hc, y⟩
          · exact hcl hf q c (by omega) hc)
        rw [wY_tellApart_89]
        cases more with
        | false => exact br_t rfl (nm_r (nI_1 i) go)
        | true => exact br_f zb_10 (nm_r (nI_1 i) go)
      refine br_c (fun hz => ?_) (fun hz => keep ap (fun _ => Iff.rfl) (fun _ => hz))
      refine ⟨3, zy_l3 (ap0 := ap) hk W T h hz (fun b ap' g1 g2 g3 => ?_) 3 0 false ap (by omega) (by omega) (fun _ _ => rfl) hz ⟨fun z => absurd z (by decide), fun ⟨c, hc, _⟩ => absurd hc (Nat.not_lt_zero c)⟩⟩
      cases b with
      | false =>
        refine br_t rfl (keep ap' (fun x => ?_) (fun y => absurd (g3.mpr y) (by decide)))
        by_cases z : x = i
        · rw [z, g2, hz]; exact ⟨fun _ => rfl, fun _ => rfl⟩
        · rw [g1 x z]
      | true =>
        have hnew : ¬ ap' i = 0 := by rw [g2]; exact zb_10
        have hmon : ∀ x, x < 16384 → ap' x = 0 → ap x = 0 := by
          intro x _ hx
          by_cases z : x = i
          · rw [z]; exact hz
          · rw [g1 x z] at hx; exact hx
        have hlt : zz0 ap' 16384 < zz0 ap 16384 := zz_lt hmon h hz hnew
        refine br_f zb_10 (nm_r (nI_1 i) (ih (i + 1) true ap' (by omega) (by omega) ⟨?_, ?_⟩ (by omega) (fun _ => by omega) (fun z => absurd z (by decide))))
        · intro a b ha hb hx
          by_cases z : 128 * a + b = i
          · obtain ⟨c, hc, hne⟩ := g3.mp rfl
            unfold zy_tg at hne
            rw [show i / 128 = a by omega, show i % 128 = b by omega] at hne
            have := hA.1 _ _ (zp_d128 W _ _) (zp_d128 W _ _) hne
            exact fun y => this (zq_d y hc)
          · rw [g1 _ z] at hx; exact hA.1 a b ha hb hx
        · intro a b ha hb hne y
          exact hA.2 a b ha hb hne (hmon _ (by omega) y)
theorem zy_51 {post : SY → Prop} (hk : k < 3) (W : zp_W P) (T : zy_T b_steps k P)
    (K : ∀ ap, (∀ a b, a < 128 → b < 128 → (¬ ap (128 * a + b) = 0 ↔ ¬ zq P a b)) → post (g_depth, g_termLength, g_demands, g_boundCount, g_known, g_found, g_least, b_sizes, b_empties, b_firsts, b_lasts, b_letters, b_behinds, b_steps, b_term, b_patterns, b_kepts, b_signs, b_signCounts, b_bounds, b_firstWords, b_sums, b_met, b_tried, b_seen, ap, b_counts, b_next)) :
    ∀ n (more : Bool) b_apart, 1 ≤ n → (more = true → zz0 b_apart 16384 + 2 ≤ n) → zy_A P b_apart → (more = false → ∀ q c, q < 16384 → c < 2 → ¬ b_apart (zy_tg P q c) = 0 → ¬ b_apart q = 0) →
    wY_tellApart_51 post (nI k) (nI k) n (zb_i more) g_depth g_termLength g_demands g_boundCount g_known g_found g_least b_sizes b_empties b_firsts b_lasts b_letters b_behinds b_steps b_term b_patterns b_kepts b_signs b_signCounts b_bounds b_firstWords b_sums b_met b_tried b_seen b_apart b_counts b_next := by
  intro n
  induction n with
  | zero => intro more ap h; omega
  | succ n ih =>
    intro more ap _ hfu hA hcl
    rw [wY_tellApart_51]
    cases more with
    | false =>
      refine br_t rfl (K ap (fun a b ha hb => ⟨hA.1 a b ha hb, fun h y => h ?_⟩))
      intro r
      refine zq_of W (A := fun a b => ¬ ap (128 * a + b) = 0) hA.2 (fun a b c ha hb hc h => ?_) r a b ha hb (fun z => z y)
      refine hcl rfl (128 * a + b) c (by omega) hc ?_
      unfold zy_tg
      rw [show (128 * a + b) / 128 = a by omega, show (128 * a + b) % 128 = b by omega]
      exact h
    | true =>
      have hfu' := hfu rfl
      refine br_f zb_10 ⟨16385, zy_60 (ap0 := ap) hk W T ?_ 16385 0 false ap (by omega) (by omega) hA (Nat.le_refl _) (fun z => absurd z (by decide)) (fun _ q c hq => absurd hq (Nat.not_lt_zero q))⟩
      intro more ap' hA' hm hcl'
      exact ih more ap' (by omega) (fun z => by have := hm z; omega) hA' hcl'
theorem zy_tell {post : SY → Prop} (hk : k < 3) (W : zp_W P) (H : zy_P b_sizes b_empties b_firsts b_lasts b_letters b_behinds (5 + k) P) (T : zy_T b_steps k P)
    (K : ∀ ap, (∀ a b, a < 128 → b < 128 → (¬ ap (128 * a + b) = 0 ↔ ¬ zq P a b)) → post (g_depth, g_termLength, g_demands, g_boundCount, g_known, g_found, g_least, b_sizes, b_empties, b_firsts, b_lasts, b_letters, b_behinds, b_steps, b_term, b_patterns, b_kepts, b_signs, b_signCounts, b_bounds, b_firstWords, b_sums, b_met, b_tried, b_seen, ap, b_counts, b_next)) : wpY_tellApart post (g_depth, g_termLength, g_demands, g_boundCount, g_known, g_found, g_least, b_sizes, b_empties, b_firsts, b_lasts, b_letters, b_behinds, b_steps, b_term, b_patterns, b_kepts, b_signs, b_signCounts, b_bounds, b_firstWords, b_sums, b_met, b_tried, b_seen, b_apart, b_counts, b_next) (nI k) (nI k) := by
  refine loop_0 (fun n i ap => wY_tellApart_2 post (nI k) (nI k) g_depth g_termLength g_demands g_boundCount g_known g_found g_least n (nI i) b_sizes b_empties b_firsts b_lasts b_letters b_behinds b_steps b_term b_patterns b_kepts b_signs b_signCounts b_bounds b_firstWords b_sums b_met b_tried b_seen ap b_counts b_next) (fun i ap => ∀ x, x < i → (¬ ap x = 0 ↔ ¬ zp_a P (x / 128) = zp_a P (x % 128))) 16384 b_apart (fun x h => absurd h (Nat.not_lt_zero x)) ?_ ?_
  · intro n ap h1
    show wY_tellApart_2 post (nI k) (nI k) g_depth g_termLength g_demands g_boundCount g_known g_found g_least (n + 1) (nI 16384) b_sizes b_empties b_firsts b_lasts b_letters b_behinds b_steps b_term b_patterns b_kepts b_signs b_signCounts b_bounds b_firstWords b_sums b_met b_tried b_seen ap b_counts b_next
    rw [wY_tellApart_2]
    have hmax := zz_max ap 16384
    have h2 : ∀ a b, a < 128 → b < 128 → (¬ ap (128 * a + b) = 0 ↔ ¬ zp_a P a = zp_a P b) := by
      intro a b ha hb
      have := h1 (128 * a + b) (by omega)
      rw [show (128 * a + b) / 128 = a by omega, show (128 * a + b) % 128 = b by omega] at this
      exact this
    refine br_t (by decide) ⟨16386, zy_51 hk W T K 16386 true ap (by omega) (fun _ => by omega) ⟨?_, ?_⟩ (fun z => absurd z (by decide))⟩
    · intro a b ha hb g y
      exact (h2 a b ha hb).mp g (zq_a y)
    · intro a b ha hb g
      exact (h2 a b ha hb).mpr g
  · intro n i ap hi h1 K'
    show wY_tellApart_2 post (nI k) (nI k) g_depth g_termLength g_demands g_boundCount g_known g_found g_least (n + 1) (nI i) b_sizes b_empties b_firsts b_lasts b_letters b_behinds b_steps b_term b_patterns b_kepts b_signs b_signCounts b_bounds b_firstWords b_sums b_met b_tried b_seen ap b_counts b_next
    rw [wY_tellApart_2]
    try dsimp only
    have e1 : nI i / 128 = nI (i / 128) := pk_div (d := 128) (by omega) (by decide) (by decide)
    have e2 : nI i - nI i / 128 * 128 = nI (i % 128) := pk_rem (d := 128) (by omega) (by decide) (by decide)
    rw [e2, e1]
    have fill : ∀ v : Int32, (¬ v = 0 ↔ ¬ zp_a P (i / 128) = zp_a P (i % 128)) → ∀ x, x < i + 1 → (¬ upd ap i v x = 0 ↔ ¬ zp_a P (x / 128) = zp_a P (x % 128)) := by
      intro v hv x hx
      by_cases z : x = i
      · rw [z, pk_us]; exact hv
      · rw [pk_un z]; exact h1 x (by omega)
    have hcl : (nI i).toNatClampNeg = i := nI_clamp (by omega)
    refine br_f (nI_ge (b := 16384) hi (by decide)) (And.intro (by decide) (zy_acc hk (by omega) W H (And.intro (by decide) (zy_acc hk (by omega) W H ?_))))
    rw [hcl]
    refine br_c (fun hq => ?_) (fun hq => ?_)
    · refine And.intro (vp_in_nI hi (by decide)) (nm_e (nm_r (nI_1 i) (K' _ (fill _ ?_))))
      rw [zb_v0]
      exact ⟨fun g => absurd rfl g, fun g => absurd (zb_ij.mp hq) g⟩
    · refine And.intro (vp_in_nI hi (by decide)) (nm_e (nm_r (nI_1 i) (K' _ (fill _ ?_))))
      rw [zb_v1]
      exact ⟨fun _ y => hq (zb_ij.mpr y), fun _ => zb_10⟩
end
end
section
/-! Y: sets met; rests -/
section
variable {g_depth g_termLength g_demands g_boundCount g_known g_found g_least : Int32} {b_sizes b_empties b_firsts b_lasts b_letters b_behinds b_steps b_term b_patterns b_kepts b_signs b_signCounts b_bounds b_firstWords b_sums b_met b_tried b_seen b_apart b_counts b_next : Nat → Int32}
variable {k : Nat} {P : PT}
def zy_M (P : PT) (se : Nat → Int32) : Prop := ¬ se 64 = 0 ∧ ∀ t, t < 128 → ¬ se t = 0 → zr1 P t
theorem zy_93 {post : SY → Prop} {i m n t : Nat} {z : Bool} {x1 : Int32} (hi : i < 256) (ht : t < 128)
    (K : ∀ se, (∀ x, x ≠ t → se x = b_seen x) → (¬ se t = 0 ↔ (¬ b_seen t = 0 ∨ ¬ b_seen (i / 2) = 0)) → wY_meet_42 post (wY_meet_34 post x1 g_depth g_termLength g_demands g_boundCount g_known g_found g_least m) x1 g_depth g_termLength g_demands g_boundCount g_known g_found g_least n (zb_i z) (nI (i + 1)) b_sizes b_empties b_firsts b_lasts b_letters b_behinds b_steps b_term b_patterns b_kepts b_signs b_signCounts b_bounds b_firstWords b_sums b_met b_tried se b_apart b_counts b_next) :
    wY_meet_93 post (wY_meet_34 post x1 g_depth g_termLength g_demands g_boundCount g_known g_found g_least m) (wY_meet_42 post (wY_meet_34 post x1 g_depth g_termLength g_demands g_boundCount g_known g_found g_least m) x1 g_depth g_termLength g_demands g_boundCount g_known g_found g_least n) x1 (nI i) (nI t) (zb_i z) g_depth g_termLength g_demands g_boundCount g_known g_found g_least b_sizes b_empties b_firsts b_lasts b_letters b_behinds b_steps b_term b_patterns b_kepts b_signs b_signCounts b_bounds b_firstWords b_sums b_met b_tried b_seen b_apart b_counts b_next := by
  have e1 : nI i / 2 = nI (i / 2) := pk_div (d := 2) (by omega) (by decide) (by decide)
  have hin : vp_in (nI t) 128 := vp_in_nI ht (by decide)
  rw [wY_meet_93, e1, nI_clamp (show t < 2 ^ 31 by omega), nI_clamp (show i / 2 < 2 ^ 31 by omega), zb_v0, zb_v1]
  refine And.intro hin (br_c (fun h => ?_) (fun h => ?_))
  · refine And.intro (by decide) (And.intro (vp_in_nI (by omega) (by decide)) (br_c (fun g => ?_) (fun g => ?_)))
    · refine And.intro hin (nm_e (nm_r (nI_1 i) (K _ (fun x hx => pk_un hx) ?_)))
      rw [pk_us]
      exact ⟨fun y => absurd rfl y, fun y => y.elim (fun y => absurd h y) (fun y => absurd g y)⟩
    · refine And.intro hin (nm_e (nm_r (nI_1 i) (K _ (fun x hx => pk_un hx) ?_)))
      rw [pk_us]
      exact ⟨fun _ => Or.inr g, fun _ => zb_10⟩
  · refine And.intro hin (nm_e (nm_r (nI_1 i) (K _ (fun x hx => pk_un hx) ?_)))
    rw [pk_us]
    exact ⟨fun _ => Or.inl h, fun _ => zb_10⟩
theorem zy_m42 {post : SY → Prop} {m : Nat} {se0 : Nat → Int32} (hk : k < 3) (W : zp_W P) (T : zy_T b_steps k P)
    (K : ∀ (more : Bool) se, zy_M P se → (more = true → zz0 se 128 < zz0 se0 128) → (more = false → ∀ t c, t < 128 → c < 2 → ¬ se t = 0 → ¬ se (zp_d P t c) = 0) → wY_meet_34 post (nI k) g_depth g_termLength g_demands g_boundCount g_known g_found g_least m (zb_i more) b_sizes b_empties b_firsts b_lasts b_letters b_behinds b_steps b_term b_patterns b_kepts b_signs b_signCounts b_bounds b_firstWords b_sums b_met b_tried se b_apart b_counts b_next) :
    ∀ n i (more : Bool) b_seen, i ≤ 256 → 256 < n + i → zy_M P b_seen → zz0 b_seen 128 ≤ zz0 se0 128 → (more = true → zz0 b_seen 128 < zz0 se0 128) →
    (more = false → ∀ q, q < i → ¬ b_seen (q / 2) = 0 → ¬ b_seen (zp_d P (q / 2) (q % 2)) = 0) →
    wY_meet_42 post (wY_meet_34 post (nI k) g_depth g_termLength g_demands g_boundCount g_known g_found g_least m) (nI k) g_depth g_termLength g_demands g_boundCount g_known g_found g_least n (zb_i more) (nI i) b_sizes b_empties b_firsts b_lasts b_letters b_behinds b_steps b_term b_patterns b_kepts b_signs b_signCounts b_bounds b_firstWords b_sums b_met b_tried b_seen b_apart b_counts b_next := by
  intro n
  induction n with
  | zero => intro i more se h1 h2; omega
  | succ n ih =>
    intro i more se h1 h2 hM hle hm hcl
    rw [wY_meet_42]
    refine pk_le 256 i (fun h => ?_) (fun h => ?_)
    · refine K more se hM hm (fun hf t c ht hc => ?_)
      have := hcl hf (2 * t + c) (by omega)
      rw [show (2 * t + c) / 2 = t by omega, show (2 * t + c) % 2 = c by omega] at this
      exact this
    · have e1 : nI i / 2 = nI (i / 2) := pk_div (d := 2) (by omega) (by decide) (by decide)
      have e3 : (256 : Int32) * nI k + nI i = nI (256 * k + i) := by
        show nI 256 * nI k + nI i = _
        rw [pk_mul, nI_add]
      have hd := zp_d128 W (i / 2) (i % 2)
      have hst := T (i / 2) (i % 2) (by omega) (by omega)
      rw [show 256 * k + 2 * (i / 2) + i % 2 = 256 * k + i by omega] at hst
      rw [e3]
      refine And.intro (vp_in_nI (by omega) (by decide)) (nm_r (e' := nI (zp_d P (i / 2) (i % 2))) (by rw [nI_clamp (show 256 * k + i < 2 ^ 31 by omega), hst]) ?_)
      -- after the step
      have go : ∀ z : Bool, (z = true ↔ (more = true ∨ (¬ se (i / 2) = 0 ∧ se (zp_d P (i / 2) (i % 2)) = 0))) → wY_meet_93 post (wY_meet_34 post (nI k) g_depth g_termLength g_demands g_boundCount g_known g_found g_least m) (wY_meet_42 post (wY_meet_34 post (nI k) g_depth g_termLength g_demands g_boundCount g_known g_found g_least m) (nI k) g_depth g_termLength g_demands g_boundCount g_known g_found g_least n) (nI k) (nI i) (nI (zp_d P (i / 2) (i % 2))) (zb_i z) g_depth g_termLength g_demands g_boundCount g_known g_found g_least b_sizes b_empties b_firsts b_lasts b_letters b_behinds b_steps b_term b_patterns b_kepts b_signs b_signCounts b_bounds b_firstWords b_sums b_met b_tried se b_apart b_counts b_next := by
        intro z hz
        refine zy_93 h hd (fun se' g1 g2 => ?_)
        have hmon : ∀ x, x < 128 → se' x = 0 → se x = 0 := by
          intro x _ hx
          by_cases y : x = zp_d P (i / 2) (i % 2)
          · rw [y] at hx ⊢
            exact Classical.byContradiction fun q => (g2.mpr (Or.inl q)) hx
          · rw [g1 x y] at hx; exact hx
        have hle' : zz0 se' 128 ≤ zz0 se 128 := zz_le hmon
        refine ih (i + 1) z se' (by omega) (by omega) ⟨fun y => hM.1 (hmon 64 (by decide) y), ?_⟩ (by omega) (fun hz1 => ?_) (fun hz0 q hq => ?_)
        · intro t ht hx
          by_cases y : t = zp_d P (i / 2) (i % 2)
          · rw [y] at hx
            rcases g2.mp hx with q | q
            · rw [y]; exact hM.2 _ hd q
            · rw [y]; exact zr1_s (hM.2 _ (by omega) q) (by omega)
          · rw [g1 t y] at hx; exact hM.2 t ht hx
        · rcases hz.mp hz1 with q | ⟨q1, q2⟩
          · have := hm q; omega
          · have := zz_lt hmon hd q2 (g2.mpr (Or.inr q1)); omega
        · have hnm : more = false := by
            cases more with
            | false => rfl
            | true => rw [hz.mpr (Or.inl rfl)] at hz0; exact absurd hz0 (by decide)
          have hns : ¬ se (i / 2) = 0 → ¬ se (zp_d P (i / 2) (i % 2)) = 0 := fun q1 q2 => by
            rw [hz.mpr (Or.inr ⟨q1, q2⟩)] at hz0; exact absurd hz0 (by decide)
          have hs : ∀ x, se' x = 0 ↔ se x = 0 := by
            intro x
            by_cases y : x = zp_d P (i / 2) (i % 2)
            · rw [y]
              refine zb_nn (g2.trans ⟨fun q => q.elim id hns, Or.inl⟩)
            · rw [g1 x y]
          rw [hs, hs]
          by_cases y : q = i
          · rw [y]; exact hns
          · exact hcl hnm q (by omega)
      cases more with
      | true =>
        refine br_f zb_10 ?_
        rw [wY_meet_88]
        exact go true ⟨fun _ => Or.inl rfl, fun _ => rfl⟩
      | false =>
        refine br_t rfl (And.intro (by decide) ?_)
        rw [e1, nI_clamp (show i / 2 < 2 ^ 31 by omega)]
        refine And.intro (vp_in_nI (by omega) (by decide)) (br_c (fun y => ?_) (fun y => ?_))
        · rw [wY_meet_92]
          exact go false ⟨fun q => absurd q (by decide), fun q => q.elim (fun q => absurd q (by decide)) (fun q => absurd y q.1)⟩
        · rw [nI_clamp (show zp_d P (i / 2) (i % 2) < 2 ^ 31 by omega)]
          refine And.intro (vp_in_nI hd (by decide)) (br_c (fun w => ?_) (fun w => ?_))
          · rw [wY_meet_88]
            exact go true ⟨fun _ => Or.inr ⟨y, w⟩, fun _ => rfl⟩
          · rw [wY_meet_92]
            exact go false ⟨fun q => absurd q (by decide), fun q => q.elim (fun q => absurd q (by decide)) (fun q => absurd q.2 w)⟩
theorem zy_m34 {post : SY → Prop} (hk : k < 3) (W : zp_W P) (T : zy_T b_steps k P)
    (K : ∀ se, (∀ t, t < 128 → (¬ se t = 0 ↔ zr1 P t)) → post (g_depth, g_termLength, g_demands, g_boundCount, g_known, g_found, g_least, b_sizes, b_empties, b_firsts, b_lasts, b_letters, b_behinds, b_steps, b_term, b_patterns, b_kepts, b_signs, b_signCounts, b_bounds, b_firstWords, b_sums, b_met, b_tried, se, b_apart, b_counts, b_next)) :
    ∀ n (more : Bool) b_seen, 1 ≤ n → (more = true → zz0 b_seen 128 + 2 ≤ n) → zy_M P b_seen → (more = false → ∀ t c, t < 128 → c < 2 → ¬ b_seen t = 0 → ¬ b_seen (zp_d P t c) = 0) →
    wY_meet_34 post (nI k) g_depth g_termLength g_demands g_boundCount g_known g_found g_least n (zb_i more) b_sizes b_empties b_firsts b_lasts b_letters b_behinds b_steps b_term b_patterns b_kepts b_signs b_signCounts b_bounds b_firstWords b_sums b_met b_tried b_seen b_apart b_counts b_next := by
  intro n
  induction n with
  | zero => intro more ap h; omega
  | succ n ih =>
    intro more se _ hfu hM hcl
    rw [wY_meet_34]
    cases more with
    | false =>
      refine br_t rfl (K se (fun t ht => ⟨hM.2 t ht, fun h => ?_⟩))
      have := h (fun t => t < 128 ∧ ¬ se t = 0) ⟨by decide, hM.1⟩ (fun s c hs hc => ⟨zp_d128 W _ _, hcl rfl s c hs.1 hc hs.2⟩)
      exact this.2
    | true =>
      have hfu' := hfu rfl
      refine br_f zb_10 ⟨257, zy_m42 (se0 := se) hk W T ?_ 257 0 false se (by omega) (by omega) hM (Nat.le_refl _) (fun z => absurd z (by decide)) (fun _ q hq => absurd hq (Nat.not_lt_zero q))⟩
      intro more se' hM' hm hcl'
      exact ih more se' (by omega) (fun z => by have := hm z; omega) hM' hcl'
theorem zy_meet {post : SY → Prop} (hk : k < 3) (W : zp_W P) (T : zy_T b_steps k P)
    (K : ∀ se, (∀ t, t < 128 → (¬ se t = 0 ↔ zr1 P t)) → post (g_depth, g_termLength, g_demands, g_boundCount, g_known, g_found, g_least, b_sizes, b_empties, b_firsts, b_lasts, b_letters, b_behinds, b_steps, b_term, b_patterns, b_kepts, b_signs, b_signCounts, b_bounds, b_firstWords, b_sums, b_met, b_tried, se, b_apart, b_counts, b_next)) : wpY_meet post (g_depth, g_termLength, g_demands, g_boundCount, g_known, g_found, g_least, b_sizes, b_empties, b_firsts, b_lasts, b_letters, b_behinds, b_steps, b_term, b_patterns, b_kepts, b_signs, b_signCounts, b_bounds, b_firstWords, b_sums, b_met, b_tried, b_seen, b_apart, b_counts, b_next) (nI k) := by
  refine loop_0 (fun n i se => wY_meet_2 post (nI k) g_depth g_termLength g_demands g_boundCount g_known g_found g_least n (nI i) b_sizes b_empties b_firsts b_lasts b_letters b_behinds b_steps b_term b_patterns b_kepts b_signs b_signCounts b_bounds b_firstWords b_sums b_met b_tried se b_apart b_counts b_next) (fun i se => ∀ x, x < i → (¬ se x = 0 ↔ x = 64)) 128 b_seen (fun x h => absurd h (Nat.not_lt_zero x)) ?_ ?_
  · intro n se h1
    show wY_meet_2 post (nI k) g_depth g_termLength g_demands g_boundCount g_known g_found g_least (n + 1) (nI 128) b_sizes b_empties b_firsts b_lasts b_letters b_behinds b_steps b_term b_patterns b_kepts b_signs b_signCounts b_bounds b_firstWords b_sums b_met b_tried se b_apart b_counts b_next
    rw [wY_meet_2]
    have hmax := zz_max se 128
    refine br_t (by decide) ⟨130, zy_m34 hk W T K 130 true se (by omega) (fun _ => by omega) ⟨(h1 64 (by decide)).mpr rfl, fun t ht g => ?_⟩ (fun z => absurd z (by decide))⟩
    rw [(h1 t ht).mp g]; exact zr1_0 P
  · intro n i se hi h1 K'
    show wY_meet_2 post (nI k) g_depth g_termLength g_demands g_boundCount g_known g_found g_least (n + 1) (nI i) b_sizes b_empties b_firsts b_lasts b_letters b_behinds b_steps b_term b_patterns b_kepts b_signs b_signCounts b_bounds b_firstWords b_sums b_met b_tried se b_apart b_counts b_next
    rw [wY_meet_2]
    refine br_f (nI_ge (b := 128) hi (by decide)) (pk_eq i 64 (fun h => ?_) (fun h => ?_))
    · refine And.intro (vp_in_nI hi (by decide)) (nm_e (nm_r (nI_1 i) (K' _ ?_)))
      rw [nI_clamp (show i < 2 ^ 31 by omega), zb_v1]
      intro x hx
      by_cases z : x = i
      · rw [z, pk_us]; exact ⟨fun _ => h, fun _ => by decide⟩
      · rw [pk_un z]; exact h1 x (by omega)
    · refine And.intro (vp_in_nI hi (by decide)) (nm_e (nm_r (nI_1 i) (K' _ ?_)))
      rw [nI_clamp (show i < 2 ^ 31 by omega), zb_v0]
      intro x hx
      by_cases z : x = i
      · rw [z, pk_us]; exact ⟨fun g => absurd rfl g, fun g => absurd g h⟩
      · rw [pk_un z]; exact h1 x (by omega)
/-- whether a set is the first met of its sort -/
def zy_f (se ap : Nat → Int32) (i : Nat) : Bool := decide (¬ se i = 0) && (List.range i).all (fun j => decide (se j = 0) || decide (¬ ap (128 * i + j) = 0))
theorem zy_ft {se ap : Nat → Int32} {i : Nat} : zy_f se ap i = true ↔ ¬ se i = 0 ∧ ∀ j, j < i → ¬ se j = 0 → ¬ ap (128 * i + j) = 0 := by
  unfold zy_f
  rw [Bool.and_eq_true, decide_eq_true_iff, List.all_eq_true]
  refine and_congr_right (fun _ => ⟨fun h j hj hs => ?_, fun h j hj => ?_⟩)
  · have := h j (List.mem_range.mpr hj)
    rw [Bool.or_eq_true, decide_eq_true_iff, decide_eq_true_iff] at this
    exact this.resolve_left hs
  · rw [Bool.or_eq_true, decide_eq_true_iff, decide_eq_true_iff]
    by_cases z : se j = 0
    · exact Or.inl z
    · exact Or.inr (h j (List.mem_range.mp hj) z)
theorem zy_r43 {post : Int32 → SY → Prop} {i m x2 : Nat} (hi : i < 128)
    (K : wY_rests_25 post g_depth g_termLength g_demands g_boundCount g_known g_found g_least b_sizes b_empties b_firsts b_lasts b_letters b_behinds b_steps b_term b_patterns b_kepts b_signs b_signCounts b_bounds b_firstWords b_sums b_met b_tried b_seen b_apart b_counts b_next m (nI (x2 + if zy_f b_seen b_apart i then 1 else 0)) (nI (i + 1))) :
    ∀ n j (x4 : Int32), j ≤ i → i < n + j → (¬ x4 = 0 ↔ ¬ b_seen i = 0 ∧ ∀ q, q < j → ¬ b_seen q = 0 → ¬ b_apart (128 * i + q) = 0) → wY_rests_43 post (wY_rests_25 post g_depth g_termLength g_demands g_boundCount g_known g_found g_least b_sizes b_empties b_firsts b_lasts b_letters b_behinds b_steps b_term b_patterns b_kepts b_signs b_signCounts b_bounds b_firstWords b_sums b_met b_tried b_seen b_apart b_counts b_next m) (nI x2) (nI i) g_depth g_termLength g_demands g_boundCount g_known g_found g_least b_sizes b_empties b_firsts b_lasts b_letters b_behinds b_steps b_term b_patterns b_kepts b_signs b_signCounts b_bounds b_firstWords b_sums b_met b_tried b_seen b_apart b_counts b_next n x4 (nI j) := by
  have done : ∀ x4 : Int32, (¬ x4 = 0 ↔ ¬ b_seen i = 0 ∧ ∀ q, q < i → ¬ b_seen q = 0 → ¬ b_apart (128 * i + q) = 0) → wY_rests_93 post (wY_rests_25 post g_depth g_termLength g_demands g_boundCount g_known g_found g_least b_sizes b_empties b_firsts b_lasts b_letters b_behinds b_steps b_term b_patterns b_kepts b_signs b_signCounts b_bounds b_firstWords b_sums b_met b_tried b_seen b_apart b_counts b_next m) (nI x2) (nI i) x4 g_depth g_termLength g_demands g_boundCount g_known g_found g_least b_sizes b_empties b_firsts b_lasts b_letters b_behinds b_steps b_term b_patterns b_kepts b_signs b_signCounts b_bounds b_firstWords b_sums b_met b_tried b_seen b_apart b_counts b_next := by
    intro x4 h
    rw [← zy_ft] at h
    rw [wY_rests_93]
    refine br_c (fun z => ?_) (fun z => ?_)
    · have : zy_f b_seen b_apart i = false := by
        cases e : zy_f b_seen b_apart i with
        | false => rfl
        | true => exact absurd z (h.mpr e)
      rw [this] at K
      exact nm_r (nI_1 i) K
    · rw [h.mp z] at K
      exact nm_r (nI_1 x2) (nm_r (nI_1 i) K)
  intro n
  induction n with
  | zero => intro j x4 h1 h2; omega
  | succ n ih =>
    intro j x4 h1 h2 hf
    rw [wY_rests_43]
    refine pk_le i j (fun h => ?_) (fun h => ?_)
    · have e1 : j = i := by omega
      rw [e1] at hf
      exact done x4 hf
    · refine br_c (fun z => ?_) (fun z => ?_)
      · refine done x4 ⟨fun y => absurd z y, fun y => hf.mpr ⟨y.1, fun q hq => y.2 q (by omega)⟩⟩
      · obtain ⟨f1, f2⟩ := hf.mp z
        have e1 : (128 : Int32) * nI i + nI j = nI (128 * i + j) := by
          show nI 128 * nI i + nI j = _
          rw [pk_mul, nI_add]
        refine And.intro (vp_in_nI (by omega) (by decide)) ?_
        rw [nI_clamp (show j < 2 ^ 31 by omega), e1, nI_clamp (show 128 * i + j < 2 ^ 31 by omega)]
        refine br_c (fun y => ?_) (fun y => And.intro (vp_in_nI (by omega) (by decide)) (br_c (fun w => ?_) (fun w => ?_)))
        · refine nm_r (nI_1 j) (ih (j + 1) 1 (by omega) (by omega) ⟨fun _ => ⟨f1, fun q hq hs => ?_⟩, fun _ => zb_10⟩)
          by_cases e : q = j
          · rw [e] at hs; exact absurd y hs
          · exact f2 q (by omega) hs
        · exact nm_r (nI_1 j) (ih (j + 1) 0 (by omega) (by omega) ⟨fun q => absurd rfl q, fun q => absurd w (q.2 j (by omega) y)⟩)
        · refine nm_r (nI_1 j) (ih (j + 1) 1 (by omega) (by omega) ⟨fun _ => ⟨f1, fun q hq hs => ?_⟩, fun _ => zb_10⟩)
          by_cases e : q = j
          · rw [e]; exact w
          · exact f2 q (by omega) hs
theorem zy_r25 {post : Int32 → SY → Prop} (K : post (nI (zk_l (zy_f b_seen b_apart) id 128).length) (g_depth, g_termLength, g_demands, g_boundCount, g_known, g_found, g_least, b_sizes, b_empties, b_firsts, b_lasts, b_letters, b_behinds, b_steps, b_term, b_patterns, b_kepts, b_signs, b_signCounts, b_bounds, b_firstWords, b_sums, b_met, b_tried, b_seen, b_apart, b_counts, b_next)) :
    ∀ n i, i ≤ 128 → 128 < n + i → wY_rests_25 post g_depth g_termLength g_demands g_boundCount g_known g_found g_least b_sizes b_empties b_firsts b_lasts b_letters b_behinds b_steps b_term b_patterns b_kepts b_signs b_signCounts b_bounds b_firstWords b_sums b_met b_tried b_seen b_apart b_counts b_next n (nI (zk_l (zy_f b_seen b_apart) id i).length) (nI i) := by
  intro n
  induction n with
  | zero => intro i h1 h2; omega
  | succ n ih =>
    intro i h1 h2
    rw [wY_rests_25]
    refine pk_le 128 i (fun h => ?_) (fun h => ?_)
    · have e1 : i = 128 := by omega
      rw [e1]; exact K
    · refine And.intro (vp_in_nI h (by decide)) (nm_e ⟨i + 1, zy_r43 h ?_ (i + 1) 0 _ (by omega) (by omega) ?_⟩)
      · have := ih (i + 1) (by omega) (by omega)
        rw [zk_ls] at this
        exact this
      · rw [nI_clamp (show i < 2 ^ 31 by omega)]
        exact ⟨fun y => ⟨y, fun q hq => absurd hq (Nat.not_lt_zero q)⟩, fun y => y.1⟩
theorem zy_rests {post : Int32 → SY → Prop} (hk : k < 3) (W : zp_W P) (H : zy_P b_sizes b_empties b_firsts b_lasts b_letters b_behinds (5 + k) P) (T : zy_T b_steps k P)
    (K : ∀ x ap se, zk_A P x → post (nI x) (g_depth, g_termLength, g_demands, g_boundCount, g_known, g_found, g_least, b_sizes, b_empties, b_firsts, b_lasts, b_letters, b_behinds, b_steps, b_term, b_patterns, b_kepts, b_signs, b_signCounts, b_bounds, b_firstWords, b_sums, b_met, b_tried, se, ap, b_counts, b_next)) : wpY_rests post (g_depth, g_termLength, g_demands, g_boundCount, g_known, g_found, g_least, b_sizes, b_empties, b_firsts, b_lasts, b_letters, b_behinds, b_steps, b_term, b_patterns, b_kepts, b_signs, b_signCounts, b_bounds, b_firstWords, b_sums, b_met, b_tried, b_seen, b_apart, b_counts, b_next) (nI k) := by
  unfold wpY_rests wpY_isThird
  try dsimp only
  refine br_f (nI_pos (by omega)) (br_f (nI_nlt (a := 2) (by omega) (by decide)) (br_f zb_10 ?_))
  refine zy_tell hk W H T (fun ap hap => ?_)
  refine zy_meet hk W T (fun se hse => ⟨129, zy_r25 (K _ ap se ⟨_, ?_, rfl⟩) 129 0 (by omega) (by omega)⟩)
  have key := zk_of (E := zq P) (zq_r P) (fun _ _ _ => zq_t) (fr := zy_f se ap) (e := id) (Q := fun i => ¬ se i = 0) 128 (fun i hi => by
    rw [zy_ft]
    exact and_congr_right (fun _ => ⟨fun h j hj hs => (hap i j hi (by omega)).mp (h j hj hs), fun h j hj hs => (hap i j hi (by omega)).mpr (h j hj hs)⟩))
  refine ⟨key.1, fun a ha => ?_, fun a ha => ?_⟩
  · obtain ⟨i, hi, hq, ei⟩ := key.2.1 a ha
    rw [ei]; exact (hse i hi).mp hq
  · have ha2 := (zr1_g W ha).1
    exact key.2.2 a ⟨a, ha2, (hse a ha2).mpr ha, rfl⟩
end
theorem zk_Au {P : PT} {x y : Nat} (h : zk_A P x) (g : zk_A P y) : x = y := by
  obtain ⟨l, a, rfl⟩ := h
  obtain ⟨m, b, rfl⟩ := g
  exact zk_eq (E := zq P) (fun _ _ => zq_y) (fun _ _ _ => zq_t) a b
end
section
/-! words by numbers: lengths, letters, what they do -/
def zw_n (w : Nat) : Nat := if w = 0 then 0 else if w < 3 then 1 else if w < 7 then 2 else 3
theorem zw_n3 (w : Nat) : zw_n w ≤ 3 := by
  unfold zw_n
  by_cases a : w = 0
  · rw [if_pos a]; omega
  · rw [if_neg a]
    by_cases b : w < 3
    · rw [if_pos b]; omega
    · rw [if_neg b]
      by_cases c : w < 7
      · rw [if_pos c]; omega
      · rw [if_neg c]; omega
def zw_l (w n : Nat) : Nat := (w + 1) / 2 ^ (zw_n w - 1 - n) % 2
def zw_r (P : PT) (t w : Nat) : Nat :=
  if w = 0 then t else if w < 3 then zp_d P t ((w + 1) % 2) else if w < 7 then zp_d P (zp_d P t ((w + 1) / 2 % 2)) ((w + 1) % 2)
  else zp_d P (zp_d P (zp_d P t ((w + 1) / 4 % 2)) ((w + 1) / 2 % 2)) ((w + 1) % 2)
theorem zw_0 (P : PT) (t : Nat) : zw_r P t 0 = t := rfl
theorem zw_s (P : PT) (t w : Nat) (h0 : 0 < w) (h : w < 15) : zw_r P t w = zp_d P (zw_r P t ((w - 1) / 2)) ((w + 1) % 2) := by
  unfold zw_r
  rw [if_neg (show ¬ w = 0 by omega)]
  by_cases a : w < 3
  · rw [if_pos a, if_pos (show (w - 1) / 2 = 0 by omega)]
  · rw [if_neg a, if_neg (show ¬ (w - 1) / 2 = 0 by omega)]
    by_cases b : w < 7
    · rw [if_pos b, if_pos (show (w - 1) / 2 < 3 by omega), show ((w - 1) / 2 + 1) % 2 = (w + 1) / 2 % 2 by omega]
    · rw [if_neg b, if_neg (show ¬ (w - 1) / 2 < 3 by omega), if_pos (show (w - 1) / 2 < 7 by omega), show ((w - 1) / 2 + 1) % 2 = (w + 1) / 2 % 2 by omega, show ((w - 1) / 2 + 1) / 2 % 2 = (w + 1) / 4 % 2 by omega]
theorem zw_or (P : PT) (s t w : Nat) : zw_r P (s ||| t) w = zw_r P s w ||| zw_r P t w := by
  unfold zw_r
  by_cases a : w = 0
  · rw [if_pos a, if_pos a, if_pos a]
  · rw [if_neg a, if_neg a, if_neg a]
    by_cases b : w < 3
    · rw [if_pos b, if_pos b, if_pos b, zp_d_or]
    · rw [if_neg b, if_neg b, if_neg b]
      by_cases c : w < 7
      · rw [if_pos c, if_pos c, if_pos c, zp_d_or, zp_d_or]
      · rw [if_neg c, if_neg c, if_neg c, zp_d_or, zp_d_or, zp_d_or]
theorem zw_z (P : PT) (w : Nat) : zw_r P 0 w = 0 := by
  unfold zw_r
  by_cases a : w = 0
  · rw [if_pos a]
  · rw [if_neg a]
    by_cases b : w < 3
    · rw [if_pos b, zp_d_0]
    · rw [if_neg b]
      by_cases c : w < 7
      · rw [if_pos c, zp_d_0, zp_d_0]
      · rw [if_neg c, zp_d_0, zp_d_0, zp_d_0]
theorem zw_g {P : PT} (W : zp_W P) {t : Nat} (G : zg P t) (w : Nat) : zg P (zw_r P t w) := by
  unfold zw_r
  by_cases a : w = 0
  · rw [if_pos a]; exact G
  · rw [if_neg a]
    by_cases b : w < 3
    · rw [if_pos b]; exact zg_d W _ _
    · rw [if_neg b]
      by_cases c : w < 7
      · rw [if_pos c]; exact zg_d W _ _
      · rw [if_neg c]; exact zg_d W _ _
/-- state s of a pattern as a set -/
def zw_t (s : Nat) : Nat := if s = 0 then 64 else 2 ^ (s - 1)
theorem zw_tu {s : Nat} (h : s < 7) : zu (zw_t s) = 2 ^ s := (by decide : ∀ s, s < 7 → zu (zw_t s) = 2 ^ s) s h
theorem zw_tl {s : Nat} (h : s < 7) : zw_t s < 128 := (by decide : ∀ s, s < 7 → zw_t s < 128) s h
theorem zw_tg {P : PT} {s : Nat} (h : s ≤ zp_n P) (hn : zp_n P ≤ 6) : zg P (zw_t s) := by
  refine ⟨zw_tl (by omega), fun p hp hb => ?_⟩
  unfold zw_t at hb
  by_cases z : s = 0
  · rw [if_pos z] at hb
    exact absurd hb ((by decide : ∀ p, p < 6 → ¬ Nat.testBit 64 p = true) p hp)
  · rw [if_neg z, Nat.testBit_two_pow] at hb
    have := of_decide_eq_true hb
    omega
/-- a set is the or of its states -/
theorem zw_part {t : Nat} (h : t < 128) : zo (fun s => if (zu t).testBit s then zw_t s else 0) 7 = t := by
  apply zb_bext
  intro j
  rw [zo_bit]
  have h64 : ∀ j, Nat.testBit 64 j = true ↔ j = 6 := by
    intro j
    rw [show (64 : Nat) = 2 ^ 6 from rfl, Nat.testBit_two_pow, decide_eq_true_iff]
    exact ⟨fun h => h.symm, fun h => h.symm⟩
  constructor
  · rintro ⟨s, hs, hb⟩
    by_cases c : (zu t).testBit s = true
    · rw [if_pos c] at hb
      unfold zw_t at hb
      cases s with
      | zero =>
        rw [if_pos rfl, h64] at hb
        rw [hb]; rw [zu_b0 h] at c; exact c
      | succ s =>
        rw [if_neg (by omega), Nat.testBit_two_pow] at hb
        have e : s + 1 - 1 = j := of_decide_eq_true hb
        rw [zu_bs h, Bool.and_eq_true] at c
        rw [← e, Nat.add_sub_cancel]; exact c.2
    · rw [if_neg c, Nat.zero_testBit] at hb; exact absurd hb (by decide)
  · intro hb
    have hj : j < 7 := zb_blt (n := 7) h hb
    by_cases e : j = 6
    · subst e
      refine ⟨0, by omega, ?_⟩
      rw [if_pos (by rw [zu_b0 h]; exact hb)]; rfl
    · refine ⟨j + 1, by omega, ?_⟩
      rw [if_pos (by rw [zu_bs h, hb, decide_eq_true (show j < 6 by omega)]; rfl)]
      unfold zw_t
      rw [if_neg (by omega), Nat.add_sub_cancel, Nat.testBit_two_pow]
      exact decide_eq_true rfl
theorem zu_or (a b : Nat) (ha : a < 128) (hb : b < 128) : zu (a ||| b) = zu a ||| zu b := by
  have hab : a ||| b < 128 := zb_orlt (n := 7) ha hb
  apply zb_bext
  intro j
  cases j with
  | zero => rw [zu_b0 hab, Nat.testBit_or, Nat.testBit_or, zu_b0 ha, zu_b0 hb]
  | succ j =>
    rw [zu_bs hab, Nat.testBit_or, Nat.testBit_or, zu_bs ha, zu_bs hb]
    cases decide (j < 6) <;> simp
/-- what a word does to a set, by the set's states -/
theorem zw_lin {P : PT} (W : zp_W P) {t : Nat} (ht : t < 128) (w : Nat) : zo (fun s => if (zu t).testBit s then zu (zw_r P (zw_t s) w) else 0) 7 = zu (zw_r P t w) := by
  have hlt : ∀ s, s < 7 → zw_r P (zw_t s) w < 128 := by
    intro s hs
    unfold zw_r
    by_cases a : w = 0
    · rw [if_pos a]; exact zw_tl hs
    · rw [if_neg a]
      by_cases b : w < 3
      · rw [if_pos b]; exact zp_d128 W _ _
      · rw [if_neg b]
        by_cases c : w < 7
        · rw [if_pos c]; exact zp_d128 W _ _
        · rw [if_neg c]; exact zp_d128 W _ _
  have key : ∀ n, n ≤ 7 → zw_r P (zo (fun s => if (zu t).testBit s then zw_t s else 0) n) w < 128 ∧ zo (fun s => if (zu t).testBit s then zu (zw_r P (zw_t s) w) else 0) n = zu (zw_r P (zo (fun s => if (zu t).testBit s then zw_t s else 0) n) w) := by
    intro n
    induction n with
    | zero => intro _; exact ⟨by rw [show zo (fun s => if (zu t).testBit s then zw_t s else 0) 0 = 0 from rfl, zw_z]; decide, by rw [show zo (fun s => if (zu t).testBit s then zw_t s else 0) 0 = 0 from rfl, zw_z]; rfl⟩
    | succ n ih =>
      intro hn
      obtain ⟨i1, i2⟩ := ih (by omega)
      have e1 : zo (fun s => if (zu t).testBit s then zw_t s else 0) (n + 1) = zo (fun s => if (zu t).testBit s then zw_t s else 0) n ||| (if (zu t).testBit n then zw_t n else 0) := rfl
      have e2 : zo (fun s => if (zu t).testBit s then zu (zw_r P (zw_t s) w) else 0) (n + 1) = zo (fun s => if (zu t).testBit s then zu (zw_r P (zw_t s) w) else 0) n ||| (if (zu t).testBit n then zu (zw_r P (zw_t n) w) else 0) := rfl
      rw [e1, e2, i2]
      by_cases c : (zu t).testBit n = true
      · rw [if_pos c, if_pos c, zw_or]
        have h2 := hlt n (by omega)
        exact ⟨zb_orlt (n := 7) i1 h2, (zu_or _ _ i1 h2).symm⟩
      · rw [if_neg c, if_neg c, Nat.or_zero, Nat.or_zero]
        exact ⟨i1, rfl⟩
  have := (key 7 (by omega)).2
  rw [zw_part ht] at this
  exact this
/-- all of a segment -/
def za (f : Nat → Bool) : Nat → Bool
  | 0 => true
  | n + 1 => za f n && f n
theorem za_t {f : Nat → Bool} {n : Nat} : za f n = true ↔ ∀ i, i < n → f i = true := by
  induction n with
  | zero => exact ⟨fun _ i h => absurd h (Nat.not_lt_zero i), fun _ => rfl⟩
  | succ n ih =>
    show (za f n && f n) = true ↔ _
    rw [Bool.and_eq_true, ih]
    constructor
    · rintro ⟨a, b⟩ i hi
      by_cases z : i = n
      · rw [z]; exact b
      · exact a i (by omega)
    · intro h
      exact ⟨fun i hi => h i (by omega), h n (by omega)⟩
theorem za_f {f : Nat → Bool} {n i : Nat} (hi : i < n) (h : f i = false) : za f n = false := by
  cases e : za f n with
  | false => rfl
  | true => rw [za_t.mp e i hi] at h; exact absurd h (by decide)
theorem za_c {f g : Nat → Bool} {n : Nat} (h : ∀ i, i < n → f i = g i) : za f n = za g n := by
  induction n with
  | zero => rfl
  | succ n ih =>
    show (za f n && f n) = (za g n && g n)
    rw [ih (fun i hi => h i (by omega)), h n (by omega)]
end
section
/-! Y: words read, demands and bounds asked -/
def zw_p (P : PT) (t w : Nat) : Nat → Nat
  | 0 => t
  | n + 1 => zp_d P (zw_p P t w n) (zw_l w n)
theorem zw_pr (P : PT) (t w : Nat) : zw_p P t w (zw_n w) = zw_r P t w := by
  unfold zw_r
  by_cases a : w = 0
  · rw [if_pos a, a]; rfl
  · rw [if_neg a]
    by_cases b : w < 3
    · have e : zw_n w = 1 := by unfold zw_n; rw [if_neg a, if_pos b]
      rw [if_pos b, e]
      show zp_d P t (zw_l w 0) = _
      unfold zw_l
      rw [e, show (w + 1) / 2 ^ (1 - 1 - 0) % 2 = (w + 1) % 2 from by rw [show 2 ^ (1 - 1 - 0) = 1 from rfl, Nat.div_one]]
    · rw [if_neg b]
      by_cases c : w < 7
      · have e : zw_n w = 2 := by unfold zw_n; rw [if_neg a, if_neg b, if_pos c]
        rw [if_pos c, e]
        show zp_d P (zp_d P t (zw_l w 0)) (zw_l w 1) = _
        unfold zw_l
        rw [e, show (w + 1) / 2 ^ (2 - 1 - 1) % 2 = (w + 1) % 2 from by rw [show 2 ^ (2 - 1 - 1) = 1 from rfl, Nat.div_one]]
      · have e : zw_n w = 3 := by unfold zw_n; rw [if_neg a, if_neg b, if_neg c]
        rw [if_neg c, e]
        show zp_d P (zp_d P (zp_d P t (zw_l w 0)) (zw_l w 1)) (zw_l w 2) = _
        unfold zw_l
        rw [e, show (w + 1) / 2 ^ (3 - 1 - 2) % 2 = (w + 1) % 2 from by rw [show 2 ^ (3 - 1 - 2) = 1 from rfl, Nat.div_one]]
theorem zw_l2 (w n : Nat) : zw_l w n < 2 := Nat.mod_lt _ (by decide)
theorem zw_pg {P : PT} (W : zp_W P) {t w : Nat} (ht : t < 128) (n : Nat) : zw_p P t w n < 128 := by
  cases n with
  | zero => exact ht
  | succ n => exact zp_d128 W _ _
/-- the states of pattern P under demand i's signs -/
def zd_c (P : PT) (sg : Nat → Int32) (i : Nat) (w : Nat → Nat) : Nat → Nat
  | 0 => 64
  | n + 1 => if (sg (4 * i + n)).toNatClampNeg < 3 then zw_r P (zd_c P sg i w n) (w (sg (4 * i + n)).toNatClampNeg) else zp_d P (zd_c P sg i w n) ((sg (4 * i + n)).toNatClampNeg - 3)
theorem zd_cg {P : PT} (W : zp_W P) (sg : Nat → Int32) (i : Nat) (w : Nat → Nat) (n : Nat) : zg P (zd_c P sg i w n) := by
  induction n with
  | zero => exact zg_64 P
  | succ n ih =>
    show zg P (if (sg (4 * i + n)).toNatClampNeg < 3 then zw_r P (zd_c P sg i w n) (w (sg (4 * i + n)).toNatClampNeg) else zp_d P (zd_c P sg i w n) ((sg (4 * i + n)).toNatClampNeg - 3))
    by_cases c : (sg (4 * i + n)).toNatClampNeg < 3
    · rw [if_pos c]; exact zw_g W ih _
    · rw [if_neg c]; exact zg_d W _ _
def zd_k (pats : Nat → PT) (pt kp sg sc : Nat → Int32) (w : Nat → Nat) (i : Nat) : Bool :=
  zp_a (pats (pt i).toNatClampNeg) (zd_c (pats (pt i).toNatClampNeg) sg i w (sc i).toNatClampNeg) == decide (kp i = 1)
def zd_b (bd : Nat → Int32) (w : Nat → Nat) (b : Nat) : Bool := decide (¬ bd (4 * b + 3) < zs (fun u => bd (4 * b + u) * nI (zw_n (w u))) 3)
def zd_sol (pats : Nat → PT) (pt kp sg sc bd : Nat → Int32) (nd nb : Nat) (w : Nat → Nat) : Bool := za (zd_b bd w) nb && za (zd_k pats pt kp sg sc w) nd
def zd_ok (pt sg sc : Nat → Int32) (nd : Nat) : Prop := nd ≤ 6 ∧ ∀ i, i < nd → (∃ k, k < 3 ∧ pt i = nI k) ∧ ∃ m, m ≤ 4 ∧ sc i = nI m ∧ ∀ n, n < m → ∃ s, s < 5 ∧ sg (4 * i + n) = nI s
section
variable {g_depth g_termLength g_demands g_boundCount g_known g_found g_least : Int32} {b_sizes b_empties b_firsts b_lasts b_letters b_behinds b_steps b_term b_patterns b_kepts b_signs b_signCounts b_bounds b_firstWords b_sums b_met b_tried b_seen b_apart b_counts b_next : Nat → Int32}
variable {k : Nat} {P : PT}
theorem zy_len {post : Int32 → Prop} {w : Nat} (hw : w < 2 ^ 31) (hp : post (nI (zw_n w))) : wpY_lengthOf post (g_depth, g_termLength, g_demands, g_boundCount, g_known, g_found, g_least, b_sizes, b_empties, b_firsts, b_lasts, b_letters, b_behinds, b_steps, b_term, b_patterns, b_kepts, b_signs, b_signCounts, b_bounds, b_firstWords, b_sums, b_met, b_tried, b_seen, b_apart, b_counts, b_next) (nI w) := by
  unfold zw_n at hp
  refine pk_eq w 0 (fun h => ?_) (fun h => ?_)
  · rw [if_pos h] at hp; exact hp
  · rw [if_neg h] at hp
    refine pk_le 3 w (fun g => ?_) (fun g => ?_)
    · rw [if_neg (by omega)] at hp
      refine pk_le 7 w (fun q => ?_) (fun q => ?_)
      · rw [if_neg (by omega)] at hp; exact hp
      · rw [if_pos (by omega)] at hp; exact hp
    · rw [if_pos (by omega)] at hp; exact hp
theorem zy_let {post : Int32 → Prop} {w n : Nat} (hw : w < 15) (hn : n < zw_n w) (hp : post (nI (zw_l w n))) : wpY_letterOf post (g_depth, g_termLength, g_demands, g_boundCount, g_known, g_found, g_least, b_sizes, b_empties, b_firsts, b_lasts, b_letters, b_behinds, b_steps, b_term, b_patterns, b_kepts, b_signs, b_signCounts, b_bounds, b_firstWords, b_sums, b_met, b_tried, b_seen, b_apart, b_counts, b_next) (nI w) (nI n) := by
  have h3 := zw_n3 w
  unfold wpY_letterOf
  try dsimp only
  refine zy_len (w := w) (by omega) ?_
  have e1 : nI (zw_n w) - 1 - nI n = nI (zw_n w - 1 - n) := by
    rw [show nI (zw_n w) - 1 = nI (zw_n w - 1) from pk_sub (b := 1) (by omega), pk_sub (by omega)]
  have h2 : (w + 1) / 2 ^ (zw_n w - 1 - n) ≤ w + 1 := Nat.div_le_self _ _
  show post (((nI w + 1) >>> ((nI (zw_n w) - 1 - nI n) &&& 31)) &&& 1)
  rw [e1, nI_1, pk_shrN (by omega) _ _ (s_l (zw_n w - 1 - n) (by omega)), zb_and1]
  exact hp
theorem zy_rd6 {post : Int32 → Prop} {t w : Nat} (hk : k < 3) (ht : t < 128) (hw : w < 15) (W : zp_W P) (T : zy_T b_steps k P) (hp : post (nI (zw_r P t w))) :
    ∀ f n, n ≤ zw_n w → zw_n w < f + n → wY_read_6 post (nI k) (nI w) g_depth g_termLength g_demands g_boundCount g_known g_found g_least b_sizes b_empties b_firsts b_lasts b_letters b_behinds b_steps b_term b_patterns b_kepts b_signs b_signCounts b_bounds b_firstWords b_sums b_met b_tried b_seen b_apart b_counts b_next f (nI (zw_p P t w n)) (nI n) := by
  have h3 := zw_n3 w
  intro f
  induction f with
  | zero => intro n h1 h2; omega
  | succ f ih =>
    intro n h1 h2
    rw [wY_read_6]
    refine zy_len (by omega) (pk_le (zw_n w) n (fun h => ?_) (fun h => ?_))
    · have e : n = zw_n w := by omega
      rw [e, zw_pr]; exact hp
    · refine zy_let hw h ?_
      have hl := zw_l2 w n
      have hg := zw_pg W (w := w) ht n
      have e1 : (256 : Int32) * nI k + 2 * nI (zw_p P t w n) + nI (zw_l w n) = nI (256 * k + 2 * zw_p P t w n + zw_l w n) := by
        show nI 256 * nI k + nI 2 * _ + _ = _
        rw [pk_mul, pk_mul, nI_add, nI_add]
      rw [e1]
      refine And.intro (vp_in_nI (by omega) (by decide)) (nm_r (e' := nI (zw_p P t w (n + 1))) ?_ (nm_r (nI_1 n) (ih (n + 1) (by omega) (by omega))))
      rw [nI_clamp (show 256 * k + 2 * zw_p P t w n + zw_l w n < 2 ^ 31 by omega), T _ _ hg hl]; rfl
theorem zy_read {post : Int32 → Prop} {t w : Nat} (hk : k < 3) (ht : t < 128) (hw : w < 15) (W : zp_W P) (T : zy_T b_steps k P) (hp : post (nI (zw_r P t w))) :
    wpY_read post (g_depth, g_termLength, g_demands, g_boundCount, g_known, g_found, g_least, b_sizes, b_empties, b_firsts, b_lasts, b_letters, b_behinds, b_steps, b_term, b_patterns, b_kepts, b_signs, b_signCounts, b_bounds, b_firstWords, b_sums, b_met, b_tried, b_seen, b_apart, b_counts, b_next) (nI k) (nI t) (nI w) := ⟨zw_n w + 1, zy_rd6 hk ht hw W T hp (zw_n w + 1) 0 (by omega) (by omega)⟩
def zy_Ps (b_sizes b_empties b_firsts b_lasts b_letters b_behinds b_steps : Nat → Int32) (pats : Nat → PT) : Prop := ∀ k, k < 3 → zp_W (pats k) ∧ zy_P b_sizes b_empties b_firsts b_lasts b_letters b_behinds (5 + k) (pats k) ∧ zy_T b_steps k (pats k)
variable {pats : Nat → PT} {nd nb : Nat} {w : Nat → Nat}
theorem zy_k13 {post : Int32 → Prop} {i k m : Nat} (hi : i < nd) (D : zd_ok b_patterns b_signs b_signCounts nd) (hk : k < 3) (hpt : b_patterns i = nI k) (hm4 : m ≤ 4) (hm : b_signCounts i = nI m) (W : zp_W (pats k)) (H : zy_P b_sizes b_empties b_firsts b_lasts b_letters b_behinds (5 + k) (pats k)) (T : zy_T b_steps k (pats k)) (hw : ∀ u, u < 3 → w u < 15 ∧ b_tried u = nI (w u))
    (hp : post (zb_i (zd_k pats b_patterns b_kepts b_signs b_signCounts w i))) :
    ∀ f n, n ≤ m → m < f + n → wY_isKept_13 post (nI i) (nI k) g_depth g_termLength g_demands g_boundCount g_known g_found g_least b_sizes b_empties b_firsts b_lasts b_letters b_behinds b_steps b_term b_patterns b_kepts b_signs b_signCounts b_bounds b_firstWords b_sums b_met b_tried b_seen b_apart b_counts b_next f (nI (zd_c (pats k) b_signs i w n)) (nI n) := by
  have hnd := D.1
  have hin : vp_in (nI i) 6 := vp_in_nI (by omega) (by decide)
  have hcl : (nI i).toNatClampNeg = i := nI_clamp (by omega)
  obtain ⟨_, m', hm4', hm', hsg⟩ := D.2 i hi
  have emm : m' = m := by rw [hm] at hm'; exact ((nI_eq (by omega) (by omega)).mp hm').symm
  subst emm
  intro f
  induction f with
  | zero => intro n h1 h2; omega
  | succ f ih =>
    intro n h1 h2
    rw [wY_isKept_13]
    refine And.intro hin ?_
    rw [hcl, hm]
    have G := zd_cg W b_signs i w n
    refine pk_le m' n (fun h => ?_) (fun h => ?_)
    · have e : n = m' := by omega
      subst e
      refine zy_acc hk G.1 W H (And.intro hin ?_)
      unfold zd_k at hp
      rw [hpt, hm, nI_clamp (show k < 2 ^ 31 by omega), nI_clamp (show n < 2 ^ 31 by omega)] at hp
      refine br_c (fun z => ?_) (fun z => ?_)
      · rw [decide_eq_true z] at hp
        rw [wY_isKept_106]
        cases ea : zp_a (pats k) (zd_c (pats k) b_signs i w n) with
        | false => rw [ea] at hp; exact br_f (by decide) hp
        | true => rw [ea] at hp; exact br_t rfl hp
      · rw [decide_eq_false z] at hp
        rw [wY_isKept_106]
        cases ea : zp_a (pats k) (zd_c (pats k) b_signs i w n) with
        | false => rw [ea] at hp; exact br_t rfl hp
        | true => rw [ea] at hp; exact br_f (by decide) hp
    · obtain ⟨s, hs, es⟩ := hsg n h
      have e4 : (4 : Int32) * nI i + nI n = nI (4 * i + n) := by
        show nI 4 * nI i + nI n = _
        rw [pk_mul, nI_add]
      have hc : (b_signs (4 * i + n)).toNatClampNeg = s := by rw [es]; exact nI_clamp (by omega)
      have ih' := ih (n + 1) (by omega) (by omega)
      have ec : zd_c (pats k) b_signs i w (n + 1) = if s < 3 then zw_r (pats k) (zd_c (pats k) b_signs i w n) (w s) else zp_d (pats k) (zd_c (pats k) b_signs i w n) (s - 3) := by
        rw [← hc]; rfl
      rw [ec] at ih'
      rw [e4]
      refine And.intro (vp_in_nI (by omega) (by decide)) (nm_r (e' := nI s) (by rw [nI_clamp (show 4 * i + n < 2 ^ 31 by omega), es]) ?_)
      have hg := G.1
      refine pk_le 3 s (fun g => ?_) (fun g => ?_)
      · rw [if_neg (by omega)] at ih'
        have e1 : (256 : Int32) * nI k + 2 * nI (zd_c (pats k) b_signs i w n) + nI s - 3 = nI (256 * k + 2 * zd_c (pats k) b_signs i w n + (s - 3)) := by
          show nI 256 * nI k + nI 2 * _ + _ - nI 3 = _
          rw [pk_mul, pk_mul, nI_add, nI_add, pk_sub (by omega)]
          exact congrArg nI (by omega)
        rw [e1]
        refine And.intro (vp_in_nI (by omega) (by decide)) (nm_r (e' := nI (zp_d (pats k) (zd_c (pats k) b_signs i w n) (s - 3))) ?_ (nm_r (nI_1 n) ih'))
        rw [nI_clamp (show 256 * k + 2 * zd_c (pats k) b_signs i w n + (s - 3) < 2 ^ 31 by omega), T _ _ hg (by omega)]
      · rw [if_pos g] at ih'
        obtain ⟨w1, w2⟩ := hw s g
        rw [nI_clamp (show s < 2 ^ 31 by omega), w2]
        exact And.intro (vp_in_nI g (by decide)) (zy_read hk hg w1 W T (nm_r (nI_1 n) ih'))
theorem zy_kept {post : Int32 → Prop} {i : Nat} (hi : i < nd) (D : zd_ok b_patterns b_signs b_signCounts nd) (Ps : zy_Ps b_sizes b_empties b_firsts b_lasts b_letters b_behinds b_steps pats) (hw : ∀ u, u < 3 → w u < 15 ∧ b_tried u = nI (w u))
    (hp : post (zb_i (zd_k pats b_patterns b_kepts b_signs b_signCounts w i))) : wpY_isKept post (g_depth, g_termLength, g_demands, g_boundCount, g_known, g_found, g_least, b_sizes, b_empties, b_firsts, b_lasts, b_letters, b_behinds, b_steps, b_term, b_patterns, b_kepts, b_signs, b_signCounts, b_bounds, b_firstWords, b_sums, b_met, b_tried, b_seen, b_apart, b_counts, b_next) (nI i) := by
  have hnd := D.1
  obtain ⟨⟨k, hk, ek⟩, m, hm4, em, _⟩ := D.2 i hi
  obtain ⟨W, H, T⟩ := Ps k hk
  refine And.intro (vp_in_nI (by omega) (by decide)) (nm_r (e' := nI k) (by rw [nI_clamp (show i < 2 ^ 31 by omega), ek]) ⟨m + 1, ?_⟩)
  exact zy_k13 hi D hk ek hm4 em W H T hw hp (m + 1) 0 (by omega) (by omega)
theorem zy_bnd {post : Int32 → Prop} {b : Nat} (hb : b < 3) (hw : ∀ u, u < 3 → w u < 15 ∧ b_tried u = nI (w u)) (hp : post (zb_i (zd_b b_bounds w b))) : wpY_isBound post (g_depth, g_termLength, g_demands, g_boundCount, g_known, g_found, g_least, b_sizes, b_empties, b_firsts, b_lasts, b_letters, b_behinds, b_steps, b_term, b_patterns, b_kepts, b_signs, b_signCounts, b_bounds, b_firstWords, b_sums, b_met, b_tried, b_seen, b_apart, b_counts, b_next) (nI b) := by
  have key : ∀ n u, u ≤ 3 → 3 < n + u → wY_isBound_4 post (nI b) g_depth g_termLength g_demands g_boundCount g_known g_found g_least b_sizes b_empties b_firsts b_lasts b_letters b_behinds b_steps b_term b_patterns b_kepts b_signs b_signCounts b_bounds b_firstWords b_sums b_met b_tried b_seen b_apart b_counts b_next n (zs (fun u => b_bounds (4 * b + u) * nI (zw_n (w u))) u) (nI u) := by
    intro n
    induction n with
    | zero => intro u h1 h2; omega
    | succ n ih =>
      intro u h1 h2
      rw [wY_isBound_4]
      have e4 : ∀ y : Nat, (4 : Int32) * nI b + nI y = nI (4 * b + y) := by
        intro y
        show nI 4 * nI b + nI y = _
        rw [pk_mul, nI_add]
      have e3 : (4 : Int32) * nI b + 3 = nI (4 * b + 3) := e4 3
      refine pk_le 3 u (fun h => ?_) (fun h => ?_)
      · have e : u = 3 := by omega
        subst e
        rw [e3]
        refine And.intro (vp_in_nI (by omega) (by decide)) ?_
        rw [nI_clamp (show 4 * b + 3 < 2 ^ 31 by omega)]
        unfold zd_b at hp
        refine br_c (fun z => ?_) (fun z => ?_)
        · rw [decide_eq_false (fun y => y z)] at hp; exact hp
        · rw [decide_eq_true z] at hp; exact hp
      · rw [e4]
        refine And.intro (vp_in_nI (by omega) (by decide)) (And.intro (vp_in_nI h (by decide)) ?_)
        obtain ⟨w1, w2⟩ := hw u h
        rw [nI_clamp (show u < 2 ^ 31 by omega), nI_clamp (show 4 * b + u < 2 ^ 31 by omega), w2]
        exact zy_len (by omega) (nm_r rfl (nm_r (nI_1 u) (ih (u + 1) (by omega) (by omega))))
  exact ⟨4, key 4 0 (by omega) (by omega)⟩
theorem zy_solves {post : Int32 → Prop} (hnb : nb ≤ 3) (D : zd_ok b_patterns b_signs b_signCounts nd) (Ps : zy_Ps b_sizes b_empties b_firsts b_lasts b_letters b_behinds b_steps pats) (hw : ∀ u, u < 3 → w u < 15 ∧ b_tried u = nI (w u))
    (hp : post (zb_i (zd_sol pats b_patterns b_kepts b_signs b_signCounts b_bounds nd nb w))) : wpY_solves post (g_depth, g_termLength, nI nd, nI nb, g_known, g_found, g_least, b_sizes, b_empties, b_firsts, b_lasts, b_letters, b_behinds, b_steps, b_term, b_patterns, b_kepts, b_signs, b_signCounts, b_bounds, b_firstWords, b_sums, b_met, b_tried, b_seen, b_apart, b_counts, b_next) := by
  have hnd := D.1
  unfold zd_sol at hp
  have k28 : za (zd_b b_bounds w) nb = true → ∀ n i, i ≤ nd → nd < n + i → za (zd_k pats b_patterns b_kepts b_signs b_signCounts w) i = true → wY_solves_28 post g_depth g_termLength (nI nd) (nI nb) g_known g_found g_least b_sizes b_empties b_firsts b_lasts b_letters b_behinds b_steps b_term b_patterns b_kepts b_signs b_signCounts b_bounds b_firstWords b_sums b_met b_tried b_seen b_apart b_counts b_next n (nI i) := by
    intro hb n
    induction n with
    | zero => intro i h1 h2; omega
    | succ n ih =>
      intro i h1 h2 ha
      rw [wY_solves_28]
      refine pk_le nd i (fun h => ?_) (fun h => ?_)
      · have e : i = nd := by omega
        rw [e] at ha
        rw [hb, ha] at hp; exact hp
      · refine zy_kept h D Ps hw ?_
        cases ek : zd_k pats b_patterns b_kepts b_signs b_signCounts w i with
        | false =>
          rw [za_f h ek, Bool.and_false] at hp
          exact br_t rfl hp
        | true =>
          refine br_f zb_10 (nm_r (nI_1 i) (ih (i + 1) (by omega) (by omega) ?_))
          show (za _ i && _) = true
          rw [ha, ek]; rfl
  have k2 : ∀ n b, b ≤ nb → nb < n + b → za (zd_b b_bounds w) b = true → wY_solves_2 post g_depth g_termLength (nI nd) (nI nb) g_known g_found g_least b_sizes b_empties b_firsts b_lasts b_letters b_behinds b_steps b_term b_patterns b_kepts b_signs b_signCounts b_bounds b_firstWords b_sums b_met b_tried b_seen b_apart b_counts b_next n (nI b) := by
    intro n
    induction n with
    | zero => intro i h1 h2; omega
    | succ n ih =>
      intro b h1 h2 ha
      rw [wY_solves_2]
      refine pk_le nb b (fun h => ?_) (fun h => ?_)
      · have e : b = nb := by omega
        rw [e] at ha
        exact ⟨nd + 1, k28 ha (nd + 1) 0 (by omega) (by omega) rfl⟩
      · refine zy_bnd (by omega) hw ?_
        cases ek : zd_b b_bounds w b with
        | false =>
          rw [za_f h ek, Bool.false_and] at hp
          exact br_t rfl hp
        | true =>
          refine br_f zb_10 (nm_r (nI_1 b) (ih (b + 1) (by omega) (by omega) ?_))
          show (za _ b && _) = true
          rw [ha, ek]; rfl
  exact ⟨nb + 1, k2 (nb + 1) 0 (by omega) (by omega) rfl⟩
end
end
section
/-! what is noted of solutions, after the first n tries -/
/-- digits -/
def zd_w (K n u : Nat) : Nat := if u = 0 then n / (K * K) else if u = 1 then n / K % K else n % K
theorem zd_w0 (K n : Nat) : zd_w K n 0 = n / (K * K) := rfl
theorem zd_w1 (K n : Nat) : zd_w K n 1 = n / K % K := rfl
theorem zd_w2 (K n : Nat) : zd_w K n 2 = n % K := rfl
theorem zd_wl {K n u : Nat} (h : n < K * K * K) : zd_w K n u < K := by
  obtain ⟨a, b, c⟩ := zd_und h
  unfold zd_w
  by_cases z : u = 0
  · rw [if_pos z]; exact a
  · rw [if_neg z]
    by_cases y : u = 1
    · rw [if_pos y]; exact b
    · rw [if_neg y]; exact c
theorem zu3 {p : Nat → Prop} (h0 : p 0) (h1 : p 1) (h2 : p 2) : ∀ u, u < 3 → p u := by
  intro u hu
  rcases (show u = 0 ∨ u = 1 ∨ u = 2 by omega) with e | e | e <;> rw [e] <;> assumption
def zv_N (so : Nat → Bool) (sm cn : Nat → Nat) (n : Nat) (cnt : Int32) (sums : Nat → Int32) : Prop :=
  cnt = nI (zn (fun y => if so y then cn y else 0) n) ∧ ∀ s, s < 10 → sums s = nI (zn (fun y => if so y && sm y == s then cn y else 0) n)
def zv_O (so : Nat → Bool) (dg : Nat → Nat → Nat) (n : Nat) (arr : Nat → Int32) : Prop := ∀ u, u < 3 → arr u = nI (zo (fun y => if so y then 2 ^ dg y u else 0) n)
def zv_F (so : Nat → Bool) (sm code : Nat → Nat) (wd : Nat → Nat → Nat) (none : Int32) (n : Nat) (least : Int32) (fw : Nat → Int32) : Prop :=
  (least = none ∧ ∀ y, y < n → so y = false) ∨ ∃ y, y < n ∧ so y = true ∧ least = nI (sm y) ∧ (∀ u, u < 3 → fw u = nI (wd y u)) ∧ ∀ z, z < n → so z = true → sm y < sm z ∨ (sm y = sm z ∧ code y ≤ code z)
section
variable {so : Nat → Bool} {sm cn code : Nat → Nat} {dg wd : Nat → Nat → Nat} {n : Nat} {cnt least none : Int32} {sums arr fw : Nat → Int32}
theorem zv_N0 (h : ∀ s, s < 10 → sums s = 0) : zv_N so sm cn 0 0 sums := ⟨rfl, fun s hs => h s hs⟩
theorem zv_Ns (hs : so n = false) (h : zv_N so sm cn n cnt sums) : zv_N so sm cn (n + 1) cnt sums := by
  refine ⟨?_, fun s h10 => ?_⟩
  · rw [h.1]
    show _ = nI (_ + (if so n then cn n else 0))
    rw [hs, if_neg (by decide), Nat.add_zero]
  · rw [h.2 s h10]
    show _ = nI (_ + (if so n && sm n == s then cn n else 0))
    rw [hs, Bool.false_and, if_neg (by decide), Nat.add_zero]
theorem zv_Nt (hs : so n = true) (h : zv_N so sm cn n cnt sums) : zv_N so sm cn (n + 1) (cnt + nI (cn n)) (upd sums (sm n) (sums (sm n) + nI (cn n))) := by
  refine ⟨?_, fun s h10 => ?_⟩
  · rw [h.1, nI_add]
    show _ = nI (_ + (if so n then cn n else 0))
    rw [hs, if_pos rfl]
  · show _ = nI (_ + (if so n && sm n == s then cn n else 0))
    by_cases z : s = sm n
    · subst z
      rw [pk_us, h.2 _ h10, nI_add, hs, beq_self_eq_true, Bool.true_and, if_pos rfl]
    · rw [pk_un z, h.2 s h10, hs, Bool.true_and, if_neg (by rw [beq_iff_eq]; exact fun y => z y.symm), Nat.add_zero]
theorem zv_O0 (h : ∀ u, u < 3 → arr u = 0) : zv_O so dg 0 arr := fun u hu => h u hu
theorem zv_Os (hs : so n = false) (h : zv_O so dg n arr) : zv_O so dg (n + 1) arr := fun u hu => by
  rw [h u hu]
  show _ = nI (_ ||| (if so n then 2 ^ dg n u else 0))
  rw [hs, if_neg (by decide), Nat.or_zero]
theorem zv_Ot {arr' : Nat → Int32} (hs : so n = true) (h : zv_O so dg n arr) (h' : ∀ u, u < 3 → arr' u = arr u ||| nI (2 ^ dg n u)) : zv_O so dg (n + 1) arr' := fun u hu => by
  rw [h' u hu, h u hu, zb_or]
  show _ = nI (_ ||| (if so n then 2 ^ dg n u else 0))
  rw [hs, if_pos rfl]
theorem zv_F0 : zv_F so sm code wd none 0 none fw := Or.inl ⟨rfl, fun y h => absurd h (Nat.not_lt_zero y)⟩
theorem zv_Fs (hs : so n = false) (h : zv_F so sm code wd none n least fw) : zv_F so sm code wd none (n + 1) least fw := by
  rcases h with ⟨a, b⟩ | ⟨y, a, b, c, d, e⟩
  · refine Or.inl ⟨a, fun y hy => ?_⟩
    by_cases z : y = n
    · rw [z]; exact hs
    · exact b y (by omega)
  · refine Or.inr ⟨y, by omega, b, c, d, fun z hz hb => ?_⟩
    by_cases q : z = n
    · rw [q, hs] at hb; exact absurd hb (by decide)
    · exact e z (by omega) hb
/-- the try is the new first one -/
theorem zv_Ft1 {fw' : Nat → Int32} (hs : so n = true) (h : zv_F so sm code wd none n least fw) (hf : ∀ y, y < n → so y = true → least = nI (sm y) → (∀ u, u < 3 → fw u = nI (wd y u)) → sm n < sm y ∨ (sm n = sm y ∧ code n ≤ code y)) (h' : ∀ u, u < 3 → fw' u = nI (wd n u)) : zv_F so sm code wd none (n + 1) (nI (sm n)) fw' := by
  refine Or.inr ⟨n, by omega, hs, rfl, h', fun z hz hb => ?_⟩
  by_cases q : z = n
  · rw [q]; exact Or.inr ⟨rfl, Nat.le_refl _⟩
  · rcases h with ⟨a, b⟩ | ⟨y, a, b, c, d, e⟩
    · rw [b z (by omega)] at hb; exact absurd hb (by decide)
    · have h1 := hf y a b c d
      have h2 := e z (by omega) hb
      omega
/-- it isn't -/
theorem zv_Ft0 (hs : so n = true) (h : zv_F so sm code wd none n least fw) (hn : ¬ least = none) (hf : ∀ y, y < n → so y = true → least = nI (sm y) → (∀ u, u < 3 → fw u = nI (wd y u)) → sm y < sm n ∨ (sm y = sm n ∧ code y ≤ code n)) : zv_F so sm code wd none (n + 1) least fw := by
  rcases h with ⟨a, b⟩ | ⟨y, a, b, c, d, e⟩
  · exact absurd a hn
  · refine Or.inr ⟨y, by omega, b, c, d, fun z hz hb => ?_⟩
    by_cases q : z = n
    · rw [q]; exact hf y a b c d
    · exact e z (by omega) hb
end
theorem zb_2w {w : Nat} (h : w < 31) : (1 : Int32) <<< (nI w &&& 31) = nI (2 ^ w) := by
  have := zb_shl (a := 1) (k := w) (by omega) (by rw [Nat.one_mul]; exact Nat.pow_lt_pow_right (by decide) (by omega))
  rw [Nat.one_mul] at this
  exact this
/-- the sum of three lengths -/
def zw_S (w : Nat → Nat) : Nat := zn (fun u => zw_n (w u)) 3
theorem zw_S9 (w : Nat → Nat) : zw_S w ≤ 9 := by
  have := zn_le (f := fun u => zw_n (w u)) (b := 3) (n := 3) (fun i _ => zw_n3 _)
  unfold zw_S; omega
section
variable {g_depth g_termLength g_demands g_boundCount g_known g_found g_least : Int32} {b_sizes b_empties b_firsts b_lasts b_letters b_behinds b_steps b_term b_patterns b_kepts b_signs b_signCounts b_bounds b_firstWords b_sums b_met b_tried b_seen b_apart b_counts b_next : Nat → Int32}
variable {w : Nat → Nat}
theorem zy_n71 {post : SY → Prop} {S : Nat} {L : Nat} (hS : S < 2 ^ 31) (hL : L < 2 ^ 31) (hw : ∀ u, u < 3 → w u < 15 ∧ b_tried u = nI (w u))
    (K : ∀ fw, (S < L → ∀ u, u < 3 → fw u = nI (w u)) → (¬ S < L → fw = b_firstWords) → post (g_depth, g_termLength, g_demands, g_boundCount, g_known, g_found, nI (if S < L then S else L), b_sizes, b_empties, b_firsts, b_lasts, b_letters, b_behinds, b_steps, b_term, b_patterns, b_kepts, b_signs, b_signCounts, b_bounds, fw, b_sums, b_met, b_tried, b_seen, b_apart, b_counts, b_next)) :
    ∀ n u fw, u ≤ 3 → 3 < n + u → (S < L → ∀ q, q < u → fw q = nI (w q)) → (¬ S < L → fw = b_firstWords) → wY_note_71 post (nI S) g_depth g_termLength g_demands g_boundCount g_known g_found (nI L) n (nI u) b_sizes b_empties b_firsts b_lasts b_letters b_behinds b_steps b_term b_patterns b_kepts b_signs b_signCounts b_bounds fw b_sums b_met b_tried b_seen b_apart b_counts b_next := by
  have fin : ∀ fw, (S < L → ∀ u, u < 3 → fw u = nI (w u)) → (¬ S < L → fw = b_firstWords) → wY_note_102 post (nI S) g_depth g_termLength g_demands g_boundCount g_known g_found (nI L) b_sizes b_empties b_firsts b_lasts b_letters b_behinds b_steps b_term b_patterns b_kepts b_signs b_signCounts b_bounds fw b_sums b_met b_tried b_seen b_apart b_counts b_next := by
    intro fw h1 h2
    have := K fw h1 h2
    rw [wY_note_102]
    refine pk_le L S (fun h => ?_) (fun h => ?_)
    · rw [if_neg (by omega)] at this; exact this
    · rw [if_pos (by omega)] at this; exact this
  intro n
  induction n with
  | zero => intro u fw h1 h2; omega
  | succ n ih =>
    intro u fw h1 h2 h3 h4
    rw [wY_note_71]
    refine pk_le 3 u (fun h => ?_) (fun h => ?_)
    · exact fin fw (fun hl q hq => h3 hl q (by omega)) h4
    · refine pk_le L S (fun g => ?_) (fun g => ?_)
      · exact fin fw (fun hl => absurd hl (by omega)) h4
      · obtain ⟨w1, w2⟩ := hw u h
        refine And.intro (vp_in_nI h (by decide)) (And.intro (vp_in_nI h (by decide)) (nm_e (nm_r (nI_1 u) (ih (u + 1) _ (by omega) (by omega) (fun hl q hq => ?_) (fun hl => absurd g hl)))))
        rw [nI_clamp (show u < 2 ^ 31 by omega)]
        by_cases z : q = u
        · rw [z, pk_us, w2]
        · rw [pk_un z]; exact h3 hl q (by omega)
theorem zy_note {post : SY → Prop} {L : Nat} (hL : L < 2 ^ 31) (hw : ∀ u, u < 3 → w u < 15 ∧ b_tried u = nI (w u))
    (K : ∀ mt fw, (∀ u, u < 3 → mt u = b_met u ||| nI (2 ^ w u)) → (zw_S w < L → ∀ u, u < 3 → fw u = nI (w u)) → (¬ zw_S w < L → fw = b_firstWords) → post (g_depth, g_termLength, g_demands, g_boundCount, g_known, g_found + nI 1, nI (if zw_S w < L then zw_S w else L), b_sizes, b_empties, b_firsts, b_lasts, b_letters, b_behinds, b_steps, b_term, b_patterns, b_kepts, b_signs, b_signCounts, b_bounds, fw, upd b_sums (zw_S w) (b_sums (zw_S w) + nI 1), mt, b_tried, b_seen, b_apart, b_counts, b_next)) :
    wpY_note post (g_depth, g_termLength, g_demands, g_boundCount, g_known, g_found, nI L, b_sizes, b_empties, b_firsts, b_lasts, b_letters, b_behinds, b_steps, b_term, b_patterns, b_kepts, b_signs, b_signCounts, b_bounds, b_firstWords, b_sums, b_met, b_tried, b_seen, b_apart, b_counts, b_next) := by
  have h9 := zw_S9 w
  have key : ∀ n u mt, u ≤ 3 → 3 < n + u → (∀ q, q < 3 → mt q = if q < u then b_met q ||| nI (2 ^ w q) else b_met q) → wY_note_4 post g_depth g_termLength g_demands g_boundCount g_known g_found (nI L) n (nI (zn (fun u => zw_n (w u)) u)) (nI u) b_sizes b_empties b_firsts b_lasts b_letters b_behinds b_steps b_term b_patterns b_kepts b_signs b_signCounts b_bounds b_firstWords b_sums mt b_tried b_seen b_apart b_counts b_next := by
    intro n
    induction n with
    | zero => intro u mt h1 h2; omega
    | succ n ih =>
      intro u mt h1 h2 hm
      rw [wY_note_4]
      refine pk_le 3 u (fun h => ?_) (fun h => ?_)
      · have e : u = 3 := by omega
        subst e
        show ∀ x, x = g_found + 1 → _
        refine nm_e (And.intro (vp_in_nI (n := zw_S w) (by omega) (by decide)) (And.intro (vp_in_nI (n := zw_S w) (by omega) (by decide)) (nm_r (e' := upd b_sums (zw_S w) (b_sums (zw_S w) + nI 1)) ?_ ⟨4, ?_⟩)))
        · have : (nI (zn (fun u => zw_n (w u)) 3)).toNatClampNeg = zw_S w := nI_clamp (by unfold zw_S at h9; omega)
          rw [this]; rfl
        · exact zy_n71 (S := zw_S w) (by omega) hL hw (fun fw g1 g2 => K mt fw (fun q hq => by rw [hm q hq, if_pos hq]) g1 g2) 4 0 b_firstWords (by omega) (by omega) (fun _ q hq => absurd hq (Nat.not_lt_zero q)) (fun _ => rfl)
      · obtain ⟨w1, w2⟩ := hw u h
        have hin : vp_in (nI u) 3 := vp_in_nI h (by decide)
        refine And.intro hin ?_
        rw [nI_clamp (show u < 2 ^ 31 by omega), w2, zb_2w (by omega)]
        refine zy_len (by omega) (nm_r (nI_add _ _) (And.intro hin (And.intro hin (And.intro hin (nm_e (nm_r (nI_1 u) (ih (u + 1) _ (by omega) (by omega) (fun q hq => ?_))))))))
        by_cases z : q = u
        · subst z
          rw [pk_us, if_pos (by omega), hm q hq, if_neg (by omega)]
        · rw [pk_un z, hm q hq]
          by_cases y : q < u
          · rw [if_pos y, if_pos (by omega)]
          · rw [if_neg y, if_neg (by omega)]
  exact ⟨4, key 4 0 b_met (by omega) (by omega) (fun q hq => by rw [if_neg (Nat.not_lt_zero q)])⟩
end
end
section
/-! Y: all triples tried -/
section
variable {g_depth g_termLength g_demands g_boundCount g_known g_found g_least : Int32} {b_sizes b_empties b_firsts b_lasts b_letters b_behinds b_steps b_term b_patterns b_kepts b_signs b_signCounts b_bounds b_firstWords b_sums b_met b_tried b_seen b_apart b_counts b_next : Nat → Int32}
variable {pats : Nat → PT} {nd nb : Nat}
theorem zd_w15 {n : Nat} (hn : n < 3375) : ∀ u, u < 3 → zd_w 15 n u < 15 := fun u _ => zd_wl (K := 15) hn
theorem zy_t62 {post : SY → Prop} {so : Nat → Bool} {sm : Nat → Nat} (hso : ∀ y, so y = zd_sol pats b_patterns b_kepts b_signs b_signCounts b_bounds nd nb (zd_w 15 y)) (hsm : ∀ y, sm y = zw_S (zd_w 15 y)) (hnb : nb ≤ 3) (D : zd_ok b_patterns b_signs b_signCounts nd) (Ps : zy_Ps b_sizes b_empties b_firsts b_lasts b_letters b_behinds b_steps pats)
    (K : ∀ fo le fw su mt tr, zv_N so sm (fun _ => 1) 3375 fo su → zv_O so (zd_w 15) 3375 mt → zv_F so sm id (zd_w 15) 100 3375 le fw → post (g_depth, g_termLength, nI nd, nI nb, 1, fo, le, b_sizes, b_empties, b_firsts, b_lasts, b_letters, b_behinds, b_steps, b_term, b_patterns, b_kepts, b_signs, b_signCounts, b_bounds, fw, su, mt, tr, b_seen, b_apart, b_counts, b_next)) :
    ∀ f n g_found g_least b_firstWords b_sums b_met b_tried, n ≤ 3375 → 3375 < f + n → zv_N so sm (fun _ => 1) n g_found b_sums → zv_O so (zd_w 15) n b_met → zv_F so sm id (zd_w 15) 100 n g_least b_firstWords →
    wY_tryAll_62 post f (nI n) g_depth g_termLength (nI nd) (nI nb) g_known g_found g_least b_sizes b_empties b_firsts b_lasts b_letters b_behinds b_steps b_term b_patterns b_kepts b_signs b_signCounts b_bounds b_firstWords b_sums b_met b_tried b_seen b_apart b_counts b_next := by
  intro f
  induction f with
  | zero => intro n fo le fw su mt tr h1 h2; omega
  | succ f ih =>
    intro n fo le fw su mt tr h1 h2 hN hO hF
    rw [wY_tryAll_62]
    refine pk_le 3375 n (fun h => ?_) (fun h => ?_)
    · have e : n = 3375 := by omega
      subst e
      exact K fo le fw su mt tr hN hO hF
    · have e225 : nI n / 225 = nI (n / 225) := pk_div (d := 225) (by omega) (by decide) (by decide)
      have e15 : nI n / 15 = nI (n / 15) := pk_div (d := 15) (by omega) (by decide) (by decide)
      have r15 : nI n - nI n / 15 * 15 = nI (n % 15) := pk_rem (d := 15) (by omega) (by decide) (by decide)
      have r15' : nI (n / 15) - nI (n / 15) / 15 * 15 = nI (n / 15 % 15) := pk_rem (d := 15) (by omega) (by decide) (by decide)
      rw [r15, e225, e15, r15']
      refine And.intro (by decide) (nm_e (And.intro (by decide) (And.intro (by decide) (nm_e (And.intro (by decide) (nm_e ?_))))))
      have hw : ∀ u, u < 3 → zd_w 15 n u < 15 ∧ upd (upd (upd tr 0 (nI (n / 225))) 1 (nI (n / 15 % 15))) 2 (nI (n % 15)) u = nI (zd_w 15 n u) := by
        refine zu3 ?_ ?_ ?_
        · exact ⟨zd_w15 h 0 (by omega), by rw [pk_un (by decide), pk_un (by decide), pk_us]; rfl⟩
        · exact ⟨zd_w15 h 1 (by omega), by rw [pk_un (by decide), pk_us]; rfl⟩
        · exact ⟨zd_w15 h 2 (by omega), by rw [pk_us]; rfl⟩
      refine zy_solves hnb D Ps hw ?_
      rw [← hso n]
      cases es : so n with
      | false => exact br_t rfl (nm_r (nI_1 n) (ih (n + 1) fo le fw su mt _ (by omega) (by omega) (zv_Ns es hN) (zv_Os es hO) (zv_Fs es hF)))
      | true =>
        refine br_f zb_10 ?_
        have h9 := zw_S9 (zd_w 15 n)
        obtain ⟨L, hL, eL, hcase⟩ : ∃ L, L < 2 ^ 31 ∧ le = nI L ∧ ((L = 100 ∧ ∀ y, y < n → so y = false) ∨ ∃ y, y < n ∧ so y = true ∧ L = sm y) := by
          rcases hF with ⟨a, b⟩ | ⟨y, a, b, c, d, e⟩
          · exact ⟨100, by decide, a, Or.inl ⟨rfl, b⟩⟩
          · have : sm y ≤ 9 := by rw [hsm]; exact zw_S9 _
            exact ⟨sm y, by omega, c, Or.inr ⟨y, a, b, rfl⟩⟩
        subst eL
        refine zy_note hL hw (fun mt' fw' g1 g2 g3 => nm_r (nI_1 n) (ih (n + 1) _ _ fw' _ mt' _ (by omega) (by omega) ?_ ?_ ?_))
        · have := zv_Nt es hN
          rw [hsm n] at this
          exact this
        · exact zv_Ot es hO g1
        · have hlt : ∀ y, sm y < 100 := fun y => by rw [hsm]; have := zw_S9 (zd_w 15 y); omega
          by_cases c : zw_S (zd_w 15 n) < L
          · rw [if_pos c, ← hsm n]
            refine zv_Ft1 es hF (fun y hy hys ey _ => Or.inl ?_) (g2 c)
            have := (nI_eq hL (by have := hlt y; omega)).mp ey
            rw [hsm n, ← this]; exact c
          · rw [if_neg c, g3 c]
            rcases hcase with ⟨q, _⟩ | ⟨y0, hy0, hys0, eL⟩
            · exact absurd (show zw_S (zd_w 15 n) < L by omega) c
            · refine zv_Ft0 es hF ?_ (fun y hy hys ey _ => ?_)
              · intro z
                have := (nI_eq (b := 100) hL (by decide)).mp z
                have := hlt y0
                omega
              · have := (nI_eq hL (by have := hlt y; omega)).mp ey
                have hq := hsm n
                show sm y < sm n ∨ (sm y = sm n ∧ y ≤ n)
                omega
theorem zy_try {post : SY → Prop} {so : Nat → Bool} {sm : Nat → Nat} (hso : ∀ y, so y = zd_sol pats b_patterns b_kepts b_signs b_signCounts b_bounds nd nb (zd_w 15 y)) (hsm : ∀ y, sm y = zw_S (zd_w 15 y)) (hnb : nb ≤ 3) (D : zd_ok b_patterns b_signs b_signCounts nd) (Ps : zy_Ps b_sizes b_empties b_firsts b_lasts b_letters b_behinds b_steps pats)
    (K : ∀ fo le fw su mt tr, zv_N so sm (fun _ => 1) 3375 fo su → zv_O so (zd_w 15) 3375 mt → zv_F so sm id (zd_w 15) 100 3375 le fw → post (g_depth, g_termLength, nI nd, nI nb, 1, fo, le, b_sizes, b_empties, b_firsts, b_lasts, b_letters, b_behinds, b_steps, b_term, b_patterns, b_kepts, b_signs, b_signCounts, b_bounds, fw, su, mt, tr, b_seen, b_apart, b_counts, b_next)) :
    wpY_tryAll post (g_depth, g_termLength, nI nd, nI nb, 0, g_found, g_least, b_sizes, b_empties, b_firsts, b_lasts, b_letters, b_behinds, b_steps, b_term, b_patterns, b_kepts, b_signs, b_signCounts, b_bounds, b_firstWords, b_sums, b_met, b_tried, b_seen, b_apart, b_counts, b_next) := by
  refine br_t rfl ?_
  refine loop_0 (fun n i su => wY_tryAll_21 post g_depth g_termLength (nI nd) (nI nb) 0 0 100 n (nI i) b_sizes b_empties b_firsts b_lasts b_letters b_behinds b_steps b_term b_patterns b_kepts b_signs b_signCounts b_bounds b_firstWords su b_met b_tried b_seen b_apart b_counts b_next) (fun i su => ∀ s, s < i → su s = 0) 10 b_sums (fun s h => absurd h (Nat.not_lt_zero s)) ?_ ?_
  · intro n su h1
    show wY_tryAll_21 post g_depth g_termLength (nI nd) (nI nb) 0 0 100 (n + 1) (nI 10) b_sizes b_empties b_firsts b_lasts b_letters b_behinds b_steps b_term b_patterns b_kepts b_signs b_signCounts b_bounds b_firstWords su b_met b_tried b_seen b_apart b_counts b_next
    rw [wY_tryAll_21]
    refine br_t (by decide) ?_
    refine loop_0 (fun n i mt => wY_tryAll_42 post g_depth g_termLength (nI nd) (nI nb) 0 0 100 n (nI i) b_sizes b_empties b_firsts b_lasts b_letters b_behinds b_steps b_term b_patterns b_kepts b_signs b_signCounts b_bounds b_firstWords su mt b_tried b_seen b_apart b_counts b_next) (fun i mt => ∀ s, s < i → mt s = 0) 3 b_met (fun s h => absurd h (Nat.not_lt_zero s)) ?_ ?_
    · intro n mt h2
      show wY_tryAll_42 post g_depth g_termLength (nI nd) (nI nb) 0 0 100 (n + 1) (nI 3) b_sizes b_empties b_firsts b_lasts b_letters b_behinds b_steps b_term b_patterns b_kepts b_signs b_signCounts b_bounds b_firstWords su mt b_tried b_seen b_apart b_counts b_next
      rw [wY_tryAll_42]
      exact br_t (by decide) ⟨3376, zy_t62 hso hsm hnb D Ps K 3376 0 0 100 b_firstWords su mt b_tried (by omega) (by omega) (zv_N0 h1) (zv_O0 h2) zv_F0⟩
    · intro n i mt hi h2 K'
      show wY_tryAll_42 post g_depth g_termLength (nI nd) (nI nb) 0 0 100 (n + 1) (nI i) b_sizes b_empties b_firsts b_lasts b_letters b_behinds b_steps b_term b_patterns b_kepts b_signs b_signCounts b_bounds b_firstWords su mt b_tried b_seen b_apart b_counts b_next
      rw [wY_tryAll_42]
      refine br_f (nI_ge (b := 3) hi (by decide)) (And.intro (vp_in_nI hi (by decide)) (nm_e (nm_r (nI_1 i) (K' _ ?_))))
      rw [nI_clamp (show i < 2 ^ 31 by omega)]
      intro s hs
      by_cases z : s = i
      · rw [z, pk_us]
      · rw [pk_un z]; exact h2 s (by omega)
  · intro n i su hi h1 K'
    show wY_tryAll_21 post g_depth g_termLength (nI nd) (nI nb) 0 0 100 (n + 1) (nI i) b_sizes b_empties b_firsts b_lasts b_letters b_behinds b_steps b_term b_patterns b_kepts b_signs b_signCounts b_bounds b_firstWords su b_met b_tried b_seen b_apart b_counts b_next
    rw [wY_tryAll_21]
    refine br_f (nI_ge (b := 10) hi (by decide)) (And.intro (vp_in_nI hi (by decide)) (nm_e (nm_r (nI_1 i) (K' _ ?_))))
    rw [nI_clamp (show i < 2 ^ 31 by omega)]
    intro s hs
    by_cases z : s = i
    · rw [z, pk_us]
    · rw [pk_un z]; exact h1 s (by omega)
end
end
section
/-! X: what words do from every state -/
def zx_Ps (a_sizes a_hasEmpty a_firstSet a_lastSet a_takes a_behind : Nat → Int32) (pats : Nat → PT) : Prop := ∀ k, k < 3 → zp_W (pats k) ∧ zx_P a_sizes a_hasEmpty a_firstSet a_lastSet a_takes a_behind k (pats k)
def zx_L (ln lt : Nat → Int32) : Prop := ∀ w, w < 15 → ln w = nI (zw_n w) ∧ lt w = nI (w + 1 - 2 ^ zw_n w)
def zx_A (pats : Nat → PT) (ac : Nat → Int32) (m : Nat) : Prop := ∀ w q, q < 21 → 21 * w + q < m → ∃ a, a < 128 ∧ ac (21 * w + q) = nI a ∧ (q % 7 ≤ zp_n (pats (q / 7)) → a = zu (zw_r (pats (q / 7)) (zw_t (q % 7)) w))
theorem zw_odd : ∀ w, w < 15 → 0 < w → (w + 1 - 2 ^ zw_n w) % 2 = (w + 1) % 2 := by decide
section
variable {f_height f_signs f_demands f_bounds f_isSolved f_kinds f_solutionCount f_leastSum f_found : Int32} {a_sizes a_hasEmpty a_firstSet a_lastSet a_takes a_behind a_sign a_demandSigns a_demandSign a_demandPattern a_demandKept a_factor a_limit a_lengthOf a_lettersOf a_action a_kindWord a_kindCount a_kindOf a_kindAction a_countOfSum a_lengthSet a_kindSet a_firstWord a_foundSet a_numberOf a_stepTo a_group a_nextGroup a_counts a_isPair a_pairQueue a_chosen : Nat → Int32}
variable {pats : Nat → PT}
theorem zx_a42 {post : SX → Prop} {w m : Nat} (hw : w < 15) (h0 : 0 < w) (Ps : zx_Ps a_sizes a_hasEmpty a_firstSet a_lastSet a_takes a_behind pats) (hL : zx_L a_lengthOf a_lettersOf)
    (K : ∀ ac, zx_A pats ac (21 * (w + 1)) → wX_findActions_28 post f_height f_signs f_demands f_bounds f_isSolved f_kinds f_solutionCount f_leastSum f_found m (nI (w + 1)) a_sizes a_hasEmpty a_firstSet a_lastSet a_takes a_behind a_sign a_demandSigns a_demandSign a_demandPattern a_demandKept a_factor a_limit a_lengthOf a_lettersOf ac a_kindWord a_kindCount a_kindOf a_kindAction a_countOfSum a_lengthSet a_kindSet a_firstWord a_foundSet a_numberOf a_stepTo a_group a_nextGroup a_counts a_isPair a_pairQueue a_chosen) :
    ∀ n q a_action, q ≤ 21 → 21 < n + q → zx_A pats a_action (21 * w + q) → wX_findActions_42 post (wX_findActions_28 post f_height f_signs f_demands f_bounds f_isSolved f_kinds f_solutionCount f_leastSum f_found m) (nI w) (nI ((w - 1) / 2)) f_height f_signs f_demands f_bounds f_isSolved f_kinds f_solutionCount f_leastSum f_found n (nI q) a_sizes a_hasEmpty a_firstSet a_lastSet a_takes a_behind a_sign a_demandSigns a_demandSign a_demandPattern a_demandKept a_factor a_limit a_lengthOf a_lettersOf a_action a_kindWord a_kindCount a_kindOf a_kindAction a_countOfSum a_lengthSet a_kindSet a_firstWord a_foundSet a_numberOf a_stepTo a_group a_nextGroup a_counts a_isPair a_pairQueue a_chosen := by
  intro n
  induction n with
  | zero => intro q ac h1 h2; omega
  | succ n ih =>
    intro q ac h1 h2 hA
    rw [wX_findActions_42]
    refine pk_le 21 q (fun h => ?_) (fun h => ?_)
    · have e : q = 21 := by omega
      rw [e] at hA
      exact nm_r (nI_1 w) (K ac hA)
    · have e1 : ∀ y : Nat, (21 : Int32) * nI y + nI q = nI (21 * y + q) := by
        intro y
        show nI 21 * nI y + nI q = _
        rw [pk_mul, nI_add]
      have e7 : nI q / 7 = nI (q / 7) := pk_div (d := 7) (by omega) (by decide) (by decide)
      obtain ⟨a, ha, ea, eg⟩ := hA ((w - 1) / 2) q h (by omega)
      obtain ⟨W, H⟩ := Ps (q / 7) (by omega)
      rw [e1, e1, e7]
      refine And.intro (by decide) (And.intro (vp_in_nI (by omega) (by decide)) (And.intro (vp_in_nI hw (by decide)) ?_))
      rw [nI_clamp (show 21 * ((w - 1) / 2) + q < 2 ^ 31 by omega), ea, nI_clamp (show w < 2 ^ 31 by omega), (hL w hw).2, zb_and1, zw_odd w hw h0, nI_clamp (show 21 * w + q < 2 ^ 31 by omega)]
      refine zx_set (by omega) (by omega) (by omega) W H (And.intro (vp_in_nI (by omega) (by decide)) (nm_e (nm_r (nI_1 q) (ih (q + 1) _ (by omega) (by omega) ?_))))
      intro w' q' hq' hlt
      by_cases z : 21 * w' + q' = 21 * w + q
      · have r1 : w' = w := by omega
        have r2 : q' = q := by omega
        subst r1 r2
        rw [pk_us]
        refine ⟨_, zx_ss_lt W _ _ _, rfl, fun hg => ?_⟩
        have G : zg (pats (q' / 7)) (zw_r (pats (q' / 7)) (zw_t (q' % 7)) ((w' - 1) / 2)) := zw_g W (zw_tg hg W.1) _
        rw [eg hg, zx_ss_eq W H.2.2.1 (fun p hp => (H.2.2.2.2 p hp).2) G, ← zw_s _ _ _ h0 hw]
      · rw [pk_un z]
        exact hA w' q' hq' (by omega)
theorem zx_a28 {post : SX → Prop} (Ps : zx_Ps a_sizes a_hasEmpty a_firstSet a_lastSet a_takes a_behind pats) (hL : zx_L a_lengthOf a_lettersOf)
    (K : ∀ ac, zx_A pats ac 315 → post (f_height, f_signs, f_demands, f_bounds, f_isSolved, f_kinds, f_solutionCount, f_leastSum, f_found, a_sizes, a_hasEmpty, a_firstSet, a_lastSet, a_takes, a_behind, a_sign, a_demandSigns, a_demandSign, a_demandPattern, a_demandKept, a_factor, a_limit, a_lengthOf, a_lettersOf, ac, a_kindWord, a_kindCount, a_kindOf, a_kindAction, a_countOfSum, a_lengthSet, a_kindSet, a_firstWord, a_foundSet, a_numberOf, a_stepTo, a_group, a_nextGroup, a_counts, a_isPair, a_pairQueue, a_chosen)) :
    ∀ n w a_action, w ≤ 15 → 15 < n + w → 0 < w → zx_A pats a_action (21 * w) → wX_findActions_28 post f_height f_signs f_demands f_bounds f_isSolved f_kinds f_solutionCount f_leastSum f_found n (nI w) a_sizes a_hasEmpty a_firstSet a_lastSet a_takes a_behind a_sign a_demandSigns a_demandSign a_demandPattern a_demandKept a_factor a_limit a_lengthOf a_lettersOf a_action a_kindWord a_kindCount a_kindOf a_kindAction a_countOfSum a_lengthSet a_kindSet a_firstWord a_foundSet a_numberOf a_stepTo a_group a_nextGroup a_counts a_isPair a_pairQueue a_chosen := by
  intro n
  induction n with
  | zero => intro w ac h1 h2; omega
  | succ n ih =>
    intro w ac h1 h2 h0 hA
    rw [wX_findActions_28]
    refine pk_le 15 w (fun h => ?_) (fun h => ?_)
    · have e : w = 15 := by omega
      rw [e] at hA
      exact K ac hA
    · refine nm_r (e' := nI ((w - 1) / 2)) ?_ ⟨22, zx_a42 h h0 Ps hL (fun ac' hA' => ih (w + 1) ac' (by omega) (by omega) (by omega) hA') 22 0 ac (by omega) (by omega) hA⟩
      rw [show nI w - 1 = nI (w - 1) from pk_sub (b := 1) (by omega), zb_shr1 (by omega)]
theorem zx_act {post : SX → Prop} (Ps : zx_Ps a_sizes a_hasEmpty a_firstSet a_lastSet a_takes a_behind pats) (hL : zx_L a_lengthOf a_lettersOf)
    (K : ∀ ac, zx_A pats ac 315 → post (f_height, f_signs, f_demands, f_bounds, f_isSolved, f_kinds, f_solutionCount, f_leastSum, f_found, a_sizes, a_hasEmpty, a_firstSet, a_lastSet, a_takes, a_behind, a_sign, a_demandSigns, a_demandSign, a_demandPattern, a_demandKept, a_factor, a_limit, a_lengthOf, a_lettersOf, ac, a_kindWord, a_kindCount, a_kindOf, a_kindAction, a_countOfSum, a_lengthSet, a_kindSet, a_firstWord, a_foundSet, a_numberOf, a_stepTo, a_group, a_nextGroup, a_counts, a_isPair, a_pairQueue, a_chosen)) : wpX_findActions post (f_height, f_signs, f_demands, f_bounds, f_isSolved, f_kinds, f_solutionCount, f_leastSum, f_found, a_sizes, a_hasEmpty, a_firstSet, a_lastSet, a_takes, a_behind, a_sign, a_demandSigns, a_demandSign, a_demandPattern, a_demandKept, a_factor, a_limit, a_lengthOf, a_lettersOf, a_action, a_kindWord, a_kindCount, a_kindOf, a_kindAction, a_countOfSum, a_lengthSet, a_kindSet, a_firstWord, a_foundSet, a_numberOf, a_stepTo, a_group, a_nextGroup, a_counts, a_isPair, a_pairQueue, a_chosen) := by
  refine loop_0 (fun n i ac => wX_findActions_2 post f_height f_signs f_demands f_bounds f_isSolved f_kinds f_solutionCount f_leastSum f_found n (nI i) a_sizes a_hasEmpty a_firstSet a_lastSet a_takes a_behind a_sign a_demandSigns a_demandSign a_demandPattern a_demandKept a_factor a_limit a_lengthOf a_lettersOf ac a_kindWord a_kindCount a_kindOf a_kindAction a_countOfSum a_lengthSet a_kindSet a_firstWord a_foundSet a_numberOf a_stepTo a_group a_nextGroup a_counts a_isPair a_pairQueue a_chosen) (fun i ac => zx_A pats ac i) 21 a_action (fun w q _ h => absurd h (Nat.not_lt_zero _)) ?_ ?_
  · intro n ac hA
    show wX_findActions_2 post f_height f_signs f_demands f_bounds f_isSolved f_kinds f_solutionCount f_leastSum f_found (n + 1) (nI 21) a_sizes a_hasEmpty a_firstSet a_lastSet a_takes a_behind a_sign a_demandSigns a_demandSign a_demandPattern a_demandKept a_factor a_limit a_lengthOf a_lettersOf ac a_kindWord a_kindCount a_kindOf a_kindAction a_countOfSum a_lengthSet a_kindSet a_firstWord a_foundSet a_numberOf a_stepTo a_group a_nextGroup a_counts a_isPair a_pairQueue a_chosen
    rw [wX_findActions_2]
    exact br_t (by decide) ⟨16, zx_a28 Ps hL K 16 1 ac (by omega) (by omega) (by omega) hA⟩
  · intro n i ac hi hA K'
    show wX_findActions_2 post f_height f_signs f_demands f_bounds f_isSolved f_kinds f_solutionCount f_leastSum f_found (n + 1) (nI i) a_sizes a_hasEmpty a_firstSet a_lastSet a_takes a_behind a_sign a_demandSigns a_demandSign a_demandPattern a_demandKept a_factor a_limit a_lengthOf a_lettersOf ac a_kindWord a_kindCount a_kindOf a_kindAction a_countOfSum a_lengthSet a_kindSet a_firstWord a_foundSet a_numberOf a_stepTo a_group a_nextGroup a_counts a_isPair a_pairQueue a_chosen
    rw [wX_findActions_2]
    try dsimp only
    have e7 : nI i - nI i / 7 * 7 = nI (i % 7) := pk_rem (d := 7) (by omega) (by decide) (by decide)
    rw [e7, zb_2w (show i % 7 < 31 by omega), nI_clamp (show i < 2 ^ 31 by omega)]
    refine br_f (nI_ge (b := 21) hi (by decide)) (And.intro (by decide) (And.intro (vp_in_nI (by omega) (by decide)) (nm_e (nm_r (nI_1 i) (K' _ ?_)))))
    intro w q hq hlt
    by_cases z : 21 * w + q = i
    · have r1 : w = 0 := by omega
      have r2 : q = i := by omega
      subst r1 r2
      rw [z, pk_us]
      have hl : q % 7 < 7 := by omega
      have h2 : 2 ^ (q % 7) < 2 ^ 7 := Nat.pow_lt_pow_right (by decide) hl
      exact ⟨2 ^ (q % 7), h2, rfl, fun _ => by rw [zw_0, zw_tu hl]⟩
    · rw [pk_un z]; exact hA w q hq (by omega)
end
end
section
/-! X: kinds of words -/
def zx_K (ac : Nat → Int32) (m K : Nat) (kw ko : Nat → Nat) (kwA kcA kaA : Nat → Int32) : Prop :=
  K ≤ m ∧ (∀ k, k < K → kw k < m ∧ kwA k = nI (kw k) ∧ kcA k = nI (zkc ko m k) ∧ ko (kw k) = k ∧ ∀ q, q < 21 → kaA (21 * k + q) = ac (21 * kw k + q)) ∧
  ∀ w, w < m → ko w < K ∧ kw (ko w) ≤ w ∧ zw_n (kw (ko w)) = zw_n w ∧ ∀ q, q < 21 → ac (21 * kw (ko w) + q) = ac (21 * w + q)
def zf_u (f : Nat → Nat) (a v : Nat) : Nat → Nat := fun j => if j = a then v else f j
theorem zf_us {f : Nat → Nat} {a v : Nat} : zf_u f a v a = v := if_pos rfl
theorem zf_un {f : Nat → Nat} {a v j : Nat} (h : j ≠ a) : zf_u f a v j = f j := if_neg h
theorem zkc_c {ko ko' : Nat → Nat} {m : Nat} (h : ∀ w, w < m → ko' w = ko w) (k : Nat) : zkc ko' m k = zkc ko m k := zn_congr (fun w hw => by rw [h w hw])
theorem zkc_s (ko : Nat → Nat) (m k : Nat) : zkc ko (m + 1) k = zkc ko m k + (if ko m = k then 1 else 0) := rfl
theorem zkc_0 {ko : Nat → Nat} {m k : Nat} (h : ∀ w, w < m → ko w < k) : zkc ko m k = 0 := zn_0 (fun w hw => if_neg (by have := h w hw; omega))
section
variable {f_height f_signs f_demands f_bounds f_isSolved f_kinds f_solutionCount f_leastSum f_found : Int32} {a_sizes a_hasEmpty a_firstSet a_lastSet a_takes a_behind a_sign a_demandSigns a_demandSign a_demandPattern a_demandKept a_factor a_limit a_lengthOf a_lettersOf a_action a_kindWord a_kindCount a_kindOf a_kindAction a_countOfSum a_lengthSet a_kindSet a_firstWord a_foundSet a_numberOf a_stepTo a_group a_nextGroup a_counts a_isPair a_pairQueue a_chosen : Nat → Int32}
/-- whether a word does as a kind -/
def zx_ds (ac ka : Nat → Int32) (w k : Nat) : Nat → Bool := za (fun q => decide (ac (21 * w + q) = ka (21 * k + q)))
theorem zx_d29 {post : Int32 → Prop} {w k : Nat} {b0 : Bool} (hw : w < 15) (hk : k < 15) (hp : post (zb_i (b0 && zx_ds a_action a_kindAction w k 21))) :
    ∀ n q, q ≤ 21 → 21 < n + q → wX_doesSame_29 post (nI w) (nI k) f_height f_signs f_demands f_bounds f_isSolved f_kinds f_solutionCount f_leastSum f_found a_sizes a_hasEmpty a_firstSet a_lastSet a_takes a_behind a_sign a_demandSigns a_demandSign a_demandPattern a_demandKept a_factor a_limit a_lengthOf a_lettersOf a_action a_kindWord a_kindCount a_kindOf a_kindAction a_countOfSum a_lengthSet a_kindSet a_firstWord a_foundSet a_numberOf a_stepTo a_group a_nextGroup a_counts a_isPair a_pairQueue a_chosen n (zb_i (b0 && zx_ds a_action a_kindAction w k q)) (nI q) := by
  intro n
  induction n with
  | zero => intro q h1 h2; omega
  | succ n ih =>
    intro q h1 h2
    rw [wX_doesSame_29]
    refine pk_le 21 q (fun h => ?_) (fun h => ?_)
    · have e : q = 21 := by omega
      rw [e]
      exact And.intro (zb_in _) hp
    · cases eb : (b0 && zx_ds a_action a_kindAction w k q) with
      | false =>
        refine br_t rfl (And.intro (zb_in false) ?_)
        have : (b0 && zx_ds a_action a_kindAction w k 21) = false := by
          cases b0 with
          | false => rfl
          | true =>
            rw [Bool.true_and] at eb ⊢
            cases e2 : zx_ds a_action a_kindAction w k 21 with
            | false => rfl
            | true =>
              have := za_t.mp e2
              rw [show zx_ds a_action a_kindAction w k q = true from za_t.mpr (fun i hi => this i (by omega))] at eb
              exact absurd eb (by decide)
        rw [this] at hp
        exact hp
      | true =>
        have e1 : ∀ y : Nat, (21 : Int32) * nI y + nI q = nI (21 * y + q) := by
          intro y
          show nI 21 * nI y + nI q = _
          rw [pk_mul, nI_add]
        have ih' := ih (q + 1) (by omega) (by omega)
        have e2 : (b0 && zx_ds a_action a_kindAction w k (q + 1)) = decide (a_action (21 * w + q) = a_kindAction (21 * k + q)) := by
          show (b0 && (zx_ds a_action a_kindAction w k q && decide (a_action (21 * w + q) = a_kindAction (21 * k + q)))) = _
          rw [← Bool.and_assoc, eb, Bool.true_and]
        rw [e2] at ih'
        rw [e1, e1, nI_clamp (show 21 * w + q < 2 ^ 31 by omega), nI_clamp (show 21 * k + q < 2 ^ 31 by omega)]
        refine br_f zb_10 (And.intro (vp_in_nI (by omega) (by decide)) (And.intro (vp_in_nI (by omega) (by decide)) (br_c (fun z => ?_) (fun z => ?_))))
        · rw [decide_eq_true z] at ih'; exact nm_r (nI_1 q) ih'
        · rw [decide_eq_false z] at ih'; exact nm_r (nI_1 q) ih'
theorem zx_does {post : Int32 → Prop} {w k wk : Nat} (hw : w < 15) (hk : k < 15) (hwk : wk < 15) (ekw : a_kindWord k = nI wk) (hL : zx_L a_lengthOf a_lettersOf) (hp : post (zb_i (decide (zw_n w = zw_n wk) && zx_ds a_action a_kindAction w k 21))) :
    wpX_doesSame post (f_height, f_signs, f_demands, f_bounds, f_isSolved, f_kinds, f_solutionCount, f_leastSum, f_found, a_sizes, a_hasEmpty, a_firstSet, a_lastSet, a_takes, a_behind, a_sign, a_demandSigns, a_demandSign, a_demandPattern, a_demandKept, a_factor, a_limit, a_lengthOf, a_lettersOf, a_action, a_kindWord, a_kindCount, a_kindOf, a_kindAction, a_countOfSum, a_lengthSet, a_kindSet, a_firstWord, a_foundSet, a_numberOf, a_stepTo, a_group, a_nextGroup, a_counts, a_isPair, a_pairQueue, a_chosen) (nI w) (nI k) := by
  have h3 := zw_n3 w
  have h3' := zw_n3 wk
  refine And.intro (vp_in_nI hw (by decide)) (And.intro (vp_in_nI hk (by decide)) ?_)
  rw [nI_clamp (show k < 2 ^ 31 by omega), ekw, nI_clamp (show w < 2 ^ 31 by omega), nI_clamp (show wk < 2 ^ 31 by omega), (hL w hw).1, (hL wk hwk).1]
  refine And.intro (vp_in_nI hwk (by decide)) (pk_eq (zw_n w) (zw_n wk) (fun z => ⟨22, ?_⟩) (fun z => ⟨22, ?_⟩))
  · rw [decide_eq_true z] at hp
    exact zx_d29 (b0 := true) hw hk hp 22 0 (by omega) (by omega)
  · rw [decide_eq_false z] at hp
    exact zx_d29 (b0 := false) hw hk hp 22 0 (by omega) (by omega)
/-- a word put to kind q -/
theorem zx_k115 {post : SX → Prop} {m n K q : Nat} (hm : m < 15) (hq : q < 15) {c : Nat} (hc : a_kindCount q = nI c)
    (G : ∀ kof, wX_findKinds_11 post f_height f_signs f_demands f_bounds f_isSolved f_solutionCount f_leastSum f_found n (nI (m + 1)) (nI K) a_sizes a_hasEmpty a_firstSet a_lastSet a_takes a_behind a_sign a_demandSigns a_demandSign a_demandPattern a_demandKept a_factor a_limit a_lengthOf a_lettersOf a_action a_kindWord (upd a_kindCount q (nI (c + 1))) kof a_kindAction a_countOfSum a_lengthSet a_kindSet a_firstWord a_foundSet a_numberOf a_stepTo a_group a_nextGroup a_counts a_isPair a_pairQueue a_chosen) :
    wX_findKinds_115 post (wX_findKinds_11 post f_height f_signs f_demands f_bounds f_isSolved f_solutionCount f_leastSum f_found n) (nI m) (nI q) f_height f_signs f_demands f_bounds f_isSolved (nI K) f_solutionCount f_leastSum f_found a_sizes a_hasEmpty a_firstSet a_lastSet a_takes a_behind a_sign a_demandSigns a_demandSign a_demandPattern a_demandKept a_factor a_limit a_lengthOf a_lettersOf a_action a_kindWord a_kindCount a_kindOf a_kindAction a_countOfSum a_lengthSet a_kindSet a_firstWord a_foundSet a_numberOf a_stepTo a_group a_nextGroup a_counts a_isPair a_pairQueue a_chosen := by
  rw [wX_findKinds_115]
  refine And.intro (vp_in_nI hm (by decide)) (nm_e (And.intro (vp_in_nI hq (by decide)) (And.intro (vp_in_nI hq (by decide)) (nm_r (e' := upd a_kindCount q (nI (c + 1))) ?_ (nm_r (nI_1 m) (G _))))))
  rw [nI_clamp (show q < 2 ^ 31 by omega), hc, nI_1]
theorem zx_k21 {post : SX → Prop} {m n K : Nat} {kw ko : Nat → Nat} (hm : m < 15) (hL : zx_L a_lengthOf a_lettersOf) (hK : zx_K a_action m K kw ko a_kindWord a_kindCount a_kindAction)
    (G : ∀ K' kw' ko' kwA kcA kof kaA, zx_K a_action (m + 1) K' kw' ko' kwA kcA kaA → wX_findKinds_11 post f_height f_signs f_demands f_bounds f_isSolved f_solutionCount f_leastSum f_found n (nI (m + 1)) (nI K') a_sizes a_hasEmpty a_firstSet a_lastSet a_takes a_behind a_sign a_demandSigns a_demandSign a_demandPattern a_demandKept a_factor a_limit a_lengthOf a_lettersOf a_action kwA kcA kof kaA a_countOfSum a_lengthSet a_kindSet a_firstWord a_foundSet a_numberOf a_stepTo a_group a_nextGroup a_counts a_isPair a_pairQueue a_chosen) :
    ∀ f i, i ≤ K → K < f + i → wX_findKinds_21 post (wX_findKinds_11 post f_height f_signs f_demands f_bounds f_isSolved f_solutionCount f_leastSum f_found n) (nI m) f_height f_signs f_demands f_bounds f_isSolved (nI K) f_solutionCount f_leastSum f_found a_sizes a_hasEmpty a_firstSet a_lastSet a_takes a_behind a_sign a_demandSigns a_demandSign a_demandPattern a_demandKept a_factor a_limit a_lengthOf a_lettersOf a_action a_kindWord a_kindCount a_kindOf a_kindAction a_countOfSum a_lengthSet a_kindSet a_firstWord a_foundSet a_numberOf a_stepTo a_group a_nextGroup a_counts a_isPair a_pairQueue a_chosen f (nI i) (nI i) := by
  obtain ⟨k1, k2, k3⟩ := hK
  intro f
  induction f with
  | zero => intro i h1 h2; omega
  | succ f ih =>
    intro i h1 h2
    rw [wX_findKinds_21]
    refine pk_le K i (fun h => ?_) (fun h => ?_)
    · -- a new kind
      have e : i = K := by omega
      subst e
      rw [wX_findKinds_47]
      refine br_t rfl (And.intro (vp_in_nI (by omega) (by decide)) (nm_e (And.intro (vp_in_nI (by omega) (by decide)) (nm_e ?_))))
      rw [nI_clamp (show i < 2 ^ 31 by omega)]
      refine loop_0 (fun n' q ka => wX_findKinds_71 post (wX_findKinds_11 post f_height f_signs f_demands f_bounds f_isSolved f_solutionCount f_leastSum f_found n) (nI m) (nI i) f_height f_signs f_demands f_bounds f_isSolved (nI i) f_solutionCount f_leastSum f_found n' (nI q) a_sizes a_hasEmpty a_firstSet a_lastSet a_takes a_behind a_sign a_demandSigns a_demandSign a_demandPattern a_demandKept a_factor a_limit a_lengthOf a_lettersOf a_action (upd a_kindWord i (nI m)) (upd a_kindCount i 0) a_kindOf ka a_countOfSum a_lengthSet a_kindSet a_firstWord a_foundSet a_numberOf a_stepTo a_group a_nextGroup a_counts a_isPair a_pairQueue a_chosen) (fun q ka => (∀ x, x < 21 * i → ka x = a_kindAction x) ∧ ∀ r, r < q → ka (21 * i + r) = a_action (21 * m + r)) 21 a_kindAction ⟨fun _ _ => rfl, fun r h => absurd h (Nat.not_lt_zero r)⟩ ?_ ?_
      · rintro n' ka ⟨g1, g2⟩
        show wX_findKinds_71 post (wX_findKinds_11 post f_height f_signs f_demands f_bounds f_isSolved f_solutionCount f_leastSum f_found n) (nI m) (nI i) f_height f_signs f_demands f_bounds f_isSolved (nI i) f_solutionCount f_leastSum f_found (n' + 1) (nI 21) a_sizes a_hasEmpty a_firstSet a_lastSet a_takes a_behind a_sign a_demandSigns a_demandSign a_demandPattern a_demandKept a_factor a_limit a_lengthOf a_lettersOf a_action (upd a_kindWord i (nI m)) (upd a_kindCount i 0) a_kindOf ka a_countOfSum a_lengthSet a_kindSet a_firstWord a_foundSet a_numberOf a_stepTo a_group a_nextGroup a_counts a_isPair a_pairQueue a_chosen
        rw [wX_findKinds_71]
        refine br_t (by decide) (nm_r (nI_1 i) (zx_k115 (c := 0) hm (by omega) pk_us (fun kof => ?_)))
        refine G (i + 1) (zf_u kw i m) (zf_u ko m i) _ _ kof ka ⟨by omega, ?_, ?_⟩
        · intro k hk
          have hcc : zkc (zf_u ko m i) (m + 1) k = zkc ko m k + (if i = k then 1 else 0) := by
            rw [zkc_s, zkc_c (ko := ko) (fun w hw => zf_un (by omega)), zf_us]
          by_cases z : k = i
          · subst z
            rw [zf_us, pk_us, pk_us, hcc, if_pos rfl, zkc_0 (fun w hw => (k3 w hw).1), zf_us]
            exact ⟨by omega, rfl, rfl, rfl, g2⟩
          · obtain ⟨a, b, c, d, e⟩ := k2 k (by omega)
            rw [zf_un z, pk_un z, pk_un z, pk_un z, hcc, if_neg (fun y => z y.symm), Nat.add_zero, zf_un (by omega)]
            refine ⟨by omega, b, c, d, fun q hq => ?_⟩
            rw [g1 _ (by omega)]; exact e q hq
        · intro w hw
          by_cases z : w = m
          · rw [z, zf_us, zf_us]
            exact ⟨by omega, Nat.le_refl _, rfl, fun _ _ => rfl⟩
          · obtain ⟨a, b, c, d⟩ := k3 w (by omega)
            rw [zf_un z, zf_un (by omega)]
            exact ⟨by omega, b, c, d⟩
      · rintro n' q ka hq ⟨g1, g2⟩ K'
        show wX_findKinds_71 post (wX_findKinds_11 post f_height f_signs f_demands f_bounds f_isSolved f_solutionCount f_leastSum f_found n) (nI m) (nI i) f_height f_signs f_demands f_bounds f_isSolved (nI i) f_solutionCount f_leastSum f_found (n' + 1) (nI q) a_sizes a_hasEmpty a_firstSet a_lastSet a_takes a_behind a_sign a_demandSigns a_demandSign a_demandPattern a_demandKept a_factor a_limit a_lengthOf a_lettersOf a_action (upd a_kindWord i (nI m)) (upd a_kindCount i 0) a_kindOf ka a_countOfSum a_lengthSet a_kindSet a_firstWord a_foundSet a_numberOf a_stepTo a_group a_nextGroup a_counts a_isPair a_pairQueue a_chosen
        have e1 : ∀ y : Nat, (21 : Int32) * nI y + nI q = nI (21 * y + q) := by
          intro y
          show nI 21 * nI y + nI q = _
          rw [pk_mul, nI_add]
        rw [wX_findKinds_71]
        try dsimp only
        rw [e1, e1, nI_clamp (show 21 * i + q < 2 ^ 31 by omega), nI_clamp (show 21 * m + q < 2 ^ 31 by omega)]
        refine br_f (nI_ge (b := 21) hq (by decide)) (And.intro (vp_in_nI (by omega) (by decide)) (And.intro (vp_in_nI (by omega) (by decide)) (nm_e (nm_r (nI_1 q) (K' _ ⟨fun x hx => ?_, fun r hr => ?_⟩)))))
        · rw [pk_un (by omega)]; exact g1 x hx
        · by_cases z : r = q
          · rw [z, pk_us]
          · rw [pk_un (by omega)]; exact g2 r (by omega)
    · -- kind i asked
      obtain ⟨a, b, c, d, e⟩ := k2 i h
      refine zx_does hm (by omega) (by omega) b hL ?_
      cases es : (decide (zw_n m = zw_n (kw i)) && zx_ds a_action a_kindAction m i 21) with
      | false => exact br_t rfl (nm_r (nI_1 i) (nm_r (nI_1 i) (ih (i + 1) (by omega) (by omega))))
      | true =>
        rw [Bool.and_eq_true, decide_eq_true_iff] at es
        have hall := za_t.mp es.2
        refine br_f zb_10 ?_
        rw [wX_findKinds_47]
        refine br_f (fun z => by have := (nI_eq (by omega) (by omega)).mp z; omega) (zx_k115 hm (by omega) c (fun kof => ?_))
        refine G K kw (zf_u ko m i) _ _ kof _ ⟨by omega, ?_, ?_⟩
        · intro k hk
          have hcc : zkc (zf_u ko m i) (m + 1) k = zkc ko m k + (if i = k then 1 else 0) := by
            rw [zkc_s, zkc_c (ko := ko) (fun w hw => zf_un (by omega)), zf_us]
          obtain ⟨a', b', c', d', e'⟩ := k2 k hk
          rw [hcc, zf_un (by omega)]
          refine ⟨by omega, b', ?_, d', e'⟩
          by_cases z : k = i
          · rw [z, pk_us, if_pos rfl]
          · rw [pk_un z, if_neg (fun y => z y.symm), Nat.add_zero]; exact c'
        · intro w hw
          by_cases z : w = m
          · rw [z, zf_us]
            refine ⟨h, by omega, es.1.symm, fun q hq => ?_⟩
            rw [← e q hq]
            exact (of_decide_eq_true (hall q hq)).symm
          · obtain ⟨a', b', c', d'⟩ := k3 w (by omega)
            rw [zf_un z]
            exact ⟨a', b', c', d'⟩
theorem zx_kinds {post : SX → Prop} {pats : Nat → PT} (Ps : zx_Ps a_sizes a_hasEmpty a_firstSet a_lastSet a_takes a_behind pats) (hL : zx_L a_lengthOf a_lettersOf)
    (G : ∀ ac K kw ko kwA kcA kof kaA, zx_A pats ac 315 → zx_K ac 15 K kw ko kwA kcA kaA → post (f_height, f_signs, f_demands, f_bounds, f_isSolved, nI K, f_solutionCount, f_leastSum, f_found, a_sizes, a_hasEmpty, a_firstSet, a_lastSet, a_takes, a_behind, a_sign, a_demandSigns, a_demandSign, a_demandPattern, a_demandKept, a_factor, a_limit, a_lengthOf, a_lettersOf, ac, kwA, kcA, kof, kaA, a_countOfSum, a_lengthSet, a_kindSet, a_firstWord, a_foundSet, a_numberOf, a_stepTo, a_group, a_nextGroup, a_counts, a_isPair, a_pairQueue, a_chosen)) : wpX_findKinds post (f_height, f_signs, f_demands, f_bounds, f_isSolved, f_kinds, f_solutionCount, f_leastSum, f_found, a_sizes, a_hasEmpty, a_firstSet, a_lastSet, a_takes, a_behind, a_sign, a_demandSigns, a_demandSign, a_demandPattern, a_demandKept, a_factor, a_limit, a_lengthOf, a_lettersOf, a_action, a_kindWord, a_kindCount, a_kindOf, a_kindAction, a_countOfSum, a_lengthSet, a_kindSet, a_firstWord, a_foundSet, a_numberOf, a_stepTo, a_group, a_nextGroup, a_counts, a_isPair, a_pairQueue, a_chosen) := by
  unfold wpX_findKinds
  try dsimp only
  refine zx_act Ps hL (fun ac hA => ⟨16, ?_⟩)
  have key : ∀ n m K kw ko a_kindWord a_kindCount a_kindOf a_kindAction, m ≤ 15 → 15 < n + m → zx_K ac m K kw ko a_kindWord a_kindCount a_kindAction → wX_findKinds_11 post f_height f_signs f_demands f_bounds f_isSolved f_solutionCount f_leastSum f_found n (nI m) (nI K) a_sizes a_hasEmpty a_firstSet a_lastSet a_takes a_behind a_sign a_demandSigns a_demandSign a_demandPattern a_demandKept a_factor a_limit a_lengthOf a_lettersOf ac a_kindWord a_kindCount a_kindOf a_kindAction a_countOfSum a_lengthSet a_kindSet a_firstWord a_foundSet a_numberOf a_stepTo a_group a_nextGroup a_counts a_isPair a_pairQueue a_chosen := by
    intro n
    induction n with
    | zero => intro m K kw ko kwA kcA kof kaA h1 h2; omega
    | succ n ih =>
      intro m K kw ko kwA kcA kof kaA h1 h2 hK
      rw [wX_findKinds_11]
      refine pk_le 15 m (fun h => ?_) (fun h => ?_)
      · have e : m = 15 := by omega
        subst e
        exact G ac K kw ko kwA kcA kof kaA hA hK
      · exact ⟨K + 1, zx_k21 h hL hK (fun K' kw' ko' kwA' kcA' kof' kaA' hK' => ih (m + 1) K' kw' ko' kwA' kcA' kof' kaA' (by omega) (by omega) hK') (K + 1) 0 (by omega) (by omega)⟩
  exact key 16 0 0 (fun _ => 0) (fun _ => 0) _ _ _ _ (by omega) (by omega) ⟨by omega, fun k hk => absurd hk (Nat.not_lt_zero k), fun w hw => absurd hw (Nat.not_lt_zero w)⟩
end
end
section
/-! X: demands and bounds asked of kinds -/
section
variable {f_height f_signs f_demands f_bounds f_isSolved f_kinds f_solutionCount f_leastSum f_found : Int32} {a_sizes a_hasEmpty a_firstSet a_lastSet a_takes a_behind a_sign a_demandSigns a_demandSign a_demandPattern a_demandKept a_factor a_limit a_lengthOf a_lettersOf a_action a_kindWord a_kindCount a_kindOf a_kindAction a_countOfSum a_lengthSet a_kindSet a_firstWord a_foundSet a_numberOf a_stepTo a_group a_nextGroup a_counts a_isPair a_pairQueue a_chosen : Nat → Int32}
variable {pats : Nat → PT} {nd nb K : Nat} {kw ko ch : Nat → Nat}
/-- the chosen kinds -/
def zx_C (K : Nat) (ch : Nat → Nat) (chA : Nat → Int32) : Prop := ∀ u, u < 3 → ch u < K ∧ chA u = nI (ch u)
theorem zx_p37 {post : Int32 → Prop} {k t c : Nat} (hk : k < 3) (hc : c < K) (W : zp_W (pats k)) (G : zg (pats k) t) (hA : zx_A pats a_action 315) (hK : zx_K a_action 15 K kw ko a_kindWord a_kindCount a_kindAction) (hp : post (nI (zu (zw_r (pats k) t (kw c))))) :
    ∀ n s, s ≤ 7 → 7 < n + s → wX_passSign_37 post (nI (zu t)) (nI (21 * c + 7 * k)) f_height f_signs f_demands f_bounds f_isSolved f_kinds f_solutionCount f_leastSum f_found a_sizes a_hasEmpty a_firstSet a_lastSet a_takes a_behind a_sign a_demandSigns a_demandSign a_demandPattern a_demandKept a_factor a_limit a_lengthOf a_lettersOf a_action a_kindWord a_kindCount a_kindOf a_kindAction a_countOfSum a_lengthSet a_kindSet a_firstWord a_foundSet a_numberOf a_stepTo a_group a_nextGroup a_counts a_isPair a_pairQueue a_chosen n (nI (zo (fun s => if (zu t).testBit s then zu (zw_r (pats k) (zw_t s) (kw c)) else 0) s)) (nI s) := by
  have hK15 := hK.1
  have hn := W.1
  have hu := zu_lt G.1
  intro n
  induction n with
  | zero => intro s h1 h2; omega
  | succ n ih =>
    intro s h1 h2
    rw [wX_passSign_37]
    refine pk_le 7 s (fun h => ?_) (fun h => ?_)
    · have e : s = 7 := by omega
      rw [e, zw_lin W G.1]; exact hp
    · have ih' := ih (s + 1) (by omega) (by omega)
      rw [zb_bit (show zu t < 2 ^ 31 by omega) (by omega)]
      refine br_c (fun hb => ?_) (fun hb => ?_)
      · have hs : s ≤ zp_n (pats k) := by
          cases s with
          | zero => omega
          | succ s =>
            rw [zu_bs G.1, Bool.and_eq_true] at hb
            exact G.2 s (of_decide_eq_true hb.1) hb.2
        obtain ⟨a1, a2, a3, a4, a5⟩ := hK.2.1 c hc
        obtain ⟨v, hv, ev, eg⟩ := hA (kw c) (7 * k + s) (by omega) (by omega)
        rw [show (7 * k + s) / 7 = k by omega, show (7 * k + s) % 7 = s by omega] at eg
        rw [nI_add]
        refine And.intro (vp_in_nI (by omega) (by decide)) (nm_r ?_ (nm_r (nI_1 s) ih'))
        rw [nI_clamp (show 21 * c + 7 * k + s < 2 ^ 31 by omega), show 21 * c + 7 * k + s = 21 * c + (7 * k + s) by omega, a5 _ (by omega), ev, eg hs, zb_or]
        show _ = nI (_ ||| (if (zu t).testBit s then zu (zw_r (pats k) (zw_t s) (kw c)) else 0))
        rw [if_pos hb]
      · refine nm_r (nI_1 s) ?_
        have e : zo (fun s => if (zu t).testBit s then zu (zw_r (pats k) (zw_t s) (kw c)) else 0) (s + 1) = zo (fun s => if (zu t).testBit s then zu (zw_r (pats k) (zw_t s) (kw c)) else 0) s := by
          show _ ||| (if (zu t).testBit s then zu (zw_r (pats k) (zw_t s) (kw c)) else 0) = _
          rw [if_neg hb, Nat.or_zero]
        rw [e] at ih'
        exact ih'
theorem zx_pass {post : Int32 → Prop} {k t s : Nat} (hk : k < 3) (hs : s < 5) (W : zp_W (pats k)) (H : zx_P a_sizes a_hasEmpty a_firstSet a_lastSet a_takes a_behind k (pats k)) (G : zg (pats k) t) (hA : zx_A pats a_action 315) (hK : zx_K a_action 15 K kw ko a_kindWord a_kindCount a_kindAction) (hC : zx_C K ch a_chosen)
    (hp : post (nI (zu (if s < 3 then zw_r (pats k) t (kw (ch s)) else zp_d (pats k) t (s - 3))))) :
    wpX_passSign post (f_height, f_signs, f_demands, f_bounds, f_isSolved, f_kinds, f_solutionCount, f_leastSum, f_found, a_sizes, a_hasEmpty, a_firstSet, a_lastSet, a_takes, a_behind, a_sign, a_demandSigns, a_demandSign, a_demandPattern, a_demandKept, a_factor, a_limit, a_lengthOf, a_lettersOf, a_action, a_kindWord, a_kindCount, a_kindOf, a_kindAction, a_countOfSum, a_lengthSet, a_kindSet, a_firstWord, a_foundSet, a_numberOf, a_stepTo, a_group, a_nextGroup, a_counts, a_isPair, a_pairQueue, a_chosen) (nI k) (nI (zu t)) (nI s) := by
  unfold wpX_passSign
  try dsimp only
  refine pk_le s 2 (fun h => ?_) (fun h => ?_)
  · rw [if_pos (by omega)] at hp
    obtain ⟨c1, c2⟩ := hC s (by omega)
    have hK15 := hK.1
    refine And.intro (vp_in_nI (by omega) (by decide)) (nm_r (e' := nI (21 * ch s + 7 * k)) ?_ ⟨8, zx_p37 hk c1 W G hA hK hp 8 0 (by omega) (by omega)⟩)
    rw [nI_clamp (show s < 2 ^ 31 by omega), c2]
    show nI 21 * nI (ch s) + nI 7 * nI k = _
    rw [pk_mul, pk_mul, nI_add]
  · rw [if_neg (by omega)] at hp
    rw [show nI s - 3 = nI (s - 3) from pk_sub (b := 3) (by omega)]
    exact zx_setg (by omega) (by omega) W H G hp
theorem zx_k12 {post : Int32 → Prop} {i k m : Nat} (hi : i < nd) (D : zd_ok a_demandPattern a_demandSign a_demandSigns nd) (hk : k < 3) (hpt : a_demandPattern i = nI k) (hm4 : m ≤ 4) (hm : a_demandSigns i = nI m) (W : zp_W (pats k)) (H : zx_P a_sizes a_hasEmpty a_firstSet a_lastSet a_takes a_behind k (pats k)) (hA : zx_A pats a_action 315) (hK : zx_K a_action 15 K kw ko a_kindWord a_kindCount a_kindAction) (hC : zx_C K ch a_chosen)
    (hp : post (zb_i (zd_k pats a_demandPattern a_demandKept a_demandSign a_demandSigns (fun u => kw (ch u)) i))) :
    ∀ f n, n ≤ m → m < f + n → wX_keepsDemand_12 post (nI i) (nI k) f_height f_signs f_demands f_bounds f_isSolved f_kinds f_solutionCount f_leastSum f_found a_sizes a_hasEmpty a_firstSet a_lastSet a_takes a_behind a_sign a_demandSigns a_demandSign a_demandPattern a_demandKept a_factor a_limit a_lengthOf a_lettersOf a_action a_kindWord a_kindCount a_kindOf a_kindAction a_countOfSum a_lengthSet a_kindSet a_firstWord a_foundSet a_numberOf a_stepTo a_group a_nextGroup a_counts a_isPair a_pairQueue a_chosen f (nI (zu (zd_c (pats k) a_demandSign i (fun u => kw (ch u)) n))) (nI n) := by
  have hnd := D.1
  have hin : vp_in (nI i) 6 := vp_in_nI (by omega) (by decide)
  have hcl : (nI i).toNatClampNeg = i := nI_clamp (by omega)
  obtain ⟨_, m', hm4', hm', hsg⟩ := D.2 i hi
  have emm : m' = m := by rw [hm] at hm'; exact ((nI_eq (by omega) (by omega)).mp hm').symm
  subst emm
  intro f
  induction f with
  | zero => intro n h1 h2; omega
  | succ f ih =>
    intro n h1 h2
    rw [wX_keepsDemand_12]
    refine And.intro hin ?_
    rw [hcl, hm]
    have G := zd_cg W a_demandSign i (fun u => kw (ch u)) n
    refine pk_le m' n (fun h => ?_) (fun h => ?_)
    · have e : n = m' := by omega
      subst e
      refine zx_end (by omega) G.1 W H (And.intro hin ?_)
      unfold zd_k at hp
      rw [hpt, hm, nI_clamp (show k < 2 ^ 31 by omega), nI_clamp (show n < 2 ^ 31 by omega)] at hp
      refine br_c (fun z => ?_) (fun z => ?_)
      · rw [decide_eq_true z] at hp
        rw [wX_keepsDemand_68]
        cases ea : zp_a (pats k) (zd_c (pats k) a_demandSign i (fun u => kw (ch u)) n) with
        | false => rw [ea] at hp; exact br_f (by decide) hp
        | true => rw [ea] at hp; exact br_t rfl hp
      · rw [decide_eq_false z] at hp
        rw [wX_keepsDemand_68]
        cases ea : zp_a (pats k) (zd_c (pats k) a_demandSign i (fun u => kw (ch u)) n) with
        | false => rw [ea] at hp; exact br_t rfl hp
        | true => rw [ea] at hp; exact br_f (by decide) hp
    · obtain ⟨s, hs, es⟩ := hsg n h
      have e4 : (4 : Int32) * nI i + nI n = nI (4 * i + n) := by
        show nI 4 * nI i + nI n = _
        rw [pk_mul, nI_add]
      have hc : (a_demandSign (4 * i + n)).toNatClampNeg = s := by rw [es]; exact nI_clamp (by omega)
      have ih' := ih (n + 1) (by omega) (by omega)
      have ec : zd_c (pats k) a_demandSign i (fun u => kw (ch u)) (n + 1) = if s < 3 then zw_r (pats k) (zd_c (pats k) a_demandSign i (fun u => kw (ch u)) n) (kw (ch s)) else zp_d (pats k) (zd_c (pats k) a_demandSign i (fun u => kw (ch u)) n) (s - 3) := by
        rw [← hc]; rfl
      rw [ec] at ih'
      rw [e4]
      refine And.intro (vp_in_nI (by omega) (by decide)) ?_
      rw [nI_clamp (show 4 * i + n < 2 ^ 31 by omega), es]
      exact zx_pass hk hs W H G hA hK hC (nm_r (nI_1 n) ih')
theorem zx_keepD {post : Int32 → Prop} {i : Nat} (hi : i < nd) (D : zd_ok a_demandPattern a_demandSign a_demandSigns nd) (Ps : zx_Ps a_sizes a_hasEmpty a_firstSet a_lastSet a_takes a_behind pats) (hA : zx_A pats a_action 315) (hK : zx_K a_action 15 K kw ko a_kindWord a_kindCount a_kindAction) (hC : zx_C K ch a_chosen)
    (hp : post (zb_i (zd_k pats a_demandPattern a_demandKept a_demandSign a_demandSigns (fun u => kw (ch u)) i))) : wpX_keepsDemand post (f_height, f_signs, f_demands, f_bounds, f_isSolved, f_kinds, f_solutionCount, f_leastSum, f_found, a_sizes, a_hasEmpty, a_firstSet, a_lastSet, a_takes, a_behind, a_sign, a_demandSigns, a_demandSign, a_demandPattern, a_demandKept, a_factor, a_limit, a_lengthOf, a_lettersOf, a_action, a_kindWord, a_kindCount, a_kindOf, a_kindAction, a_countOfSum, a_lengthSet, a_kindSet, a_firstWord, a_foundSet, a_numberOf, a_stepTo, a_group, a_nextGroup, a_counts, a_isPair, a_pairQueue, a_chosen) (nI i) := by
  have hnd := D.1
  obtain ⟨⟨k, hk, ek⟩, m, hm4, em, _⟩ := D.2 i hi
  obtain ⟨W, H⟩ := Ps k hk
  refine And.intro (vp_in_nI (by omega) (by decide)) (nm_r (e' := nI k) (by rw [nI_clamp (show i < 2 ^ 31 by omega), ek]) ⟨m + 1, ?_⟩)
  have Z := zx_k12 (f_height := f_height) (f_signs := f_signs) (f_demands := f_demands) (f_bounds := f_bounds) (f_isSolved := f_isSolved) (f_kinds := f_kinds) (f_solutionCount := f_solutionCount) (f_leastSum := f_leastSum) (f_found := f_found) (a_sizes := a_sizes) (a_hasEmpty := a_hasEmpty) (a_firstSet := a_firstSet) (a_lastSet := a_lastSet) (a_takes := a_takes) (a_behind := a_behind) (a_sign := a_sign) (a_demandSigns := a_demandSigns) (a_demandSign := a_demandSign) (a_demandPattern := a_demandPattern) (a_demandKept := a_demandKept) (a_factor := a_factor) (a_limit := a_limit) (a_lengthOf := a_lengthOf) (a_lettersOf := a_lettersOf) (a_action := a_action) (a_kindWord := a_kindWord) (a_kindCount := a_kindCount) (a_kindOf := a_kindOf) (a_kindAction := a_kindAction) (a_countOfSum := a_countOfSum) (a_lengthSet := a_lengthSet) (a_kindSet := a_kindSet) (a_firstWord := a_firstWord) (a_foundSet := a_foundSet) (a_numberOf := a_numberOf) (a_stepTo := a_stepTo) (a_group := a_group) (a_nextGroup := a_nextGroup) (a_counts := a_counts) (a_isPair := a_isPair) (a_pairQueue := a_pairQueue) (a_chosen := a_chosen) hi D hk ek hm4 em W H hA hK hC hp (m + 1) 0 (by omega) (by omega)
  rw [show zu (zd_c (pats k) a_demandSign i (fun u => kw (ch u)) 0) = 1 from zu_64] at Z
  exact Z
theorem zx_chl {post : Int32 → Prop} {u : Nat} (hu : u < 3) (hL : zx_L a_lengthOf a_lettersOf) (hK : zx_K a_action 15 K kw ko a_kindWord a_kindCount a_kindAction) (hC : zx_C K ch a_chosen) (hp : post (nI (zw_n (kw (ch u))))) : wpX_chosenLength post (f_height, f_signs, f_demands, f_bounds, f_isSolved, f_kinds, f_solutionCount, f_leastSum, f_found, a_sizes, a_hasEmpty, a_firstSet, a_lastSet, a_takes, a_behind, a_sign, a_demandSigns, a_demandSign, a_demandPattern, a_demandKept, a_factor, a_limit, a_lengthOf, a_lettersOf, a_action, a_kindWord, a_kindCount, a_kindOf, a_kindAction, a_countOfSum, a_lengthSet, a_kindSet, a_firstWord, a_foundSet, a_numberOf, a_stepTo, a_group, a_nextGroup, a_counts, a_isPair, a_pairQueue, a_chosen) (nI u) := by
  obtain ⟨c1, c2⟩ := hC u hu
  have hK15 := hK.1
  obtain ⟨a1, a2, a3, a4, a5⟩ := hK.2.1 (ch u) c1
  unfold wpX_chosenLength
  try dsimp only
  rw [nI_clamp (show u < 2 ^ 31 by omega), c2, nI_clamp (show ch u < 2 ^ 31 by omega), a2, nI_clamp (show kw (ch u) < 2 ^ 31 by omega), (hL _ a1).1]
  exact And.intro (vp_in_nI hu (by decide)) (And.intro (vp_in_nI (by omega) (by decide)) (And.intro (vp_in_nI a1 (by decide)) hp))
/-- factors and limits, as the reference keeps them -/
def zx_B (nb : Nat) (fa li bd : Nat → Int32) : Prop := ∀ b, b < nb → (∀ u, u < 3 → fa (3 * b + u) = bd (4 * b + u)) ∧ li b = bd (4 * b + 3)
theorem zx_b17 {post : Int32 → Prop} {bd : Nat → Int32} {b m : Nat} {al : Bool} (hb : b < nb) (hnb : nb ≤ 3) (hB : zx_B nb a_factor a_limit bd) (hL : zx_L a_lengthOf a_lettersOf) (hK : zx_K a_action 15 K kw ko a_kindWord a_kindCount a_kindAction) (hC : zx_C K ch a_chosen)
    (G : wX_keepsBounds_4 post f_height f_signs f_demands (nI nb) f_isSolved f_kinds f_solutionCount f_leastSum f_found a_sizes a_hasEmpty a_firstSet a_lastSet a_takes a_behind a_sign a_demandSigns a_demandSign a_demandPattern a_demandKept a_factor a_limit a_lengthOf a_lettersOf a_action a_kindWord a_kindCount a_kindOf a_kindAction a_countOfSum a_lengthSet a_kindSet a_firstWord a_foundSet a_numberOf a_stepTo a_group a_nextGroup a_counts a_isPair a_pairQueue a_chosen m (zb_i (al && zd_b bd (fun u => kw (ch u)) b)) (nI (b + 1))) :
    ∀ n u, u ≤ 3 → 3 < n + u → wX_keepsBounds_17 post (wX_keepsBounds_4 post f_height f_signs f_demands (nI nb) f_isSolved f_kinds f_solutionCount f_leastSum f_found a_sizes a_hasEmpty a_firstSet a_lastSet a_takes a_behind a_sign a_demandSigns a_demandSign a_demandPattern a_demandKept a_factor a_limit a_lengthOf a_lettersOf a_action a_kindWord a_kindCount a_kindOf a_kindAction a_countOfSum a_lengthSet a_kindSet a_firstWord a_foundSet a_numberOf a_stepTo a_group a_nextGroup a_counts a_isPair a_pairQueue a_chosen m) (zb_i al) (nI b) f_height f_signs f_demands (nI nb) f_isSolved f_kinds f_solutionCount f_leastSum f_found a_sizes a_hasEmpty a_firstSet a_lastSet a_takes a_behind a_sign a_demandSigns a_demandSign a_demandPattern a_demandKept a_factor a_limit a_lengthOf a_lettersOf a_action a_kindWord a_kindCount a_kindOf a_kindAction a_countOfSum a_lengthSet a_kindSet a_firstWord a_foundSet a_numberOf a_stepTo a_group a_nextGroup a_counts a_isPair a_pairQueue a_chosen n (zs (fun u => bd (4 * b + u) * nI (zw_n (kw (ch u)))) u) (nI u) := by
  obtain ⟨B1, B2⟩ := hB b hb
  intro n
  induction n with
  | zero => intro u h1 h2; omega
  | succ n ih =>
    intro u h1 h2
    rw [wX_keepsBounds_17]
    refine pk_le 3 u (fun h => ?_) (fun h => ?_)
    · have e : u = 3 := by omega
      subst e
      cases al with
      | false => exact br_t rfl (nm_r (nI_1 b) G)
      | true =>
        refine br_f zb_10 (And.intro (vp_in_nI (by omega) (by decide)) ?_)
        rw [nI_clamp (show b < 2 ^ 31 by omega), B2]
        unfold zd_b at G
        refine br_c (fun z => ?_) (fun z => ?_)
        · rw [decide_eq_false (fun y => y z)] at G; exact nm_r (nI_1 b) G
        · rw [decide_eq_true z] at G; exact nm_r (nI_1 b) G
    · have e3 : (3 : Int32) * nI b + nI u = nI (3 * b + u) := by
        show nI 3 * nI b + nI u = _
        rw [pk_mul, nI_add]
      rw [e3, nI_clamp (show 3 * b + u < 2 ^ 31 by omega), B1 u h]
      exact And.intro (vp_in_nI (by omega) (by decide)) (zx_chl h hL hK hC (nm_r rfl (nm_r (nI_1 u) (ih (u + 1) (by omega) (by omega)))))
theorem zx_keepB {post : Int32 → Prop} {bd : Nat → Int32} (hnb : nb ≤ 3) (hB : zx_B nb a_factor a_limit bd) (hL : zx_L a_lengthOf a_lettersOf) (hK : zx_K a_action 15 K kw ko a_kindWord a_kindCount a_kindAction) (hC : zx_C K ch a_chosen)
    (hp : post (zb_i (za (zd_b bd (fun u => kw (ch u))) nb))) : wpX_keepsBounds post (f_height, f_signs, f_demands, nI nb, f_isSolved, f_kinds, f_solutionCount, f_leastSum, f_found, a_sizes, a_hasEmpty, a_firstSet, a_lastSet, a_takes, a_behind, a_sign, a_demandSigns, a_demandSign, a_demandPattern, a_demandKept, a_factor, a_limit, a_lengthOf, a_lettersOf, a_action, a_kindWord, a_kindCount, a_kindOf, a_kindAction, a_countOfSum, a_lengthSet, a_kindSet, a_firstWord, a_foundSet, a_numberOf, a_stepTo, a_group, a_nextGroup, a_counts, a_isPair, a_pairQueue, a_chosen) := by
  have key : ∀ n b, b ≤ nb → nb < n + b → wX_keepsBounds_4 post f_height f_signs f_demands (nI nb) f_isSolved f_kinds f_solutionCount f_leastSum f_found a_sizes a_hasEmpty a_firstSet a_lastSet a_takes a_behind a_sign a_demandSigns a_demandSign a_demandPattern a_demandKept a_factor a_limit a_lengthOf a_lettersOf a_action a_kindWord a_kindCount a_kindOf a_kindAction a_countOfSum a_lengthSet a_kindSet a_firstWord a_foundSet a_numberOf a_stepTo a_group a_nextGroup a_counts a_isPair a_pairQueue a_chosen n (zb_i (za (zd_b bd (fun u => kw (ch u))) b)) (nI b) := by
    intro n
    induction n with
    | zero => intro b h1 h2; omega
    | succ n ih =>
      intro b h1 h2
      rw [wX_keepsBounds_4]
      refine pk_le nb b (fun h => ?_) (fun h => ?_)
      · have e : b = nb := by omega
        rw [e]; exact And.intro (zb_in _) hp
      · exact ⟨4, zx_b17 h hnb hB hL hK hC (ih (b + 1) (by omega) (by omega)) 4 0 (by omega) (by omega)⟩
  exact ⟨nb + 1, key (nb + 1) 0 (by omega) (by omega)⟩
theorem zx_keep {post : Int32 → Prop} {bd : Nat → Int32} (hnb : nb ≤ 3) (D : zd_ok a_demandPattern a_demandSign a_demandSigns nd) (Ps : zx_Ps a_sizes a_hasEmpty a_firstSet a_lastSet a_takes a_behind pats) (hB : zx_B nb a_factor a_limit bd) (hL : zx_L a_lengthOf a_lettersOf) (hA : zx_A pats a_action 315) (hK : zx_K a_action 15 K kw ko a_kindWord a_kindCount a_kindAction) (hC : zx_C K ch a_chosen)
    (hp : post (zb_i (zd_sol pats a_demandPattern a_demandKept a_demandSign a_demandSigns bd nd nb (fun u => kw (ch u))))) : wpX_keepsAll post (f_height, f_signs, nI nd, nI nb, f_isSolved, f_kinds, f_solutionCount, f_leastSum, f_found, a_sizes, a_hasEmpty, a_firstSet, a_lastSet, a_takes, a_behind, a_sign, a_demandSigns, a_demandSign, a_demandPattern, a_demandKept, a_factor, a_limit, a_lengthOf, a_lettersOf, a_action, a_kindWord, a_kindCount, a_kindOf, a_kindAction, a_countOfSum, a_lengthSet, a_kindSet, a_firstWord, a_foundSet, a_numberOf, a_stepTo, a_group, a_nextGroup, a_counts, a_isPair, a_pairQueue, a_chosen) := by
  have hnd := D.1
  unfold wpX_keepsAll
  try dsimp only
  refine zx_keepB hnb hB hL hK hC ?_
  unfold zd_sol at hp
  cases eb : za (zd_b bd (fun u => kw (ch u))) nb with
  | false =>
    rw [eb, Bool.false_and] at hp
    refine ⟨1, ?_⟩
    rw [wX_keepsAll_7]
    exact br_c (fun _ => And.intro (zb_in false) hp) (fun _ => br_t rfl (And.intro (zb_in false) hp))
  | true =>
    rw [eb, Bool.true_and] at hp
    have key : ∀ n i, i ≤ nd → nd < n + i → za (zd_k pats a_demandPattern a_demandKept a_demandSign a_demandSigns (fun u => kw (ch u))) i = true → wX_keepsAll_7 post f_height f_signs (nI nd) (nI nb) f_isSolved f_kinds f_solutionCount f_leastSum f_found a_sizes a_hasEmpty a_firstSet a_lastSet a_takes a_behind a_sign a_demandSigns a_demandSign a_demandPattern a_demandKept a_factor a_limit a_lengthOf a_lettersOf a_action a_kindWord a_kindCount a_kindOf a_kindAction a_countOfSum a_lengthSet a_kindSet a_firstWord a_foundSet a_numberOf a_stepTo a_group a_nextGroup a_counts a_isPair a_pairQueue a_chosen n (zb_i true) (nI i) := by
      intro n
      induction n with
      | zero => intro i h1 h2; omega
      | succ n ih =>
        intro i h1 h2 ha
        rw [wX_keepsAll_7]
        refine pk_le nd i (fun h => ?_) (fun h => br_f zb_10 ?_)
        · have e : i = nd := by omega
          rw [e] at ha
          rw [ha] at hp
          exact And.intro (zb_in true) hp
        · refine zx_keepD h D Ps hA hK hC (nm_r (nI_1 i) ?_)
          cases ek : zd_k pats a_demandPattern a_demandKept a_demandSign a_demandSigns (fun u => kw (ch u)) i with
          | true =>
            refine ih (i + 1) (by omega) (by omega) ?_
            show (za _ i && _) = true
            rw [ha, ek]; rfl
          | false =>
            rw [za_f h ek] at hp
            cases n with
            | zero => omega
            | succ n =>
              rw [wX_keepsAll_7]
              exact br_c (fun _ => And.intro (zb_in false) hp) (fun _ => br_t rfl (And.intro (zb_in false) hp))
    exact ⟨nd + 1, key (nd + 1) 0 (by omega) (by omega) rfl⟩
end
end
section
/-! X: kinds noted -/
def zw_c (w : Nat → Nat) : Nat := 225 * w 0 + 15 * w 1 + w 2
def zpr (f : Nat → Nat) : Nat → Nat
  | 0 => 1
  | n + 1 => zpr f n * f n
section
variable {f_height f_signs f_demands f_bounds f_isSolved f_kinds f_solutionCount f_leastSum f_found : Int32} {a_sizes a_hasEmpty a_firstSet a_lastSet a_takes a_behind a_sign a_demandSigns a_demandSign a_demandPattern a_demandKept a_factor a_limit a_lengthOf a_lettersOf a_action a_kindWord a_kindCount a_kindOf a_kindAction a_countOfSum a_lengthSet a_kindSet a_firstWord a_foundSet a_numberOf a_stepTo a_group a_nextGroup a_counts a_isPair a_pairQueue a_chosen : Nat → Int32}
variable {K : Nat} {kw ko ch : Nat → Nat}
theorem zx_cb2 {post : Int32 → Prop} {f : Nat → Nat} (hK : zx_K a_action 15 K kw ko a_kindWord a_kindCount a_kindAction) (hC : zx_C K ch a_chosen) (hf : ∀ u, u < 3 → f u < 15 ∧ a_firstWord u = nI (f u))
    (h1 : zw_c (fun u => kw (ch u)) < zw_c f → post 1) (h0 : zw_c f ≤ zw_c (fun u => kw (ch u)) → post 0) :
    ∀ n u, u ≤ 3 → 3 < n + u → (∀ q, q < u → kw (ch q) = f q) → wX_comesBefore_2 post f_height f_signs f_demands f_bounds f_isSolved f_kinds f_solutionCount f_leastSum f_found a_sizes a_hasEmpty a_firstSet a_lastSet a_takes a_behind a_sign a_demandSigns a_demandSign a_demandPattern a_demandKept a_factor a_limit a_lengthOf a_lettersOf a_action a_kindWord a_kindCount a_kindOf a_kindAction a_countOfSum a_lengthSet a_kindSet a_firstWord a_foundSet a_numberOf a_stepTo a_group a_nextGroup a_counts a_isPair a_pairQueue a_chosen n (nI u) := by
  have hK15 := hK.1
  have hl : ∀ u, u < 3 → kw (ch u) < 15 := fun u hu => (hK.2.1 (ch u) (hC u hu).1).1
  have hl0 := hl 0 (by omega)
  have hl1 := hl 1 (by omega)
  have hl2 := hl 2 (by omega)
  have hf0 := (hf 0 (by omega)).1
  have hf1 := (hf 1 (by omega)).1
  have hf2 := (hf 2 (by omega)).1
  unfold zw_c at h1 h0
  dsimp only at h1 h0
  intro n
  induction n with
  | zero => intro u a b; omega
  | succ n ih =>
    intro u a b hq
    rw [wX_comesBefore_2]
    refine pk_le 3 u (fun h => ?_) (fun h => ?_)
    · have q0 := hq 0 (by omega)
      have q1 := hq 1 (by omega)
      have q2 := hq 2 (by omega)
      exact h0 (by omega)
    · obtain ⟨c1, c2⟩ := hC u h
      obtain ⟨a1, a2, a3, a4, a5⟩ := hK.2.1 (ch u) c1
      obtain ⟨f1, f2⟩ := hf u h
      have hin : vp_in (nI u) 3 := vp_in_nI h (by decide)
      have hin2 : vp_in (nI (ch u)) 15 := vp_in_nI (by omega) (by decide)
      rw [nI_clamp (show u < 2 ^ 31 by omega), c2, nI_clamp (show ch u < 2 ^ 31 by omega), a2, f2]
      refine And.intro hin (And.intro hin2 (And.intro hin (pk_eq (kw (ch u)) (f u) (fun z => ?_) (fun z => ?_))))
      · refine nm_r (nI_1 u) (ih (u + 1) (by omega) (by omega) (fun q hq' => ?_))
        by_cases y : q = u
        · rw [y]; exact z
        · exact hq q (by omega)
      · refine And.intro hin (And.intro hin2 (And.intro hin ?_))
        have key : (kw (ch u) < f u → 225 * kw (ch 0) + 15 * kw (ch 1) + kw (ch 2) < 225 * f 0 + 15 * f 1 + f 2) ∧ (f u < kw (ch u) → 225 * f 0 + 15 * f 1 + f 2 ≤ 225 * kw (ch 0) + 15 * kw (ch 1) + kw (ch 2)) := by
          rcases (show u = 0 ∨ u = 1 ∨ u = 2 by omega) with e | e | e
          · subst e
            exact ⟨fun _ => by omega, fun _ => by omega⟩
          · subst e
            have q0 := hq 0 (by omega)
            exact ⟨fun _ => by omega, fun _ => by omega⟩
          · subst e
            have q0 := hq 0 (by omega)
            have q1 := hq 1 (by omega)
            exact ⟨fun _ => by omega, fun _ => by omega⟩
        refine pk_le (f u) (kw (ch u)) (fun y => ?_) (fun y => ?_)
        · exact h0 (key.2 (by omega))
        · exact h1 (key.1 y)
theorem zx_n144 {post : SX → Prop} {S : Nat} {first : Bool} (hK : zx_K a_action 15 K kw ko a_kindWord a_kindCount a_kindAction) (hC : zx_C K ch a_chosen)
    (G : ∀ fw, (first = true → ∀ u, u < 3 → fw u = nI (kw (ch u))) → (first = false → fw = a_firstWord) → post (f_height, f_signs, f_demands, f_bounds, f_isSolved, f_kinds, f_solutionCount, if first then nI S else f_leastSum, f_found, a_sizes, a_hasEmpty, a_firstSet, a_lastSet, a_takes, a_behind, a_sign, a_demandSigns, a_demandSign, a_demandPattern, a_demandKept, a_factor, a_limit, a_lengthOf, a_lettersOf, a_action, a_kindWord, a_kindCount, a_kindOf, a_kindAction, a_countOfSum, a_lengthSet, a_kindSet, fw, a_foundSet, a_numberOf, a_stepTo, a_group, a_nextGroup, a_counts, a_isPair, a_pairQueue, a_chosen)) :
    ∀ n u fw, u ≤ 3 → 3 < n + u → (first = true → ∀ q, q < u → fw q = nI (kw (ch q))) → (first = false → fw = a_firstWord) → wX_note_144 post (nI S) (zb_i first) f_height f_signs f_demands f_bounds f_isSolved f_kinds f_solutionCount f_leastSum f_found n (nI u) a_sizes a_hasEmpty a_firstSet a_lastSet a_takes a_behind a_sign a_demandSigns a_demandSign a_demandPattern a_demandKept a_factor a_limit a_lengthOf a_lettersOf a_action a_kindWord a_kindCount a_kindOf a_kindAction a_countOfSum a_lengthSet a_kindSet fw a_foundSet a_numberOf a_stepTo a_group a_nextGroup a_counts a_isPair a_pairQueue a_chosen := by
  have hK15 := hK.1
  have fin : ∀ fw, (first = true → ∀ u, u < 3 → fw u = nI (kw (ch u))) → (first = false → fw = a_firstWord) → wX_note_179 post (nI S) (zb_i first) f_height f_signs f_demands f_bounds f_isSolved f_kinds f_solutionCount f_leastSum f_found a_sizes a_hasEmpty a_firstSet a_lastSet a_takes a_behind a_sign a_demandSigns a_demandSign a_demandPattern a_demandKept a_factor a_limit a_lengthOf a_lettersOf a_action a_kindWord a_kindCount a_kindOf a_kindAction a_countOfSum a_lengthSet a_kindSet fw a_foundSet a_numberOf a_stepTo a_group a_nextGroup a_counts a_isPair a_pairQueue a_chosen := by
    intro fw g1 g2
    have := G fw g1 g2
    rw [wX_note_179]
    cases first with
    | false => exact br_t rfl this
    | true => exact br_f zb_10 this
  intro n
  induction n with
  | zero => intro u fw a b; omega
  | succ n ih =>
    intro u fw a b h1 h2
    rw [wX_note_144]
    refine pk_le 3 u (fun h => ?_) (fun h => ?_)
    · exact fin fw (fun hf q hq => h1 hf q (by omega)) h2
    · cases first with
      | false => exact br_t rfl (fin fw (fun hf => absurd hf (by decide)) h2)
      | true =>
        obtain ⟨c1, c2⟩ := hC u h
        obtain ⟨a1, a2, a3, a4, a5⟩ := hK.2.1 (ch u) c1
        rw [nI_clamp (show u < 2 ^ 31 by omega), c2, nI_clamp (show ch u < 2 ^ 31 by omega), a2]
        refine br_f zb_10 (And.intro (vp_in_nI h (by decide)) (And.intro (vp_in_nI (by omega) (by decide)) (And.intro (vp_in_nI h (by decide)) (nm_e (nm_r (nI_1 u) (ih (u + 1) _ (by omega) (by omega) (fun _ q hq => ?_) (fun hf => absurd hf (by decide))))))))
        by_cases z : q = u
        · rw [z, pk_us]
        · rw [pk_un z]; exact h1 rfl q (by omega)
/-- when the chosen kinds' first words are the new first solution -/
def zx_1st (least : Int32) (fwA : Nat → Int32) (S : Nat) (w : Nat → Nat) (first : Bool) : Prop :=
  (first = true → least = -1 ∨ ∀ (L : Nat) (f : Nat → Nat), L < 100 → least = nI L → (∀ u, u < 3 → f u < 15 ∧ fwA u = nI (f u)) → S < L ∨ (S = L ∧ zw_c w < zw_c f)) ∧
  (first = false → ¬ least = -1 ∧ ∀ (L : Nat) (f : Nat → Nat), L < 100 → least = nI L → (∀ u, u < 3 → f u < 15 ∧ fwA u = nI (f u)) → L < S ∨ (L = S ∧ zw_c f ≤ zw_c w))
theorem zw_cc {fwA : Nat → Int32} {f g : Nat → Nat} (hf : ∀ u, u < 3 → f u < 15 ∧ fwA u = nI (f u)) (hg : ∀ u, u < 3 → g u < 15 ∧ fwA u = nI (g u)) : zw_c f = zw_c g := by
  have key : ∀ u, u < 3 → f u = g u := fun u hu => by
    have a := hf u hu
    have b := hg u hu
    have c := a.2.symm.trans b.2
    exact (nI_eq (by omega) (by omega)).mp c
  unfold zw_c
  rw [key 0 (by omega), key 1 (by omega), key 2 (by omega)]
theorem zx_note {post : SX → Prop} (hL : zx_L a_lengthOf a_lettersOf) (hK : zx_K a_action 15 K kw ko a_kindWord a_kindCount a_kindAction) (hC : zx_C K ch a_chosen)
    (hcase : f_leastSum = -1 ∨ ∃ (L : Nat) (f : Nat → Nat), L < 100 ∧ f_leastSum = nI L ∧ ∀ u, u < 3 → f u < 15 ∧ a_firstWord u = nI (f u))
    (G : ∀ (first : Bool) ls ks fw, (∀ u, u < 3 → ls u = a_lengthSet u ||| nI (2 ^ zw_n (kw (ch u)))) → (∀ u, u < 3 → ks u = a_kindSet u ||| nI (2 ^ ch u)) → (first = true → ∀ u, u < 3 → fw u = nI (kw (ch u))) → (first = false → fw = a_firstWord) →
      zx_1st f_leastSum a_firstWord (zw_S (fun u => kw (ch u))) (fun u => kw (ch u)) first →
      post (f_height, f_signs, f_demands, f_bounds, f_isSolved, f_kinds, f_solutionCount + nI (zpr (fun u => zkc ko 15 (ch u)) 3), if first then nI (zw_S (fun u => kw (ch u))) else f_leastSum, f_found, a_sizes, a_hasEmpty, a_firstSet, a_lastSet, a_takes, a_behind, a_sign, a_demandSigns, a_demandSign, a_demandPattern, a_demandKept, a_factor, a_limit, a_lengthOf, a_lettersOf, a_action, a_kindWord, a_kindCount, a_kindOf, a_kindAction, upd a_countOfSum (zw_S (fun u => kw (ch u))) (a_countOfSum (zw_S (fun u => kw (ch u))) + nI (zpr (fun u => zkc ko 15 (ch u)) 3)), ls, ks, fw, a_foundSet, a_numberOf, a_stepTo, a_group, a_nextGroup, a_counts, a_isPair, a_pairQueue, a_chosen)) :
    wpX_note post (f_height, f_signs, f_demands, f_bounds, f_isSolved, f_kinds, f_solutionCount, f_leastSum, f_found, a_sizes, a_hasEmpty, a_firstSet, a_lastSet, a_takes, a_behind, a_sign, a_demandSigns, a_demandSign, a_demandPattern, a_demandKept, a_factor, a_limit, a_lengthOf, a_lettersOf, a_action, a_kindWord, a_kindCount, a_kindOf, a_kindAction, a_countOfSum, a_lengthSet, a_kindSet, a_firstWord, a_foundSet, a_numberOf, a_stepTo, a_group, a_nextGroup, a_counts, a_isPair, a_pairQueue, a_chosen) := by
  have hK15 := hK.1
  have h9 := zw_S9 (fun u => kw (ch u))
  have key : ∀ n u ls ks, u ≤ 3 → 3 < n + u → (∀ q, q < 3 → ls q = if q < u then a_lengthSet q ||| nI (2 ^ zw_n (kw (ch q))) else a_lengthSet q) → (∀ q, q < 3 → ks q = if q < u then a_kindSet q ||| nI (2 ^ ch q) else a_kindSet q) →
      wX_note_6 post f_height f_signs f_demands f_bounds f_isSolved f_kinds f_solutionCount f_leastSum f_found n (nI (zpr (fun u => zkc ko 15 (ch u)) u)) (nI (zn (fun u => zw_n (kw (ch u))) u)) (nI u) a_sizes a_hasEmpty a_firstSet a_lastSet a_takes a_behind a_sign a_demandSigns a_demandSign a_demandPattern a_demandKept a_factor a_limit a_lengthOf a_lettersOf a_action a_kindWord a_kindCount a_kindOf a_kindAction a_countOfSum ls ks a_firstWord a_foundSet a_numberOf a_stepTo a_group a_nextGroup a_counts a_isPair a_pairQueue a_chosen := by
    intro n
    induction n with
    | zero => intro u ls ks a b; omega
    | succ n ih =>
      intro u ls ks a b hl hk
      rw [wX_note_6]
      refine pk_le 3 u (fun h => ?_) (fun h => ?_)
      · have e : u = 3 := by omega
        subst e
        have hcl : (nI (zn (fun u => zw_n (kw (ch u))) 3)).toNatClampNeg = zw_S (fun u => kw (ch u)) := nI_clamp (by show zw_S (fun u => kw (ch u)) < 2 ^ 31; omega)
        have hin : vp_in (nI (zn (fun u => zw_n (kw (ch u))) 3)) 10 := vp_in_nI (n := zw_S (fun u => kw (ch u))) (by omega) (by decide)
        refine nm_e (And.intro hin (And.intro hin (nm_e ?_)))
        rw [hcl]
        have go : ∀ first : Bool, zx_1st f_leastSum a_firstWord (zw_S (fun u => kw (ch u))) (fun u => kw (ch u)) first → ∃ n144, wX_note_144 post (nI (zw_S (fun u => kw (ch u)))) (zb_i first) f_height f_signs f_demands f_bounds f_isSolved f_kinds (f_solutionCount + nI (zpr (fun u => zkc ko 15 (ch u)) 3)) f_leastSum f_found n144 0 a_sizes a_hasEmpty a_firstSet a_lastSet a_takes a_behind a_sign a_demandSigns a_demandSign a_demandPattern a_demandKept a_factor a_limit a_lengthOf a_lettersOf a_action a_kindWord a_kindCount a_kindOf a_kindAction (upd a_countOfSum (zw_S (fun u => kw (ch u))) (a_countOfSum (zw_S (fun u => kw (ch u))) + nI (zpr (fun u => zkc ko 15 (ch u)) 3))) ls ks a_firstWord a_foundSet a_numberOf a_stepTo a_group a_nextGroup a_counts a_isPair a_pairQueue a_chosen := by
          intro first h1st
          exact ⟨4, zx_n144 hK hC (fun fw g1 g2 => G first ls ks fw (fun q hq => by rw [hl q hq, if_pos hq]) (fun q hq => by rw [hk q hq, if_pos hq]) g1 g2 h1st) 4 0 a_firstWord (by omega) (by omega) (fun _ q hq => absurd hq (Nat.not_lt_zero q)) (fun _ => rfl)⟩
        refine br_c (fun z => go true ⟨fun _ => Or.inl z, fun y => absurd y (by decide)⟩) (fun z => ?_)
        rcases hcase with y | ⟨L, f, hLl, eL, hf⟩
        · exact absurd y z
        · have uniq : ∀ (L' : Nat) (f' : Nat → Nat), L' < 100 → f_leastSum = nI L' → (∀ u, u < 3 → f' u < 15 ∧ a_firstWord u = nI (f' u)) → L' = L ∧ zw_c f' = zw_c f := fun L' f' hL' eL' hf' => by
            refine ⟨?_, zw_cc hf' hf⟩
            rw [eL] at eL'
            exact ((nI_eq (by omega) (by omega)).mp eL').symm
          refine pk_lt (zw_S (fun u => kw (ch u))) L (fun y => ?_) (fun y => ?_) (hx := rfl) (hy := eL)
          · exact go true ⟨fun _ => Or.inr (fun L' f' a1 a2 a3 => by obtain ⟨r1, r2⟩ := uniq L' f' a1 a2 a3; rw [r1]; exact Or.inl y), fun y => absurd y (by decide)⟩
          · refine pk_eq (zw_S (fun u => kw (ch u))) L (fun x => ?_) (fun x => ?_) (hx := rfl) (hy := eL)
            · refine ⟨4, zx_cb2 hK hC hf (fun v => ?_) (fun v => ?_) 4 0 (by omega) (by omega) (fun q hq => absurd hq (Nat.not_lt_zero q))⟩
              · exact br_f zb_10 (go true ⟨fun _ => Or.inr (fun L' f' a1 a2 a3 => by obtain ⟨r1, r2⟩ := uniq L' f' a1 a2 a3; rw [r1, r2]; exact Or.inr ⟨x, v⟩), fun y => absurd y (by decide)⟩)
              · exact br_t rfl (go false ⟨fun y => absurd y (by decide), fun _ => ⟨z, fun L' f' a1 a2 a3 => by obtain ⟨r1, r2⟩ := uniq L' f' a1 a2 a3; rw [r1, r2]; exact Or.inr ⟨x.symm, v⟩⟩⟩)
            · exact go false ⟨fun y => absurd y (by decide), fun _ => ⟨z, fun L' f' a1 a2 a3 => by obtain ⟨r1, r2⟩ := uniq L' f' a1 a2 a3; rw [r1]; exact Or.inl (by omega)⟩⟩
      · obtain ⟨c1, c2⟩ := hC u h
        obtain ⟨a1, a2, a3, a4, a5⟩ := hK.2.1 (ch u) c1
        have h3 := zw_n3 (kw (ch u))
        have hin : vp_in (nI u) 3 := vp_in_nI h (by decide)
        rw [nI_clamp (show u < 2 ^ 31 by omega), c2, nI_clamp (show ch u < 2 ^ 31 by omega), a3, zb_2w (show ch u < 31 by omega)]
        refine And.intro hin (And.intro (vp_in_nI (by omega) (by decide)) (nm_r (pk_mul _ _) (zx_chl h hL hK hC (nm_r (nI_add _ _) (And.intro hin (zx_chl h hL hK hC ?_))))))
        rw [zb_2w (show zw_n (kw (ch u)) < 31 by omega)]
        refine And.intro hin (nm_e (And.intro hin (And.intro hin (And.intro hin (nm_e (nm_r (nI_1 u) (ih (u + 1) _ _ (by omega) (by omega) (fun q hq => ?_) (fun q hq => ?_))))))))
        · by_cases z : q = u
          · subst z
            rw [pk_us, if_pos (by omega), hl q hq, if_neg (by omega)]
          · rw [pk_un z, hl q hq]
            by_cases y : q < u
            · rw [if_pos y, if_pos (by omega)]
            · rw [if_neg y, if_neg (by omega)]
        · by_cases z : q = u
          · subst z
            rw [pk_us, if_pos (by omega), hk q hq, if_neg (by omega)]
          · rw [pk_un z, hk q hq]
            by_cases y : q < u
            · rw [if_pos y, if_pos (by omega)]
            · rw [if_neg y, if_neg (by omega)]
  exact ⟨4, key 4 0 a_lengthSet a_kindSet (by omega) (by omega) (fun q hq => by rw [if_neg (Nat.not_lt_zero q)]) (fun q hq => by rw [if_neg (Nat.not_lt_zero q)])⟩
end
end
section
/-! X: all triples of kinds -/
section
variable {f_height f_signs f_demands f_bounds f_isSolved f_kinds f_solutionCount f_leastSum f_found : Int32} {a_sizes a_hasEmpty a_firstSet a_lastSet a_takes a_behind a_sign a_demandSigns a_demandSign a_demandPattern a_demandKept a_factor a_limit a_lengthOf a_lettersOf a_action a_kindWord a_kindCount a_kindOf a_kindAction a_countOfSum a_lengthSet a_kindSet a_firstWord a_foundSet a_numberOf a_stepTo a_group a_nextGroup a_counts a_isPair a_pairQueue a_chosen : Nat → Int32}
variable {pats : Nat → PT} {nd nb : Nat}
def zx_w (K : Nat) (kw : Nat → Nat) (x : Nat) : Nat → Nat := fun u => kw (zd_w K x u)
theorem zx_s87 {post : SX → Prop} {bd : Nat → Int32} {K : Nat} {kw ko : Nat → Nat} {so : Nat → Bool} {sm cn code : Nat → Nat} (hso : ∀ y, so y = zd_sol pats a_demandPattern a_demandKept a_demandSign a_demandSigns bd nd nb (zx_w K kw y)) (hsm : ∀ y, sm y = zw_S (zx_w K kw y)) (hcn : ∀ y, cn y = zpr (fun u => zkc ko 15 (zd_w K y u)) 3) (hco : ∀ y, code y = zw_c (zx_w K kw y)) (hnb : nb ≤ 3) (D : zd_ok a_demandPattern a_demandSign a_demandSigns nd) (Ps : zx_Ps a_sizes a_hasEmpty a_firstSet a_lastSet a_takes a_behind pats) (hB : zx_B nb a_factor a_limit bd) (hL : zx_L a_lengthOf a_lettersOf) (hA : zx_A pats a_action 315) (hK : zx_K a_action 15 K kw ko a_kindWord a_kindCount a_kindAction)
    (G : ∀ sc le cs ls ks fw ch, zv_N so sm cn (K * K * K) sc cs → zv_O so (fun y u => zw_n (zx_w K kw y u)) (K * K * K) ls → zv_O so (zd_w K) (K * K * K) ks → zv_F so sm code (zx_w K kw) (-1) (K * K * K) le fw → post (f_height, f_signs, nI nd, nI nb, 1, nI K, sc, le, f_found, a_sizes, a_hasEmpty, a_firstSet, a_lastSet, a_takes, a_behind, a_sign, a_demandSigns, a_demandSign, a_demandPattern, a_demandKept, a_factor, a_limit, a_lengthOf, a_lettersOf, a_action, a_kindWord, a_kindCount, a_kindOf, a_kindAction, cs, ls, ks, fw, a_foundSet, a_numberOf, a_stepTo, a_group, a_nextGroup, a_counts, a_isPair, a_pairQueue, ch)) :
    ∀ f x f_solutionCount f_leastSum a_countOfSum a_lengthSet a_kindSet a_firstWord a_chosen, x ≤ K * K * K → K * K * K < f + x → zv_N so sm cn x f_solutionCount a_countOfSum → zv_O so (fun y u => zw_n (zx_w K kw y u)) x a_lengthSet → zv_O so (zd_w K) x a_kindSet → zv_F so sm code (zx_w K kw) (-1) x f_leastSum a_firstWord →
    wX_solve_87 post (nI (K * K * K)) f (nI x) f_height f_signs (nI nd) (nI nb) f_isSolved (nI K) f_solutionCount f_leastSum f_found a_sizes a_hasEmpty a_firstSet a_lastSet a_takes a_behind a_sign a_demandSigns a_demandSign a_demandPattern a_demandKept a_factor a_limit a_lengthOf a_lettersOf a_action a_kindWord a_kindCount a_kindOf a_kindAction a_countOfSum a_lengthSet a_kindSet a_firstWord a_foundSet a_numberOf a_stepTo a_group a_nextGroup a_counts a_isPair a_pairQueue a_chosen := by
  have hK15 := hK.1
  have hK2 : K * K ≤ 15 * 15 := Nat.mul_le_mul hK15 hK15
  have hK3 : K * K * K ≤ 15 * 15 * 15 := Nat.mul_le_mul hK2 hK15
  intro f
  induction f with
  | zero => intro x sc le cs ls ks fw ch h1 h2; omega
  | succ f ih =>
    intro x sc le cs ls ks fw ch h1 h2 hN hO hO2 hF
    rw [wX_solve_87]
    refine pk_le (K * K * K) x (fun h => ?_) (fun h => ?_)
    · have e : x = K * K * K := by omega
      subst e
      exact G sc le cs ls ks fw ch hN hO hO2 hF
    · have hd := zd_und h
      have hKp : 0 < K := by omega
      have hKKp : 0 < K * K := Nat.mul_pos hKp hKp
      have hxl : x / K ≤ x := Nat.div_le_self _ _
      have eKK : nI K * nI K = nI (K * K) := pk_mul K K
      have e1 : nI x / nI (K * K) = nI (x / (K * K)) := pk_div (by omega) hKKp (by omega)
      have e2 : nI x / nI K = nI (x / K) := pk_div (by omega) hKp (by omega)
      have e3 : nI x - nI x / nI K * nI K = nI (x % K) := pk_rem (by omega) hKp (by omega)
      have e4 : nI (x / K) - nI (x / K) / nI K * nI K = nI (x / K % K) := pk_rem (by omega) hKp (by omega)
      have n1 : ¬ nI K = 0 := nI_ne0 hKp (by omega)
      have n2 : ¬ nI (K * K) = 0 := nI_ne0 hKKp (by omega)
      rw [eKK, e3, e1, e2, e4]
      refine And.intro n2 (nm_e (And.intro n1 (And.intro n1 (nm_e (And.intro n1 (nm_e ?_))))))
      have hC : zx_C K (zd_w K x) (upd (upd (upd ch 0 (nI (x / (K * K)))) 1 (nI (x / K % K))) 2 (nI (x % K))) := by
        refine zu3 ?_ ?_ ?_
        · exact ⟨hd.1, by rw [pk_un (by decide), pk_un (by decide), pk_us]; rfl⟩
        · exact ⟨hd.2.1, by rw [pk_un (by decide), pk_us]; rfl⟩
        · exact ⟨hd.2.2, by rw [pk_us]; rfl⟩
      refine zx_keep hnb D Ps hB hL hA hK hC ?_
      have hs1 : so x = zd_sol pats a_demandPattern a_demandKept a_demandSign a_demandSigns bd nd nb (fun u => kw (zd_w K x u)) := hso x
      rw [← hs1]
      cases es : so x with
      | false => exact br_t rfl (nm_r (nI_1 x) (ih (x + 1) sc le cs ls ks fw _ (by omega) (by omega) (zv_Ns es hN) (zv_Os es hO) (zv_Os es hO2) (zv_Fs es hF)))
      | true =>
        refine br_f zb_10 ?_
        have hw15 : ∀ y, y < K * K * K → ∀ u, u < 3 → zx_w K kw y u < 15 := fun y hy u hu => (hK.2.1 _ (zd_wl hy)).1
        have h9 : ∀ y, sm y < 100 := fun y => by rw [hsm]; have := zw_S9 (zx_w K kw y); omega
        refine zx_note hL hK hC ?_ (fun first ls' ks' fw' g1 g2 g3 g4 g5 => nm_r (nI_1 x) (ih (x + 1) _ _ _ ls' ks' fw' _ (by omega) (by omega) ?_ ?_ ?_ ?_))
        · rcases hF with ⟨a, b⟩ | ⟨y, a, b, c, d, e⟩
          · exact Or.inl a
          · exact Or.inr ⟨sm y, zx_w K kw y, h9 y, c, fun u hu => ⟨hw15 y (by omega) u hu, d u hu⟩⟩
        · have := zv_Nt es hN
          rw [hsm x, hcn x] at this
          exact this
        · exact zv_Ot es hO g1
        · exact zv_Ot es hO2 g2
        · have es1 : zw_S (fun u => kw (zd_w K x u)) = sm x := (hsm x).symm
          have ec1 : zw_c (fun u => kw (zd_w K x u)) = code x := (hco x).symm
          unfold zx_1st at g5
          rw [es1, ec1] at g5
          rw [es1]
          cases first with
          | true =>
            refine zv_Ft1 es hF (fun y hy hys ey ef => ?_) (g3 rfl)
            rcases g5.1 rfl with q | q
            · rw [q] at ey
              exact absurd ey.symm (zf_m1 (by have := h9 y; omega))
            · have := q (sm y) (zx_w K kw y) (h9 y) ey (fun u hu => ⟨hw15 y (by omega) u hu, ef u hu⟩)
              rw [← hco y] at this
              omega
          | false =>
            rw [g4 rfl]
            obtain ⟨q1, q2⟩ := g5.2 rfl
            refine zv_Ft0 es hF q1 (fun y hy hys ey ef => ?_)
            have := q2 (sm y) (zx_w K kw y) (h9 y) ey (fun u hu => ⟨hw15 y (by omega) u hu, ef u hu⟩)
            rw [← hco y] at this
            omega
theorem zx_solve {post : SX → Prop} {bd : Nat → Int32} (hnb : nb ≤ 3) (D : zd_ok a_demandPattern a_demandSign a_demandSigns nd) (Ps : zx_Ps a_sizes a_hasEmpty a_firstSet a_lastSet a_takes a_behind pats) (hB : zx_B nb a_factor a_limit bd) (hL : zx_L a_lengthOf a_lettersOf)
    (G : ∀ K kw ko ac kwA kcA kof kaA sc le cs ls ks fw ch, zx_A pats ac 315 → zx_K ac 15 K kw ko kwA kcA kaA →
      zv_N (fun y => zd_sol pats a_demandPattern a_demandKept a_demandSign a_demandSigns bd nd nb (zx_w K kw y)) (fun y => zw_S (zx_w K kw y)) (fun y => zpr (fun u => zkc ko 15 (zd_w K y u)) 3) (K * K * K) sc cs →
      zv_O (fun y => zd_sol pats a_demandPattern a_demandKept a_demandSign a_demandSigns bd nd nb (zx_w K kw y)) (fun y u => zw_n (zx_w K kw y u)) (K * K * K) ls →
      zv_O (fun y => zd_sol pats a_demandPattern a_demandKept a_demandSign a_demandSigns bd nd nb (zx_w K kw y)) (zd_w K) (K * K * K) ks →
      zv_F (fun y => zd_sol pats a_demandPattern a_demandKept a_demandSign a_demandSigns bd nd nb (zx_w K kw y)) (fun y => zw_S (zx_w K kw y)) (fun y => zw_c (zx_w K kw y)) (zx_w K kw) (-1) (K * K * K) le fw →
      post (f_height, f_signs, nI nd, nI nb, 1, nI K, sc, le, f_found, a_sizes, a_hasEmpty, a_firstSet, a_lastSet, a_takes, a_behind, a_sign, a_demandSigns, a_demandSign, a_demandPattern, a_demandKept, a_factor, a_limit, a_lengthOf, a_lettersOf, ac, kwA, kcA, kof, kaA, cs, ls, ks, fw, a_foundSet, a_numberOf, a_stepTo, a_group, a_nextGroup, a_counts, a_isPair, a_pairQueue, ch)) :
    wpX_solve post (f_height, f_signs, nI nd, nI nb, 0, f_kinds, f_solutionCount, f_leastSum, f_found, a_sizes, a_hasEmpty, a_firstSet, a_lastSet, a_takes, a_behind, a_sign, a_demandSigns, a_demandSign, a_demandPattern, a_demandKept, a_factor, a_limit, a_lengthOf, a_lettersOf, a_action, a_kindWord, a_kindCount, a_kindOf, a_kindAction, a_countOfSum, a_lengthSet, a_kindSet, a_firstWord, a_foundSet, a_numberOf, a_stepTo, a_group, a_nextGroup, a_counts, a_isPair, a_pairQueue, a_chosen) := by
  refine br_t rfl (zx_kinds Ps hL (fun ac K kw ko kwA kcA kof kaA hA hK => ?_))
  refine loop_0 (fun n i cs => wX_solve_24 post f_height f_signs (nI nd) (nI nb) 0 (nI K) 0 (-1) f_found n (nI i) a_sizes a_hasEmpty a_firstSet a_lastSet a_takes a_behind a_sign a_demandSigns a_demandSign a_demandPattern a_demandKept a_factor a_limit a_lengthOf a_lettersOf ac kwA kcA kof kaA cs a_lengthSet a_kindSet a_firstWord a_foundSet a_numberOf a_stepTo a_group a_nextGroup a_counts a_isPair a_pairQueue a_chosen) (fun i cs => ∀ s, s < i → cs s = 0) 10 a_countOfSum (fun s h => absurd h (Nat.not_lt_zero s)) ?_ ?_
  · intro n cs h1
    show wX_solve_24 post f_height f_signs (nI nd) (nI nb) 0 (nI K) 0 (-1) f_found (n + 1) (nI 10) a_sizes a_hasEmpty a_firstSet a_lastSet a_takes a_behind a_sign a_demandSigns a_demandSign a_demandPattern a_demandKept a_factor a_limit a_lengthOf a_lettersOf ac kwA kcA kof kaA cs a_lengthSet a_kindSet a_firstWord a_foundSet a_numberOf a_stepTo a_group a_nextGroup a_counts a_isPair a_pairQueue a_chosen
    rw [wX_solve_24]
    refine br_t (by decide) ?_
    refine loop_0 (fun n i (s : (Nat → Int32) × (Nat → Int32)) => wX_solve_45 post f_height f_signs (nI nd) (nI nb) 0 (nI K) 0 (-1) f_found n (nI i) a_sizes a_hasEmpty a_firstSet a_lastSet a_takes a_behind a_sign a_demandSigns a_demandSign a_demandPattern a_demandKept a_factor a_limit a_lengthOf a_lettersOf ac kwA kcA kof kaA cs s.1 s.2 a_firstWord a_foundSet a_numberOf a_stepTo a_group a_nextGroup a_counts a_isPair a_pairQueue a_chosen) (fun i s => ∀ u, u < i → s.1 u = 0 ∧ s.2 u = 0) 3 (a_lengthSet, a_kindSet) (fun s h => absurd h (Nat.not_lt_zero s)) ?_ ?_
    · rintro n ⟨ls, ks⟩ h2
      show wX_solve_45 post f_height f_signs (nI nd) (nI nb) 0 (nI K) 0 (-1) f_found (n + 1) (nI 3) a_sizes a_hasEmpty a_firstSet a_lastSet a_takes a_behind a_sign a_demandSigns a_demandSign a_demandPattern a_demandKept a_factor a_limit a_lengthOf a_lettersOf ac kwA kcA kof kaA cs ls ks a_firstWord a_foundSet a_numberOf a_stepTo a_group a_nextGroup a_counts a_isPair a_pairQueue a_chosen
      rw [wX_solve_45]
      refine br_t (by decide) (nm_r (e' := nI (K * K * K)) (by rw [pk_mul, pk_mul]) ⟨K * K * K + 1, ?_⟩)
      exact zx_s87 (fun _ => rfl) (fun _ => rfl) (fun _ => rfl) (fun _ => rfl) hnb D Ps hB hL hA hK (fun sc le cs ls ks fw ch a b c d => G K kw ko ac kwA kcA kof kaA sc le cs ls ks fw ch hA hK a b c d) (K * K * K + 1) 0 0 (-1) cs ls ks a_firstWord a_chosen (Nat.zero_le _) (by omega) (zv_N0 h1) (zv_O0 (fun u hu => (h2 u hu).1)) (zv_O0 (fun u hu => (h2 u hu).2)) zv_F0
    · rintro n i ⟨ls, ks⟩ hi h2 K'
      show wX_solve_45 post f_height f_signs (nI nd) (nI nb) 0 (nI K) 0 (-1) f_found (n + 1) (nI i) a_sizes a_hasEmpty a_firstSet a_lastSet a_takes a_behind a_sign a_demandSigns a_demandSign a_demandPattern a_demandKept a_factor a_limit a_lengthOf a_lettersOf ac kwA kcA kof kaA cs ls ks a_firstWord a_foundSet a_numberOf a_stepTo a_group a_nextGroup a_counts a_isPair a_pairQueue a_chosen
      rw [wX_solve_45]
      refine br_f (nI_ge (b := 3) hi (by decide)) (And.intro (vp_in_nI hi (by decide)) (nm_e (And.intro (vp_in_nI hi (by decide)) (nm_e (nm_r (nI_1 i) (K' (_, _) ?_))))))
      rw [nI_clamp (show i < 2 ^ 31 by omega)]
      intro s hs
      by_cases z : s = i
      · rw [z]; exact ⟨pk_us, pk_us⟩
      · show upd ls i 0 s = 0 ∧ upd ks i 0 s = 0
        rw [pk_un z, pk_un z]; exact h2 s (by omega)
  · intro n i cs hi h1 K'
    show wX_solve_24 post f_height f_signs (nI nd) (nI nb) 0 (nI K) 0 (-1) f_found (n + 1) (nI i) a_sizes a_hasEmpty a_firstSet a_lastSet a_takes a_behind a_sign a_demandSigns a_demandSign a_demandPattern a_demandKept a_factor a_limit a_lengthOf a_lettersOf ac kwA kcA kof kaA cs a_lengthSet a_kindSet a_firstWord a_foundSet a_numberOf a_stepTo a_group a_nextGroup a_counts a_isPair a_pairQueue a_chosen
    rw [wX_solve_24]
    refine br_f (nI_ge (b := 10) hi (by decide)) (And.intro (vp_in_nI hi (by decide)) (nm_e (nm_r (nI_1 i) (K' _ ?_))))
    rw [nI_clamp (show i < 2 ^ 31 by omega)]
    intro s hs
    by_cases z : s = i
    · rw [z, pk_us]
    · rw [pk_un z]; exact h1 s (by omega)
end
end
section
/-! the law of solving: kinds and words give the same -/
section
variable {pats : Nat → PT} {pt kp sg sc bd : Nat → Int32} {nd nb : Nat}
/-- words that do the same -/
def zl_eq (pats : Nat → PT) (v w : Nat) : Prop := zw_n v = zw_n w ∧ ∀ k, k < 3 → ∀ t, zg (pats k) t → zw_r (pats k) t v = zw_r (pats k) t w
theorem zl_c {k : Nat} (hk : k < 3) (W : zp_W (pats k)) {v w : Nat → Nat} (h : ∀ u, u < 3 → zl_eq pats (v u) (w u)) (i n : Nat) : zd_c (pats k) sg i v n = zd_c (pats k) sg i w n := by
  induction n with
  | zero => rfl
  | succ n ih =>
    show (if (sg (4 * i + n)).toNatClampNeg < 3 then zw_r (pats k) (zd_c (pats k) sg i v n) (v (sg (4 * i + n)).toNatClampNeg) else zp_d (pats k) (zd_c (pats k) sg i v n) ((sg (4 * i + n)).toNatClampNeg - 3)) = (if (sg (4 * i + n)).toNatClampNeg < 3 then zw_r (pats k) (zd_c (pats k) sg i w n) (w (sg (4 * i + n)).toNatClampNeg) else zp_d (pats k) (zd_c (pats k) sg i w n) ((sg (4 * i + n)).toNatClampNeg - 3))
    rw [ih]
    by_cases c : (sg (4 * i + n)).toNatClampNeg < 3
    · rw [if_pos c, if_pos c]
      exact (h _ c).2 k hk _ (zd_cg W sg i w n)
    · rw [if_neg c, if_neg c]
theorem zl_sol (hW : ∀ k, k < 3 → zp_W (pats k)) (D : zd_ok pt sg sc nd) {v w : Nat → Nat} (h : ∀ u, u < 3 → zl_eq pats (v u) (w u)) : zd_sol pats pt kp sg sc bd nd nb v = zd_sol pats pt kp sg sc bd nd nb w := by
  unfold zd_sol
  congr 1
  · apply za_c
    intro b _
    unfold zd_b
    rw [zs_congr (f := fun u => bd (4 * b + u) * nI (zw_n (v u))) (g := fun u => bd (4 * b + u) * nI (zw_n (w u))) (fun u hu => by rw [(h u hu).1])]
  · apply za_c
    intro i hi
    obtain ⟨⟨k, hk, ek⟩, _⟩ := D.2 i hi
    unfold zd_k
    rw [ek, nI_clamp (show k < 2 ^ 31 by omega), zl_c hk (hW k hk) h]
theorem zl_r (pats : Nat → PT) (w : Nat) : zl_eq pats w w := ⟨rfl, fun _ _ _ _ => rfl⟩
variable {K : Nat} {kw ko : Nat → Nat} {ac kwA kcA kaA : Nat → Int32}
theorem zl_rep (hW : ∀ k, k < 3 → zp_W (pats k)) (hA : zx_A pats ac 315) (hK : zx_K ac 15 K kw ko kwA kcA kaA) {w : Nat} (hw : w < 15) : zl_eq pats (kw (ko w)) w := by
  obtain ⟨h1, h2, h3, h4⟩ := hK.2.2 w hw
  refine ⟨h3, fun k hk t G => ?_⟩
  have W := hW k hk
  have hn := W.1
  apply zu_inj (zw_g W G _).1 (zw_g W G _).1
  rw [← zw_lin W G.1, ← zw_lin W G.1]
  apply zo_congr
  intro s hs
  by_cases c : (zu t).testBit s = true
  · rw [if_pos c, if_pos c]
    have hsn : s ≤ zp_n (pats k) := by
      cases s with
      | zero => omega
      | succ s =>
        rw [zu_bs G.1, Bool.and_eq_true] at c
        exact G.2 s (of_decide_eq_true c.1) c.2
    obtain ⟨a, ha, ea, ga⟩ := hA (kw (ko w)) (7 * k + s) (by omega) (by omega)
    obtain ⟨b, hb, eb, gb⟩ := hA w (7 * k + s) (by omega) (by omega)
    rw [show (7 * k + s) / 7 = k by omega, show (7 * k + s) % 7 = s by omega] at ga gb
    rw [h4 (7 * k + s) (by omega), eb] at ea
    rw [← ga hsn, ← gb hsn]
    exact ((nI_eq (by omega) (by omega)).mp ea).symm
  · rw [if_neg c, if_neg c]
theorem zl_kw (hK : zx_K ac 15 K kw ko kwA kcA kaA) {k : Nat} (hk : k < K) : kw k < 15 := (hK.2.1 k hk).1
/-- from a try of words to one of kinds, and back -/
def zl_f (K : Nat) (ko : Nat → Nat) (y : Nat) : Nat := (ko (zd_w 15 y 0) * K + ko (zd_w 15 y 1)) * K + ko (zd_w 15 y 2)
def zl_g (w : Nat → Nat) : Nat := (w 0 * 15 + w 1) * 15 + w 2
theorem zl_fd (hK : zx_K ac 15 K kw ko kwA kcA kaA) {y : Nat} (hy : y < 3375) : zl_f K ko y < K * K * K ∧ ∀ u, u < 3 → zd_w K (zl_f K ko y) u = ko (zd_w 15 y u) := by
  have h := fun u hu => (hK.2.2 (zd_w 15 y u) (zd_w15 hy u hu)).1
  obtain ⟨a, b, c, d⟩ := zd_dig (h 0 (by omega)) (h 1 (by omega)) (h 2 (by omega))
  exact ⟨a, zu3 b c d⟩
theorem zl_gd {w : Nat → Nat} (h : ∀ u, u < 3 → w u < 15) : zl_g w < 3375 ∧ ∀ u, u < 3 → zd_w 15 (zl_g w) u = w u := by
  obtain ⟨a, b, c, d⟩ := zd_dig (h 0 (by omega)) (h 1 (by omega)) (h 2 (by omega))
  exact ⟨a, zu3 b c d⟩
theorem zl_gc (w : Nat → Nat) : zl_g w = zw_c w := by unfold zl_g zw_c; omega
theorem zl_y {y : Nat} : zw_c (zd_w 15 y) = y := by
  unfold zw_c
  rw [zd_w0, zd_w1, zd_w2]; omega
theorem zl_x (K x : Nat) : (zd_w K x 0 * K + zd_w K x 1) * K + zd_w K x 2 = x := by
  rw [zd_w0, zd_w1, zd_w2, ← Nat.div_div_eq_div_mul, Nat.div_add_mod', Nat.div_add_mod']
theorem zl_S {v w : Nat → Nat} (h : ∀ u, u < 3 → zw_n (v u) = zw_n (w u)) : zw_S v = zw_S w := zn_congr (fun u hu => h u hu)
/-- the two sides' tries, by words alone -/
theorem zl_fso (hW : ∀ k, k < 3 → zp_W (pats k)) (D : zd_ok pt sg sc nd) (hA : zx_A pats ac 315) (hK : zx_K ac 15 K kw ko kwA kcA kaA) {y : Nat} (hy : y < 3375) :
    zd_sol pats pt kp sg sc bd nd nb (zx_w K kw (zl_f K ko y)) = zd_sol pats pt kp sg sc bd nd nb (zd_w 15 y) ∧ zw_S (zx_w K kw (zl_f K ko y)) = zw_S (zd_w 15 y) ∧ zw_c (zx_w K kw (zl_f K ko y)) ≤ y := by
  obtain ⟨h1, h2⟩ := zl_fd hK hy
  have key : ∀ u, u < 3 → zl_eq pats (zx_w K kw (zl_f K ko y) u) (zd_w 15 y u) := fun u hu => by
    unfold zx_w
    rw [h2 u hu]
    exact zl_rep hW hA hK (zd_w15 hy u hu)
  refine ⟨zl_sol hW D key, zl_S (fun u hu => (key u hu).1), ?_⟩
  have le : ∀ u, u < 3 → zx_w K kw (zl_f K ko y) u ≤ zd_w 15 y u := fun u hu => by
    unfold zx_w
    rw [h2 u hu]
    exact (hK.2.2 _ (zd_w15 hy u hu)).2.1
  have l0 := le 0 (by omega)
  have l1 := le 1 (by omega)
  have l2 := le 2 (by omega)
  have e := zl_y (y := y)
  unfold zw_c at e ⊢
  omega
theorem zl_gso (hW : ∀ k, k < 3 → zp_W (pats k)) (D : zd_ok pt sg sc nd) {w : Nat → Nat} (h : ∀ u, u < 3 → w u < 15) : zd_sol pats pt kp sg sc bd nd nb (zd_w 15 (zl_g w)) = zd_sol pats pt kp sg sc bd nd nb w ∧ zw_S (zd_w 15 (zl_g w)) = zw_S w := by
  have key := (zl_gd h).2
  exact ⟨zl_sol hW D (fun u hu => by rw [key u hu]; exact zl_r pats _), zl_S (fun u hu => by rw [key u hu])⟩
theorem zl_xw (hK : zx_K ac 15 K kw ko kwA kcA kaA) {x : Nat} (hx : x < K * K * K) : ∀ u, u < 3 → zx_w K kw x u < 15 := fun u _ => zl_kw hK (zd_wl hx)
/-- counts -/
theorem zl_cnt (hW : ∀ k, k < 3 → zp_W (pats k)) (D : zd_ok pt sg sc nd) (hA : zx_A pats ac 315) (hK : zx_K ac 15 K kw ko kwA kcA kaA) (q : Nat → Bool) :
    zn (fun y => if zd_sol pats pt kp sg sc bd nd nb (zd_w 15 y) && q (zw_S (zd_w 15 y)) then 1 else 0) 3375 = zn (fun x => if zd_sol pats pt kp sg sc bd nd nb (zx_w K kw x) && q (zw_S (zx_w K kw x)) then zpr (fun u => zkc ko 15 (zd_w K x u)) 3 else 0) (K * K * K) := by
  have hKp : 0 < K := Nat.lt_of_le_of_lt (Nat.zero_le _) (hK.2.2 0 (by omega)).1
  have h := zn_tot hKp (fun w hw => (hK.2.2 w hw).1) (fun a b c => if zd_sol pats pt kp sg sc bd nd nb (zx_w K kw ((a * K + b) * K + c)) && q (zw_S (zx_w K kw ((a * K + b) * K + c))) then 1 else 0)
  refine Eq.trans (zn_congr (fun y hy => ?_)) (h.trans (zn_congr (fun x hx => ?_)))
  · obtain ⟨a, b, _⟩ := zl_fso (kp := kp) (bd := bd) (nb := nb) hW D hA hK hy
    unfold zl_f at a b
    rw [zd_w0, zd_w1, zd_w2] at a b
    rw [show 15 * 15 = 225 from rfl] at a b
    rw [a, b]
  · have e := zl_x K x
    rw [zd_w0, zd_w1, zd_w2] at e
    rw [e]
    by_cases c : (zd_sol pats pt kp sg sc bd nd nb (zx_w K kw x) && q (zw_S (zx_w K kw x))) = true
    · rw [if_pos c, if_pos c, Nat.mul_one]
      show _ = 1 * zkc ko 15 (zd_w K x 0) * zkc ko 15 (zd_w K x 1) * zkc ko 15 (zd_w K x 2)
      rw [Nat.one_mul]; rfl
    · rw [if_neg c, if_neg c, Nat.mul_zero]
end
theorem zl_obit {so : Nat → Bool} {d : Nat → Nat} {n j : Nat} : (zo (fun y => if so y then 2 ^ d y else 0) n).testBit j = true ↔ ∃ y, y < n ∧ so y = true ∧ d y = j := by
  rw [zo_bit]
  constructor
  · rintro ⟨y, hy, h⟩
    by_cases c : so y = true
    · rw [if_pos c, Nat.testBit_two_pow] at h
      exact ⟨y, hy, c, of_decide_eq_true h⟩
    · rw [if_neg c, Nat.zero_testBit] at h; exact absurd h (by decide)
  · rintro ⟨y, hy, c, h⟩
    refine ⟨y, hy, ?_⟩
    rw [if_pos c, Nat.testBit_two_pow]; exact decide_eq_true h
theorem zl_olt {so : Nat → Bool} {d : Nat → Nat} {n b : Nat} (h : ∀ y, y < n → d y < b) : zo (fun y => if so y then 2 ^ d y else 0) n < 2 ^ b := by
  apply zo_lt
  intro y hy
  by_cases c : so y = true
  · rw [if_pos c]; exact Nat.pow_lt_pow_right (by decide) (h y hy)
  · rw [if_neg c]; exact Nat.two_pow_pos _
/-- what the two sides keep of a solving -/
def zC (sc le kn : Int32) (kc cs ls ks fw : Nat → Int32) (fo : Int32) (su mt fy : Nat → Int32) : Prop :=
  fo = sc ∧ (∀ s, s < 10 → su s = cs s) ∧ (le = -1 ↔ fo = 0) ∧ (¬ fo = 0 → ∀ u, u < 3 → ∃ w, w < 15 ∧ fw u = nI w ∧ fy u = nI w) ∧
  ∃ (K : Nat) (c : Nat → Nat), K ≤ 15 ∧ kn = nI K ∧ (∀ k, k < K → kc k = nI (c k)) ∧ ∀ u, u < 3 → ∃ S M : Nat, S < 2 ^ 15 ∧ M < 2 ^ 15 ∧ ks u = nI S ∧ mt u = nI M ∧ ls u = nI (zo (fun w => if M.testBit w then 2 ^ zw_n w else 0) 15) ∧ zn (fun k => if S.testBit k then c k else 0) K = zn (fun w => if M.testBit w then 1 else 0) 15
theorem zl_law {pats : Nat → PT} {pt kp sg sc bd : Nat → Int32} {nd nb K : Nat} {kw ko : Nat → Nat} {ac kwA kcA kaA cs ls ks fw su mt fy : Nat → Int32} {cX le fo ly : Int32}
    (hW : ∀ k, k < 3 → zp_W (pats k)) (D : zd_ok pt sg sc nd) (hA : zx_A pats ac 315) (hK : zx_K ac 15 K kw ko kwA kcA kaA)
    (xN : zv_N (fun y => zd_sol pats pt kp sg sc bd nd nb (zx_w K kw y)) (fun y => zw_S (zx_w K kw y)) (fun y => zpr (fun u => zkc ko 15 (zd_w K y u)) 3) (K * K * K) cX cs)
    (xO : zv_O (fun y => zd_sol pats pt kp sg sc bd nd nb (zx_w K kw y)) (fun y u => zw_n (zx_w K kw y u)) (K * K * K) ls)
    (xO2 : zv_O (fun y => zd_sol pats pt kp sg sc bd nd nb (zx_w K kw y)) (zd_w K) (K * K * K) ks)
    (xF : zv_F (fun y => zd_sol pats pt kp sg sc bd nd nb (zx_w K kw y)) (fun y => zw_S (zx_w K kw y)) (fun y => zw_c (zx_w K kw y)) (zx_w K kw) (-1) (K * K * K) le fw)
    (yN : zv_N (fun y => zd_sol pats pt kp sg sc bd nd nb (zd_w 15 y)) (fun y => zw_S (zd_w 15 y)) (fun _ => 1) 3375 fo su)
    (yO : zv_O (fun y => zd_sol pats pt kp sg sc bd nd nb (zd_w 15 y)) (zd_w 15) 3375 mt)
    (yF : zv_F (fun y => zd_sol pats pt kp sg sc bd nd nb (zd_w 15 y)) (fun y => zw_S (zd_w 15 y)) id (zd_w 15) 100 3375 ly fy) :
    zC cX le (nI K) kcA cs ls ks fw fo su mt fy := by
  have hK15 := hK.1
  dsimp only [zv_N] at xN yN
  dsimp only [zv_O] at xO xO2 yO
  dsimp only [zv_F, id] at xF yF
  have hcnt := fun q => zl_cnt (kp := kp) (bd := bd) (nb := nb) hW D hA hK q
  have hfs := fun y hy => zl_fso (kp := kp) (bd := bd) (nb := nb) hW D hA hK (y := y) hy
  have hgs := fun w h => zl_gso (kp := kp) (bd := bd) (nb := nb) hW D (w := w) h
  have hle : zn (fun y => if zd_sol pats pt kp sg sc bd nd nb (zd_w 15 y) then 1 else 0) 3375 ≤ 3375 * 1 := zn_le (fun y _ => by
    by_cases c : zd_sol pats pt kp sg sc bd nd nb (zd_w 15 y) = true
    · rw [if_pos c]; exact Nat.le_refl _
    · rw [if_neg c]; exact Nat.zero_le _)
  have hfo0 : fo = 0 ↔ ∀ y, y < 3375 → zd_sol pats pt kp sg sc bd nd nb (zd_w 15 y) = false := by
    rw [yN.1]
    constructor
    · intro z y hy
      have z' := (nI_eq (b := 0) (by omega) (by decide)).mp z
      have := zn_e0 z' y hy
      cases e : zd_sol pats pt kp sg sc bd nd nb (zd_w 15 y) with
      | false => rfl
      | true => rw [if_pos e] at this; exact absurd this (by decide)
    · intro z
      rw [zn_0 (fun y hy => if_neg (fun q => by rw [z y hy] at q; exact absurd q (by decide)))]; rfl
  have hnx : (∀ y, y < 3375 → zd_sol pats pt kp sg sc bd nd nb (zd_w 15 y) = false) ↔ ∀ x, x < K * K * K → zd_sol pats pt kp sg sc bd nd nb (zx_w K kw x) = false := by
    constructor
    · intro h x hx
      have hl := zl_xw hK hx
      rw [← (hgs _ hl).1]
      exact h _ (zl_gd hl).1
    · intro h y hy
      rw [← (hfs y hy).1]
      exact h _ (zl_fd hK hy).1
  refine ⟨?_, ?_, ?_, ?_, K, zkc ko 15, hK15, rfl, fun k hk => (hK.2.1 k hk).2.2.1, fun u hu => ?_⟩
  · rw [xN.1, yN.1]
    have := hcnt (fun _ => true)
    simp only [Bool.and_true] at this
    rw [this]
  · intro s hs
    rw [xN.2 s hs, yN.2 s hs]
    exact congrArg nI (hcnt (fun z => z == s))
  · rw [hfo0, hnx]
    rcases xF with ⟨a, b⟩ | ⟨x, a, b, c, d, e⟩
    · exact ⟨fun _ => b, fun _ => a⟩
    · constructor
      · intro z
        rw [z] at c
        have := zw_S9 (zx_w K kw x)
        exact absurd c.symm (zf_m1 (by omega))
      · intro z
        rw [z x a] at b; exact absurd b (by decide)
  · intro hne
    rcases yF with ⟨_, b⟩ | ⟨y, ya, yb, yc, yd, ye⟩
    · exact absurd (hfo0.mpr b) hne
    · rcases xF with ⟨_, b⟩ | ⟨x, xa, xb, xc, xd, xe⟩
      · exact absurd (hfo0.mpr (hnx.mpr b)) hne
      · have hl := zl_xw hK xa
        obtain ⟨g1, g2⟩ := hgs _ hl
        obtain ⟨g3, g4⟩ := zl_gd hl
        obtain ⟨f1, f2, f3⟩ := hfs y ya
        have h1 := ye (zl_g (zx_w K kw x)) g3 (by rw [g1]; exact xb)
        have h2 := xe (zl_f K ko y) (zl_fd hK ya).1 (by rw [f1]; exact yb)
        rw [g2] at h1
        rw [f2] at h2
        have e1 : zl_g (zx_w K kw x) = y := by
          have := zl_gc (zx_w K kw x)
          omega
        intro u hu
        refine ⟨zd_w 15 y u, zd_w15 ya u hu, ?_, yd u hu⟩
        rw [xd u hu, ← g4 u hu, e1]
  · have mbit : ∀ j, (zo (fun y => if zd_sol pats pt kp sg sc bd nd nb (zd_w 15 y) then 2 ^ zd_w 15 y u else 0) 3375).testBit j = true ↔ ∃ y, y < 3375 ∧ zd_sol pats pt kp sg sc bd nd nb (zd_w 15 y) = true ∧ zd_w 15 y u = j := fun j => zl_obit
    have sbit : ∀ j, (zo (fun y => if zd_sol pats pt kp sg sc bd nd nb (zx_w K kw y) then 2 ^ zd_w K y u else 0) (K * K * K)).testBit j = true ↔ ∃ y, y < K * K * K ∧ zd_sol pats pt kp sg sc bd nd nb (zx_w K kw y) = true ∧ zd_w K y u = j := fun j => zl_obit
    refine ⟨_, _, zl_olt (fun y hy => Nat.lt_of_lt_of_le (zd_wl hy) hK15), zl_olt (fun y hy => zd_w15 hy u hu), xO2 u hu, yO u hu, ?_, ?_⟩
    · rw [xO u hu]
      apply congrArg nI
      apply zb_bext
      intro l
      rw [zl_obit (d := fun y => zw_n (zx_w K kw y u)), zl_obit (so := fun w => (zo (fun y => if zd_sol pats pt kp sg sc bd nd nb (zd_w 15 y) then 2 ^ zd_w 15 y u else 0) 3375).testBit w)]
      constructor
      · rintro ⟨x, hx, hs, hl⟩
        have hlt := zl_xw hK hx
        refine ⟨zx_w K kw x u, hlt u hu, (mbit _).mpr ⟨zl_g (zx_w K kw x), (zl_gd hlt).1, ?_, (zl_gd hlt).2 u hu⟩, hl⟩
        rw [(hgs _ hlt).1]; exact hs
      · rintro ⟨w, hw, hm, hl⟩
        obtain ⟨y, hy, hs, ey⟩ := (mbit w).mp hm
        refine ⟨zl_f K ko y, (zl_fd hK hy).1, ?_, ?_⟩
        · rw [(hfs y hy).1]; exact hs
        · show zw_n (kw (zd_w K (zl_f K ko y) u)) = l
          rw [(zl_fd hK hy).2 u hu, ey, (hK.2.2 w hw).2.2.1]; exact hl
    · have hb : ∀ w, w < 15 → ((zo (fun y => if zd_sol pats pt kp sg sc bd nd nb (zx_w K kw y) then 2 ^ zd_w K y u else 0) (K * K * K)).testBit (ko w) = (zo (fun y => if zd_sol pats pt kp sg sc bd nd nb (zd_w 15 y) then 2 ^ zd_w 15 y u else 0) 3375).testBit w) := by
        intro w hw
        have iff : (zo (fun y => if zd_sol pats pt kp sg sc bd nd nb (zx_w K kw y) then 2 ^ zd_w K y u else 0) (K * K * K)).testBit (ko w) = true ↔ (zo (fun y => if zd_sol pats pt kp sg sc bd nd nb (zd_w 15 y) then 2 ^ zd_w 15 y u else 0) 3375).testBit w = true := by
          rw [sbit, mbit]
          constructor
          · rintro ⟨x, hx, hs, ex⟩
            have hlt := zl_xw hK hx
            have ht : ∀ v, v < 3 → zf_u (zx_w K kw x) u w v < 15 := fun v hv => by
              by_cases z : v = u
              · rw [z, zf_us]; exact hw
              · rw [zf_un z]; exact hlt v hv
            refine ⟨zl_g (zf_u (zx_w K kw x) u w), (zl_gd ht).1, ?_, ?_⟩
            · rw [(hgs _ ht).1, ← hs]
              refine zl_sol hW D (fun v hv => ?_)
              by_cases z : v = u
              · rw [z, zf_us]
                show zl_eq pats w (kw (zd_w K x u))
                rw [ex]
                have := zl_rep hW hA hK hw
                exact ⟨this.1.symm, fun k hk t G => (this.2 k hk t G).symm⟩
              · rw [zf_un z]; exact zl_r pats _
            · rw [(zl_gd ht).2 u hu, zf_us]
          · rintro ⟨y, hy, hs, ey⟩
            refine ⟨zl_f K ko y, (zl_fd hK hy).1, ?_, ?_⟩
            · rw [(hfs y hy).1]; exact hs
            · rw [(zl_fd hK hy).2 u hu, ey]
        cases e1 : (zo (fun y => if zd_sol pats pt kp sg sc bd nd nb (zx_w K kw y) then 2 ^ zd_w K y u else 0) (K * K * K)).testBit (ko w) with
        | true => exact (iff.mp e1).symm
        | false =>
          cases e2 : (zo (fun y => if zd_sol pats pt kp sg sc bd nd nb (zd_w 15 y) then 2 ^ zd_w 15 y u else 0) 3375).testBit w with
          | false => rfl
          | true => rw [iff.mpr e2] at e1; exact absurd e1 (by decide)
      have h := zn_kind (ko := ko) (K := K) (fun k => if (zo (fun y => if zd_sol pats pt kp sg sc bd nd nb (zx_w K kw y) then 2 ^ zd_w K y u else 0) (K * K * K)).testBit k then 1 else 0) 15 (fun w hw => (hK.2.2 w hw).1)
      refine Eq.trans (zn_congr (fun k hk => ?_)) (h.symm.trans (zn_congr (fun w hw => ?_)))
      · by_cases c : (zo (fun y => if zd_sol pats pt kp sg sc bd nd nb (zx_w K kw y) then 2 ^ zd_w K y u else 0) (K * K * K)).testBit k = true
        · rw [if_pos c, if_pos c, Nat.mul_one]
        · rw [if_neg c, if_neg c, Nat.mul_zero]
      · rw [hb w hw]
end
section
/-! X: patterns built -/
/-- the same but for slot s0 -/
def zo_1 (s0 : Nat) (a a' : Nat → Int32) : Prop := ∀ s, s ≠ s0 → a' s = a s
def zo_6 (s0 : Nat) (a a' : Nat → Int32) : Prop := ∀ s p, s ≠ s0 → p < 6 → a' (6 * s + p) = a (6 * s + p)
theorem zo_1u {s0 : Nat} {a : Nat → Int32} {v : Int32} : zo_1 s0 a (upd a s0 v) := fun s h => pk_un h
theorem zo_6u {s0 q : Nat} {a : Nat → Int32} {v : Int32} (hq : q < 6) : zo_6 s0 a (upd a (6 * s0 + q) v) := fun s p h hp => pk_un (by omega)
theorem zo_6r (s0 : Nat) (a : Nat → Int32) : zo_6 s0 a a := fun _ _ _ _ => rfl
theorem zo_6t {s0 : Nat} {a b c : Nat → Int32} (h : zo_6 s0 a b) (g : zo_6 s0 b c) : zo_6 s0 a c := fun s p hs hp => (g s p hs hp).trans (h s p hs hp)
def zx_off (s0 : Nat) (a1 a2 a3 a4 a5 a6 b1 b2 b3 b4 b5 b6 : Nat → Int32) : Prop := zo_1 s0 a1 b1 ∧ zo_1 s0 a2 b2 ∧ zo_1 s0 a3 b3 ∧ zo_1 s0 a4 b4 ∧ zo_6 s0 a5 b5 ∧ zo_6 s0 a6 b6
theorem zx_Pf {s0 s : Nat} {P : PT} {a1 a2 a3 a4 a5 a6 b1 b2 b3 b4 b5 b6 : Nat → Int32} (O : zx_off s0 a1 a2 a3 a4 a5 a6 b1 b2 b3 b4 b5 b6) (hs : s ≠ s0) (W : zp_W P) (H : zx_P a1 a2 a3 a4 a5 a6 s P) : zx_P b1 b2 b3 b4 b5 b6 s P := by
  obtain ⟨o1, o2, o3, o4, o5, o6⟩ := O
  have hn := W.1
  exact ⟨(o1 s hs).trans H.1, (o2 s hs).trans H.2.1, (o3 s hs).trans H.2.2.1, (o4 s hs).trans H.2.2.2.1, fun p hp => ⟨(o5 s p hs (by omega)).trans (H.2.2.2.2 p hp).1, (o6 s p hs (by omega)).trans (H.2.2.2.2 p hp).2⟩⟩
theorem zy_Pf {s0 s : Nat} {P : PT} {a1 a2 a3 a4 a5 a6 b1 b2 b3 b4 b5 b6 : Nat → Int32} (O : zx_off s0 a1 a2 a3 a4 a5 a6 b1 b2 b3 b4 b5 b6) (hs : s ≠ s0) (W : zp_W P) (H : zy_P a1 a2 a3 a4 a5 a6 s P) : zy_P b1 b2 b3 b4 b5 b6 s P := by
  obtain ⟨o1, o2, o3, o4, o5, o6⟩ := O
  have hn := W.1
  exact ⟨(o1 s hs).trans H.1, (o2 s hs).trans H.2.1, (o3 s hs).trans H.2.2.1, (o4 s hs).trans H.2.2.2.1, fun p hp => ⟨(o5 s p hs (by omega)).trans (H.2.2.2.2 p hp).1, (o6 s p hs (by omega)).trans (H.2.2.2.2 p hp).2⟩⟩
theorem zb_60 (s : Nat) : (6 : Int32) * nI s = nI (6 * s) := pk_mul 6 s
section
variable {f_height f_signs f_demands f_bounds f_isSolved f_kinds f_solutionCount f_leastSum f_found : Int32} {a_sizes a_hasEmpty a_firstSet a_lastSet a_takes a_behind a_sign a_demandSigns a_demandSign a_demandPattern a_demandKept a_factor a_limit a_lengthOf a_lettersOf a_action a_kindWord a_kindCount a_kindOf a_kindAction a_countOfSum a_lengthSet a_kindSet a_firstWord a_foundSet a_numberOf a_stepTo a_group a_nextGroup a_counts a_isPair a_pairQueue a_chosen : Nat → Int32}
theorem zx_simple {post : Int32 → SX → Prop} {h w : Nat} (hh : h < 5) (hw : w ≤ 3)
    (G : ∀ si he fi la tk bh, zx_off (3 + h) a_sizes a_hasEmpty a_firstSet a_lastSet a_takes a_behind si he fi la tk bh → zx_P si he fi la tk bh (3 + h) (zp_simple w) → post (nI (h + 1)) (nI (h + 1), f_signs, f_demands, f_bounds, f_isSolved, f_kinds, f_solutionCount, f_leastSum, f_found, si, he, fi, la, tk, bh, a_sign, a_demandSigns, a_demandSign, a_demandPattern, a_demandKept, a_factor, a_limit, a_lengthOf, a_lettersOf, a_action, a_kindWord, a_kindCount, a_kindOf, a_kindAction, a_countOfSum, a_lengthSet, a_kindSet, a_firstWord, a_foundSet, a_numberOf, a_stepTo, a_group, a_nextGroup, a_counts, a_isPair, a_pairQueue, a_chosen)) :
    wpX_simple post (nI h, f_signs, f_demands, f_bounds, f_isSolved, f_kinds, f_solutionCount, f_leastSum, f_found, a_sizes, a_hasEmpty, a_firstSet, a_lastSet, a_takes, a_behind, a_sign, a_demandSigns, a_demandSign, a_demandPattern, a_demandKept, a_factor, a_limit, a_lengthOf, a_lettersOf, a_action, a_kindWord, a_kindCount, a_kindOf, a_kindAction, a_countOfSum, a_lengthSet, a_kindSet, a_firstWord, a_foundSet, a_numberOf, a_stepTo, a_group, a_nextGroup, a_counts, a_isPair, a_pairQueue, a_chosen) (nI w) := by
  have hin : vp_in (nI (3 + h)) 8 := vp_in_nI (by omega) (by decide)
  have hcl : (nI (3 + h)).toNatClampNeg = 3 + h := nI_clamp (by omega)
  have hin6 : vp_in (nI (6 * (3 + h))) 48 := vp_in_nI (by omega) (by decide)
  have hcl6 : (nI (6 * (3 + h))).toNatClampNeg = 6 * (3 + h) := nI_clamp (by omega)
  -- the last join
  have k111 : ∀ (a_sizes' a_hasEmpty' a_firstSet' a_lastSet' : Nat → Int32) (z0 : Int32), zo_1 (3 + h) a_sizes a_sizes' → zo_1 (3 + h) a_hasEmpty a_hasEmpty' → zo_1 (3 + h) a_firstSet a_firstSet' → zo_1 (3 + h) a_lastSet a_lastSet' →
      (∀ tk bh, tk (6 * (3 + h)) = z0 → bh (6 * (3 + h)) = 0 → zx_P a_sizes' a_hasEmpty' a_firstSet' a_lastSet' tk bh (3 + h) (zp_simple w)) → wX_simple_111 post (nI (3 + h)) z0 (6 * nI (3 + h)) (nI h) f_signs f_demands f_bounds f_isSolved f_kinds f_solutionCount f_leastSum f_found a_sizes' a_hasEmpty' a_firstSet' a_lastSet' a_takes a_behind a_sign a_demandSigns a_demandSign a_demandPattern a_demandKept a_factor a_limit a_lengthOf a_lettersOf a_action a_kindWord a_kindCount a_kindOf a_kindAction a_countOfSum a_lengthSet a_kindSet a_firstWord a_foundSet a_numberOf a_stepTo a_group a_nextGroup a_counts a_isPair a_pairQueue a_chosen := by
    intro si he fi la z0 o1 o2 o3 o4 hP
    rw [wX_simple_111, zb_60, hcl6]
    refine And.intro hin6 (nm_e (And.intro hin6 (nm_e (nm_r (nI_1 h) (G si he fi la _ _ ⟨o1, o2, o3, o4, ?_, ?_⟩ (hP _ _ pk_us pk_us))))))
    · exact zo_6u (q := 0) (by omega)
    · exact zo_6u (q := 0) (by omega)
  have fin : ∀ (si he fi la : Nat → Int32), si (3 + h) = nI (zp_n (zp_simple w)) → he (3 + h) = zb_i (zp_e (zp_simple w)) → fi (3 + h) = nI (zp_F (zp_simple w)) → la (3 + h) = nI (zp_L (zp_simple w)) → ∀ tk bh, tk (6 * (3 + h)) = nI (zt w) → bh (6 * (3 + h)) = 0 → zx_P si he fi la tk bh (3 + h) (zp_simple w) := by
    intro si he fi la e1 e2 e3 e4 tk bh e5 e6
    refine ⟨e1, e2, e3, e4, fun p hp => ?_⟩
    unfold zp_simple at hp ⊢
    by_cases c : w = 3
    · rw [if_pos c] at hp; exact absurd hp (Nat.not_lt_zero p)
    · rw [if_neg c] at hp ⊢
      have hp' : p < 1 := hp
      have : p = 0 := by omega
      subst this
      exact ⟨e5, e6⟩
  unfold wpX_simple
  try dsimp only
  refine br_f (nI_pos (by omega)) (br_t (nI_le (b := 3) hw (by decide)) (br_f (fun z => by have := (nI_eq (b := 5) (by omega) (by decide)).mp z; omega) (nm_r (e' := nI (3 + h)) (nI_add 3 h) ?_)))
  by_cases c : w = 3
  · subst c
    refine br_t rfl ?_
    rw [wX_simple_44, hcl]
    refine And.intro hin (nm_e (br_t rfl ?_))
    rw [wX_simple_60, hcl]
    refine And.intro hin (nm_e (br_t rfl ?_))
    rw [wX_simple_76, hcl]
    refine And.intro hin (nm_e (And.intro hin (And.intro hin (nm_e (br_f (by decide) ?_)))))
    refine k111 _ _ _ _ _ zo_1u zo_1u zo_1u zo_1u ?_
    have ht : ((1 : Int32) <<< ((nI 3 &&& 1) &&& 31)) = nI 2 := by decide
    intro tk bh e5 e6
    exact ⟨pk_us, pk_us, pk_us, (pk_us.trans pk_us : _), fun p hp => absurd hp (Nat.not_lt_zero p)⟩
  · have c3 : ¬ nI w = 3 := fun z => c ((nI_eq (b := 3) (by omega) (by decide)).mp z)
    have e : zp_simple w = (1, false, 1, 1, fun _ => w, fun _ => 0) := by unfold zp_simple; rw [if_neg c]
    refine br_f c3 ?_
    rw [wX_simple_44, hcl]
    refine And.intro hin (nm_e (br_f c3 ?_))
    rw [wX_simple_60, hcl]
    refine And.intro hin (nm_e (br_f c3 ?_))
    rw [wX_simple_76, hcl]
    refine And.intro hin (nm_e (And.intro hin (And.intro hin (nm_e (pk_eq w 2 (fun z => ?_) (fun z => ?_))))))
    · refine k111 _ _ _ _ _ zo_1u zo_1u zo_1u zo_1u (fun tk bh e5 e6 => fin _ _ _ _ ?_ ?_ ?_ ?_ tk bh ?_ e6)
      · rw [pk_us, e]; rfl
      · rw [pk_us, e]; rfl
      · rw [pk_us, e]; rfl
      · rw [pk_us, pk_us, e]; rfl
      · rw [e5, z]; rfl
    · refine k111 _ _ _ _ _ zo_1u zo_1u zo_1u zo_1u (fun tk bh e5 e6 => fin _ _ _ _ ?_ ?_ ?_ ?_ tk bh ?_ e6)
      · rw [pk_us, e]; rfl
      · rw [pk_us, e]; rfl
      · rw [pk_us, e]; rfl
      · rw [pk_us, pk_us, e]; rfl
      · rw [e5]
        rcases (show w = 0 ∨ w = 1 by omega) with q | q <;> rw [q] <;> decide
/-- a slot's places copied behind those of another -/
theorem zx_copy {post : SX → Prop} {q p sh : Nat} {Q : PT} (hq : q < 8) (hp : p < 8) (hqp : q ≠ p) (V : zp_W Q) (hsh : sh + zp_n Q ≤ 6) (H : zx_P a_sizes a_hasEmpty a_firstSet a_lastSet a_takes a_behind q Q)
    (G : ∀ tk bh, (∀ j, j < 6 * p + sh ∨ 6 * p + sh + zp_n Q ≤ j → tk j = a_takes j ∧ bh j = a_behind j) → (∀ i, i < zp_n Q → tk (6 * p + sh + i) = nI (zt (zp_l Q i)) ∧ bh (6 * p + sh + i) = nI (zp_B Q i * 2 ^ sh)) → post (f_height, f_signs, f_demands, f_bounds, f_isSolved, f_kinds, f_solutionCount, f_leastSum, f_found, a_sizes, a_hasEmpty, a_firstSet, a_lastSet, tk, bh, a_sign, a_demandSigns, a_demandSign, a_demandPattern, a_demandKept, a_factor, a_limit, a_lengthOf, a_lettersOf, a_action, a_kindWord, a_kindCount, a_kindOf, a_kindAction, a_countOfSum, a_lengthSet, a_kindSet, a_firstWord, a_foundSet, a_numberOf, a_stepTo, a_group, a_nextGroup, a_counts, a_isPair, a_pairQueue, a_chosen)) :
    wpX_copySlot post (f_height, f_signs, f_demands, f_bounds, f_isSolved, f_kinds, f_solutionCount, f_leastSum, f_found, a_sizes, a_hasEmpty, a_firstSet, a_lastSet, a_takes, a_behind, a_sign, a_demandSigns, a_demandSign, a_demandPattern, a_demandKept, a_factor, a_limit, a_lengthOf, a_lettersOf, a_action, a_kindWord, a_kindCount, a_kindOf, a_kindAction, a_countOfSum, a_lengthSet, a_kindSet, a_firstWord, a_foundSet, a_numberOf, a_stepTo, a_group, a_nextGroup, a_counts, a_isPair, a_pairQueue, a_chosen) (nI q) (nI p) (nI sh) := by
  have hn := V.1
  refine loop_0 (fun n i (s : (Nat → Int32) × (Nat → Int32)) => wX_copySlot_3 post (nI q) (nI p) (nI sh) f_height f_signs f_demands f_bounds f_isSolved f_kinds f_solutionCount f_leastSum f_found n (nI i) a_sizes a_hasEmpty a_firstSet a_lastSet s.1 s.2 a_sign a_demandSigns a_demandSign a_demandPattern a_demandKept a_factor a_limit a_lengthOf a_lettersOf a_action a_kindWord a_kindCount a_kindOf a_kindAction a_countOfSum a_lengthSet a_kindSet a_firstWord a_foundSet a_numberOf a_stepTo a_group a_nextGroup a_counts a_isPair a_pairQueue a_chosen) (fun i s => (∀ j, j < 6 * p + sh ∨ 6 * p + sh + zp_n Q ≤ j → s.1 j = a_takes j ∧ s.2 j = a_behind j) ∧ ∀ r, r < i → s.1 (6 * p + sh + r) = nI (zt (zp_l Q r)) ∧ s.2 (6 * p + sh + r) = nI (zp_B Q r * 2 ^ sh)) (zp_n Q) (a_takes, a_behind) ⟨fun _ _ => ⟨rfl, rfl⟩, fun r h => absurd h (Nat.not_lt_zero r)⟩ ?_ ?_
  · rintro n ⟨tk, bh⟩ ⟨h1, h2⟩
    show wX_copySlot_3 post (nI q) (nI p) (nI sh) f_height f_signs f_demands f_bounds f_isSolved f_kinds f_solutionCount f_leastSum f_found (n + 1) (nI (zp_n Q)) a_sizes a_hasEmpty a_firstSet a_lastSet tk bh a_sign a_demandSigns a_demandSign a_demandPattern a_demandKept a_factor a_limit a_lengthOf a_lettersOf a_action a_kindWord a_kindCount a_kindOf a_kindAction a_countOfSum a_lengthSet a_kindSet a_firstWord a_foundSet a_numberOf a_stepTo a_group a_nextGroup a_counts a_isPair a_pairQueue a_chosen
    rw [wX_copySlot_3]
    try dsimp only
    rw [nI_clamp (show q < 2 ^ 31 by omega), H.1]
    exact And.intro (vp_in_nI hq (by decide)) (br_t (nI_le (Nat.le_refl _) (by omega)) (G tk bh h1 h2))
  · rintro n i ⟨tk, bh⟩ hi ⟨h1, h2⟩ K'
    show wX_copySlot_3 post (nI q) (nI p) (nI sh) f_height f_signs f_demands f_bounds f_isSolved f_kinds f_solutionCount f_leastSum f_found (n + 1) (nI i) a_sizes a_hasEmpty a_firstSet a_lastSet tk bh a_sign a_demandSigns a_demandSign a_demandPattern a_demandKept a_factor a_limit a_lengthOf a_lettersOf a_action a_kindWord a_kindCount a_kindOf a_kindAction a_countOfSum a_lengthSet a_kindSet a_firstWord a_foundSet a_numberOf a_stepTo a_group a_nextGroup a_counts a_isPair a_pairQueue a_chosen
    have hT := H.2.2.2.2 i hi
    have hB := (V.2.2.2 i hi).2
    have r1 := h1 (6 * q + i) (by omega)
    have e1 : (6 : Int32) * nI p + nI i + nI sh = nI (6 * p + sh + i) := by
      rw [zb_6, nI_add]; exact congrArg nI (by omega)
    have hsl : zp_B Q i * 2 ^ sh < 2 ^ 32 := Nat.lt_of_lt_of_le (zb_shlt hB) (Nat.pow_le_pow_right (by decide) (by omega))
    rw [wX_copySlot_3]
    try dsimp only
    dsimp only at r1
    rw [nI_clamp (show q < 2 ^ 31 by omega), H.1, zb_6 q i, e1, nI_clamp (show 6 * q + i < 2 ^ 31 by omega), nI_clamp (show 6 * p + sh + i < 2 ^ 31 by omega), r1.1, r1.2, hT.1, hT.2, zb_shl (show sh < 32 by omega) hsl]
    refine And.intro (vp_in_nI hq (by decide)) (br_f (nI_ge hi (by omega)) (And.intro (vp_in_nI (by omega) (by decide)) (And.intro (vp_in_nI (by omega) (by decide)) (nm_e (And.intro (vp_in_nI (by omega) (by decide)) (And.intro (vp_in_nI (by omega) (by decide)) (nm_e (nm_r (nI_1 i) (K' (_, _) ⟨fun j hj => ?_, fun r hr => ?_⟩)))))))))
    · show upd tk (6 * p + sh + i) _ j = _ ∧ upd bh (6 * p + sh + i) _ j = _
      rw [pk_un (by omega), pk_un (by omega)]
      exact h1 j hj
    · show upd tk (6 * p + sh + i) _ (6 * p + sh + r) = _ ∧ upd bh (6 * p + sh + i) _ (6 * p + sh + r) = _
      by_cases z : r = i
      · subst z
        exact ⟨pk_us, pk_us⟩
      · rw [pk_un (by omega), pk_un (by omega)]
        exact h2 r (by omega)
end
end
section
/-! X: then, or, many, place -/
theorem zt_l2 {P Q : PT} {i : Nat} (h : i < zp_n P) : zp_l2 P Q i = zp_l P i := if_pos h
theorem zt_l2' (P Q : PT) (i : Nat) : zp_l2 P Q (zp_n P + i) = zp_l Q i := by
  unfold zp_l2
  rw [if_neg (by omega), Nat.add_sub_cancel_left]
section
variable {f_height f_signs f_demands f_bounds f_isSolved f_kinds f_solutionCount f_leastSum f_found : Int32} {a_sizes a_hasEmpty a_firstSet a_lastSet a_takes a_behind a_sign a_demandSigns a_demandSign a_demandPattern a_demandKept a_factor a_limit a_lengthOf a_lettersOf a_action a_kindWord a_kindCount a_kindOf a_kindAction a_countOfSum a_lengthSet a_kindSet a_firstWord a_foundSet a_numberOf a_stepTo a_group a_nextGroup a_counts a_isPair a_pairQueue a_chosen : Nat → Int32}
variable {P Q : PT} {h : Nat}
theorem zx_ref {post : Int32 → Prop} (h2 : 2 ≤ h) (h5 : h ≤ 5) (W : zp_W P) (V : zp_W Q) (e1 : a_sizes (1 + h) = nI (zp_n P)) (e2 : a_sizes (2 + h) = nI (zp_n Q)) (p0 : zp_n P + zp_n Q ≤ 6 → post 0) (p2 : 6 < zp_n P + zp_n Q → post (-2)) : wpX_refused post (nI h, f_signs, f_demands, f_bounds, f_isSolved, f_kinds, f_solutionCount, f_leastSum, f_found, a_sizes, a_hasEmpty, a_firstSet, a_lastSet, a_takes, a_behind, a_sign, a_demandSigns, a_demandSign, a_demandPattern, a_demandKept, a_factor, a_limit, a_lengthOf, a_lettersOf, a_action, a_kindWord, a_kindCount, a_kindOf, a_kindAction, a_countOfSum, a_lengthSet, a_kindSet, a_firstWord, a_foundSet, a_numberOf, a_stepTo, a_group, a_nextGroup, a_counts, a_isPair, a_pairQueue, a_chosen) := by
  have := W.1
  have := V.1
  unfold wpX_refused
  try dsimp only
  rw [show (1 : Int32) + nI h = nI (1 + h) from nI_add 1 h, show (2 : Int32) + nI h = nI (2 + h) from nI_add 2 h, nI_clamp (show 1 + h < 2 ^ 31 by omega), nI_clamp (show 2 + h < 2 ^ 31 by omega), e1, e2, nI_add]
  refine br_t (nI_le (a := 2) h2 (by omega)) (And.intro (vp_in_nI (by omega) (by decide)) (And.intro (vp_in_nI (by omega) (by decide)) (pk_le (zp_n P + zp_n Q) 6 p0 p2)))
theorem zx_ref1 {post : Int32 → Prop} (h2 : h < 2) (p3 : post (-3)) : wpX_refused post (nI h, f_signs, f_demands, f_bounds, f_isSolved, f_kinds, f_solutionCount, f_leastSum, f_found, a_sizes, a_hasEmpty, a_firstSet, a_lastSet, a_takes, a_behind, a_sign, a_demandSigns, a_demandSign, a_demandPattern, a_demandKept, a_factor, a_limit, a_lengthOf, a_lettersOf, a_action, a_kindWord, a_kindCount, a_kindOf, a_kindAction, a_countOfSum, a_lengthSet, a_kindSet, a_firstWord, a_foundSet, a_numberOf, a_stepTo, a_group, a_nextGroup, a_counts, a_isPair, a_pairQueue, a_chosen) := by
  unfold wpX_refused
  try dsimp only
  exact br_f (nI_ge (b := 2) h2 (by decide)) p3
/-- the places of the first that end are followed by the second's firsts -/
theorem zx_t55 {post : Int32 → SX → Prop} {x5 : Nat} (h2 : 2 ≤ h) (h5 : h ≤ 5) (W : zp_W P) (hx : x5 < 2 ^ 6) (eL : a_lastSet (1 + h) = nI (zp_L P)) (eB : ∀ i, i < zp_n P → a_behind (6 * (1 + h) + i) = nI (zp_B P i))
    (G : ∀ bh, (∀ j, j < 6 * (1 + h) ∨ 6 * (1 + h) + zp_n P ≤ j → bh j = a_behind j) → (∀ i, i < zp_n P → bh (6 * (1 + h) + i) = nI (if (zp_L P).testBit i then zp_B P i ||| x5 else zp_B P i)) →
      ∀ n, wX_then_55 post (nI (1 + h)) (nI (2 + h)) (nI (zp_n P)) (nI x5) (nI h) f_signs f_demands f_bounds f_isSolved f_kinds f_solutionCount f_leastSum f_found (n + 1) (nI (zp_n P)) a_sizes a_hasEmpty a_firstSet a_lastSet a_takes bh a_sign a_demandSigns a_demandSign a_demandPattern a_demandKept a_factor a_limit a_lengthOf a_lettersOf a_action a_kindWord a_kindCount a_kindOf a_kindAction a_countOfSum a_lengthSet a_kindSet a_firstWord a_foundSet a_numberOf a_stepTo a_group a_nextGroup a_counts a_isPair a_pairQueue a_chosen) :
    ∃ n, wX_then_55 post (nI (1 + h)) (nI (2 + h)) (nI (zp_n P)) (nI x5) (nI h) f_signs f_demands f_bounds f_isSolved f_kinds f_solutionCount f_leastSum f_found n (nI 0) a_sizes a_hasEmpty a_firstSet a_lastSet a_takes a_behind a_sign a_demandSigns a_demandSign a_demandPattern a_demandKept a_factor a_limit a_lengthOf a_lettersOf a_action a_kindWord a_kindCount a_kindOf a_kindAction a_countOfSum a_lengthSet a_kindSet a_firstWord a_foundSet a_numberOf a_stepTo a_group a_nextGroup a_counts a_isPair a_pairQueue a_chosen := by
  have hn := W.1
  refine loop_0 (fun n i bh => wX_then_55 post (nI (1 + h)) (nI (2 + h)) (nI (zp_n P)) (nI x5) (nI h) f_signs f_demands f_bounds f_isSolved f_kinds f_solutionCount f_leastSum f_found n (nI i) a_sizes a_hasEmpty a_firstSet a_lastSet a_takes bh a_sign a_demandSigns a_demandSign a_demandPattern a_demandKept a_factor a_limit a_lengthOf a_lettersOf a_action a_kindWord a_kindCount a_kindOf a_kindAction a_countOfSum a_lengthSet a_kindSet a_firstWord a_foundSet a_numberOf a_stepTo a_group a_nextGroup a_counts a_isPair a_pairQueue a_chosen) (fun i bh => (∀ j, j < 6 * (1 + h) ∨ 6 * (1 + h) + i ≤ j → bh j = a_behind j) ∧ ∀ r, r < i → bh (6 * (1 + h) + r) = nI (if (zp_L P).testBit r then zp_B P r ||| x5 else zp_B P r)) (zp_n P) a_behind ⟨fun _ _ => rfl, fun r hr => absurd hr (Nat.not_lt_zero r)⟩ ?_ ?_
  · rintro n bh ⟨g1, g2⟩
    exact G bh g1 g2 n
  · rintro n i bh hi ⟨g1, g2⟩ K'
    show wX_then_55 post (nI (1 + h)) (nI (2 + h)) (nI (zp_n P)) (nI x5) (nI h) f_signs f_demands f_bounds f_isSolved f_kinds f_solutionCount f_leastSum f_found (n + 1) (nI i) a_sizes a_hasEmpty a_firstSet a_lastSet a_takes bh a_sign a_demandSigns a_demandSign a_demandPattern a_demandKept a_factor a_limit a_lengthOf a_lettersOf a_action a_kindWord a_kindCount a_kindOf a_kindAction a_countOfSum a_lengthSet a_kindSet a_firstWord a_foundSet a_numberOf a_stepTo a_group a_nextGroup a_counts a_isPair a_pairQueue a_chosen
    have hL : zp_L P < 2 ^ 31 := Nat.lt_of_lt_of_le W.2.2.1 (Nat.pow_le_pow_right (by decide) (by omega))
    rw [wX_then_55]
    try dsimp only
    rw [nI_clamp (show 1 + h < 2 ^ 31 by omega), eL, zb_bit hL (by omega), zb_6, nI_clamp (show 6 * (1 + h) + i < 2 ^ 31 by omega), g1 (6 * (1 + h) + i) (by omega), eB i hi]
    have hin : vp_in (nI (6 * (1 + h) + i)) 48 := vp_in_nI (by omega) (by decide)
    have next : ∀ v, v = nI (if (zp_L P).testBit i then zp_B P i ||| x5 else zp_B P i) → (∀ j, j < 6 * (1 + h) ∨ 6 * (1 + h) + (i + 1) ≤ j → upd bh (6 * (1 + h) + i) v j = a_behind j) ∧ ∀ r, r < i + 1 → upd bh (6 * (1 + h) + i) v (6 * (1 + h) + r) = nI (if (zp_L P).testBit r then zp_B P r ||| x5 else zp_B P r) := by
      intro v hv
      refine ⟨fun j hj => ?_, fun r hr => ?_⟩
      · rw [pk_un (by omega)]; exact g1 j (by omega)
      · by_cases z : r = i
        · rw [z, pk_us]; exact hv
        · rw [pk_un (by omega)]; exact g2 r (by omega)
    refine br_f (nI_ge hi (by omega)) (And.intro (vp_in_nI (by omega) (by decide)) (br_c (fun hb => ?_) (fun hb => ?_)))
    · refine And.intro hin (And.intro hin (nm_e (nm_r (nI_1 i) (K' _ (next _ ?_)))))
      rw [if_pos hb, zb_or]
    · refine And.intro hin (And.intro hin (nm_e (nm_r (nI_1 i) (K' _ (next _ ?_)))))
      rw [if_neg hb]
theorem zx_then {post : Int32 → SX → Prop} (h2 : 2 ≤ h) (h5 : h ≤ 5) (W : zp_W P) (V : zp_W Q) (HP : zx_P a_sizes a_hasEmpty a_firstSet a_lastSet a_takes a_behind (1 + h) P) (HQ : zx_P a_sizes a_hasEmpty a_firstSet a_lastSet a_takes a_behind (2 + h) Q)
    (hno : 6 < zp_n P + zp_n Q → post (-2) (nI h, f_signs, f_demands, f_bounds, f_isSolved, f_kinds, f_solutionCount, f_leastSum, f_found, a_sizes, a_hasEmpty, a_firstSet, a_lastSet, a_takes, a_behind, a_sign, a_demandSigns, a_demandSign, a_demandPattern, a_demandKept, a_factor, a_limit, a_lengthOf, a_lettersOf, a_action, a_kindWord, a_kindCount, a_kindOf, a_kindAction, a_countOfSum, a_lengthSet, a_kindSet, a_firstWord, a_foundSet, a_numberOf, a_stepTo, a_group, a_nextGroup, a_counts, a_isPair, a_pairQueue, a_chosen))
    (G : zp_n P + zp_n Q ≤ 6 → ∀ si he fi la tk bh, zx_off (1 + h) a_sizes a_hasEmpty a_firstSet a_lastSet a_takes a_behind si he fi la tk bh → zx_P si he fi la tk bh (1 + h) (zp_then P Q) → post (nI (h - 1)) (nI (h - 1), f_signs, f_demands, f_bounds, f_isSolved, f_kinds, f_solutionCount, f_leastSum, f_found, si, he, fi, la, tk, bh, a_sign, a_demandSigns, a_demandSign, a_demandPattern, a_demandKept, a_factor, a_limit, a_lengthOf, a_lettersOf, a_action, a_kindWord, a_kindCount, a_kindOf, a_kindAction, a_countOfSum, a_lengthSet, a_kindSet, a_firstWord, a_foundSet, a_numberOf, a_stepTo, a_group, a_nextGroup, a_counts, a_isPair, a_pairQueue, a_chosen)) :
    wpX_then post (nI h, f_signs, f_demands, f_bounds, f_isSolved, f_kinds, f_solutionCount, f_leastSum, f_found, a_sizes, a_hasEmpty, a_firstSet, a_lastSet, a_takes, a_behind, a_sign, a_demandSigns, a_demandSign, a_demandPattern, a_demandKept, a_factor, a_limit, a_lengthOf, a_lettersOf, a_action, a_kindWord, a_kindCount, a_kindOf, a_kindAction, a_countOfSum, a_lengthSet, a_kindSet, a_firstWord, a_foundSet, a_numberOf, a_stepTo, a_group, a_nextGroup, a_counts, a_isPair, a_pairQueue, a_chosen) := by
  have hn := W.1
  have hm := V.1
  unfold wpX_then
  try dsimp only
  refine zx_ref h2 h5 W V HP.1 HQ.1 (fun hle => ?_) (fun hgt => br_f (by decide) (hno hgt))
  have G' := G hle
  have hF : zp_F Q * 2 ^ zp_n P < 2 ^ (zp_n P + zp_n Q) := zb_shlt V.2.1
  have h64 : 2 ^ (zp_n P + zp_n Q) ≤ 2 ^ 6 := Nat.pow_le_pow_right (by decide) hle
  have hLs : zp_L Q * 2 ^ zp_n P < 2 ^ (zp_n P + zp_n Q) := zb_shlt V.2.2.1
  refine br_t (by decide) (nm_r (nI_add 1 h) (nm_r (nI_add 2 h) (And.intro (vp_in_nI (by omega) (by decide)) (nm_r (e' := nI (zp_n P)) (by rw [nI_clamp (show 1 + h < 2 ^ 31 by omega), HP.1]) ?_))))
  refine zx_copy (by omega) (by omega) (by omega) V hle HQ (fun tk bh c1 c2 => ?_)
  have hin2 : vp_in (nI (2 + h)) 8 := vp_in_nI (by omega) (by decide)
  have hin1 : vp_in (nI (1 + h)) 8 := vp_in_nI (by omega) (by decide)
  have cl1 : (nI (1 + h)).toNatClampNeg = 1 + h := nI_clamp (by omega)
  have cl2 : (nI (2 + h)).toNatClampNeg = 2 + h := nI_clamp (by omega)
  try dsimp only
  refine And.intro hin2 (nm_r (e' := nI (zp_F Q * 2 ^ zp_n P)) (by rw [cl2, HQ.2.2.1, zb_shl (by omega) (by omega)]) ?_)
  refine zx_t55 h2 h5 W (by omega) HP.2.2.2.1 (fun i hi => by rw [(c1 _ (by omega)).2]; exact (HP.2.2.2.2 i hi).2) (fun bh' d1 d2 n => ?_)
  rw [wX_then_55]
  try dsimp only
  rw [cl1, HP.2.1, HP.2.2.1, zb_or]
  -- the frame and the places
  have o5 : zo_6 (1 + h) a_takes tk := fun s p hs hp => (c1 _ (by omega)).1
  have o6 : zo_6 (1 + h) a_behind bh' := fun s p hs hp => by rw [d1 _ (by omega)]; exact (c1 _ (by omega)).2
  have pl : ∀ p, p < zp_n (zp_then P Q) → tk (6 * (1 + h) + p) = nI (zt (zp_l (zp_then P Q) p)) ∧ bh' (6 * (1 + h) + p) = nI (zp_B (zp_then P Q) p) := by
    intro p hp
    have hp' : p < zp_n P + zp_n Q := hp
    show tk (6 * (1 + h) + p) = nI (zt (zp_l2 P Q p)) ∧ bh' (6 * (1 + h) + p) = nI (if p < zp_n P then (if (zp_L P).testBit p then zp_B P p ||| zp_F Q * 2 ^ zp_n P else zp_B P p) else zp_B Q (p - zp_n P) * 2 ^ zp_n P)
    by_cases c : p < zp_n P
    · rw [if_pos c, zt_l2 c, (c1 _ (by omega)).1]
      exact ⟨(HP.2.2.2.2 p c).1, d2 p c⟩
    · obtain ⟨i, rfl⟩ : ∃ i, p = zp_n P + i := ⟨p - zp_n P, by omega⟩
      rw [if_neg c, zt_l2', Nat.add_sub_cancel_left, d1 _ (by omega), show 6 * (1 + h) + (zp_n P + i) = 6 * (1 + h) + zp_n P + i by omega]
      exact c2 i (by omega)
  -- the last join
  have k229 : ∀ fi la (b : Bool), zo_1 (1 + h) a_firstSet fi → zo_1 (1 + h) a_lastSet la → b = (zp_e P && zp_e Q) → fi (1 + h) = nI (zp_F (zp_then P Q)) → la (1 + h) = nI (zp_L (zp_then P Q)) → wX_then_229 post (nI (1 + h)) (nI (2 + h)) (nI (zp_n P)) (zb_i b) (nI (1 + h)) (nI h) f_signs f_demands f_bounds f_isSolved f_kinds f_solutionCount f_leastSum f_found a_sizes a_hasEmpty fi la tk bh' a_sign a_demandSigns a_demandSign a_demandPattern a_demandKept a_factor a_limit a_lengthOf a_lettersOf a_action a_kindWord a_kindCount a_kindOf a_kindAction a_countOfSum a_lengthSet a_kindSet a_firstWord a_foundSet a_numberOf a_stepTo a_group a_nextGroup a_counts a_isPair a_pairQueue a_chosen := by
    intro fi la b o3 o4 eb e3 e4
    rw [wX_then_229, cl1, cl2, HQ.1, nI_add, zb_iv, show nI h - 1 = nI (h - 1) from pk_sub (b := 1) (by omega)]
    refine And.intro hin1 (nm_e (And.intro hin2 (And.intro hin1 (nm_e (nm_e (G' _ _ fi la tk bh' ⟨zo_1u, zo_1u, o3, o4, o5, o6⟩ ⟨pk_us, ?_, e3, e4, pl⟩))))))
    rw [pk_us, eb]; rfl
  have k200 : ∀ fi v, zo_1 (1 + h) a_firstSet fi → fi (1 + h) = nI (zp_F (zp_then P Q)) → v = nI (zp_L (zp_then P Q)) → wX_then_200 post (nI (1 + h)) (nI (2 + h)) (nI (zp_n P)) v (nI (1 + h)) (nI h) f_signs f_demands f_bounds f_isSolved f_kinds f_solutionCount f_leastSum f_found a_sizes a_hasEmpty fi a_lastSet tk bh' a_sign a_demandSigns a_demandSign a_demandPattern a_demandKept a_factor a_limit a_lengthOf a_lettersOf a_action a_kindWord a_kindCount a_kindOf a_kindAction a_countOfSum a_lengthSet a_kindSet a_firstWord a_foundSet a_numberOf a_stepTo a_group a_nextGroup a_counts a_isPair a_pairQueue a_chosen := by
    intro fi v o3 e3 ev
    rw [wX_then_200, cl1, cl2, HP.2.1, HQ.2.1]
    refine And.intro hin1 (nm_e (And.intro hin1 ?_))
    cases e1 : zp_e P with
    | false =>
      refine br_t rfl ?_
      rw [wX_then_228]
      exact k229 fi _ false o3 zo_1u (by rw [e1]; rfl) e3 (by rw [pk_us]; exact ev)
    | true =>
      refine br_f zb_10 (And.intro hin2 ?_)
      cases e2 : zp_e Q with
      | false =>
        refine br_t rfl ?_
        rw [wX_then_228]
        exact k229 fi _ false o3 zo_1u (by rw [e1, e2]; rfl) e3 (by rw [pk_us]; exact ev)
      | true => exact br_f zb_10 (k229 fi _ true o3 zo_1u (by rw [e1, e2]; rfl) e3 (by rw [pk_us]; exact ev))
  have k157 : ∀ v, v = nI (zp_F (zp_then P Q)) → wX_then_157 post (nI (1 + h)) (nI (2 + h)) (nI (zp_n P)) v (nI (1 + h)) (nI h) f_signs f_demands f_bounds f_isSolved f_kinds f_solutionCount f_leastSum f_found a_sizes a_hasEmpty a_firstSet a_lastSet tk bh' a_sign a_demandSigns a_demandSign a_demandPattern a_demandKept a_factor a_limit a_lengthOf a_lettersOf a_action a_kindWord a_kindCount a_kindOf a_kindAction a_countOfSum a_lengthSet a_kindSet a_firstWord a_foundSet a_numberOf a_stepTo a_group a_nextGroup a_counts a_isPair a_pairQueue a_chosen := by
    intro v ev
    rw [wX_then_157, cl1, cl2, HQ.2.1, HP.2.2.2.1, HQ.2.2.2.1, zb_shl (by omega) (by omega), zb_or]
    refine And.intro hin1 (nm_e (And.intro hin2 ?_))
    have eL : zp_L (zp_then P Q) = if zp_e Q then zp_L P ||| zp_L Q * 2 ^ zp_n P else zp_L Q * 2 ^ zp_n P := rfl
    cases e2 : zp_e Q with
    | false => exact br_t rfl (And.intro hin2 (k200 _ _ zo_1u (by rw [pk_us]; exact ev) (by rw [eL, e2]; rfl)))
    | true => exact br_f zb_10 (And.intro hin1 (And.intro hin2 (k200 _ _ zo_1u (by rw [pk_us]; exact ev) (by rw [eL, e2]; rfl))))
  have eF : zp_F (zp_then P Q) = if zp_e P then zp_F P ||| zp_F Q * 2 ^ zp_n P else zp_F P := rfl
  refine br_t (nI_le (Nat.le_refl _) (by omega)) (And.intro hin1 ?_)
  cases e1 : zp_e P with
  | false => exact br_t rfl (And.intro hin1 (k157 _ (by rw [eF, e1]; rfl)))
  | true => exact br_f zb_10 (And.intro hin1 (k157 _ (by rw [eF, e1]; rfl)))
theorem zx_or {post : Int32 → SX → Prop} (h2 : 2 ≤ h) (h5 : h ≤ 5) (W : zp_W P) (V : zp_W Q) (HP : zx_P a_sizes a_hasEmpty a_firstSet a_lastSet a_takes a_behind (1 + h) P) (HQ : zx_P a_sizes a_hasEmpty a_firstSet a_lastSet a_takes a_behind (2 + h) Q)
    (hno : 6 < zp_n P + zp_n Q → post (-2) (nI h, f_signs, f_demands, f_bounds, f_isSolved, f_kinds, f_solutionCount, f_leastSum, f_found, a_sizes, a_hasEmpty, a_firstSet, a_lastSet, a_takes, a_behind, a_sign, a_demandSigns, a_demandSign, a_demandPattern, a_demandKept, a_factor, a_limit, a_lengthOf, a_lettersOf, a_action, a_kindWord, a_kindCount, a_kindOf, a_kindAction, a_countOfSum, a_lengthSet, a_kindSet, a_firstWord, a_foundSet, a_numberOf, a_stepTo, a_group, a_nextGroup, a_counts, a_isPair, a_pairQueue, a_chosen))
    (G : zp_n P + zp_n Q ≤ 6 → ∀ si he fi la tk bh, zx_off (1 + h) a_sizes a_hasEmpty a_firstSet a_lastSet a_takes a_behind si he fi la tk bh → zx_P si he fi la tk bh (1 + h) (zp_or P Q) → post (nI (h - 1)) (nI (h - 1), f_signs, f_demands, f_bounds, f_isSolved, f_kinds, f_solutionCount, f_leastSum, f_found, si, he, fi, la, tk, bh, a_sign, a_demandSigns, a_demandSign, a_demandPattern, a_demandKept, a_factor, a_limit, a_lengthOf, a_lettersOf, a_action, a_kindWord, a_kindCount, a_kindOf, a_kindAction, a_countOfSum, a_lengthSet, a_kindSet, a_firstWord, a_foundSet, a_numberOf, a_stepTo, a_group, a_nextGroup, a_counts, a_isPair, a_pairQueue, a_chosen)) :
    wpX_or post (nI h, f_signs, f_demands, f_bounds, f_isSolved, f_kinds, f_solutionCount, f_leastSum, f_found, a_sizes, a_hasEmpty, a_firstSet, a_lastSet, a_takes, a_behind, a_sign, a_demandSigns, a_demandSign, a_demandPattern, a_demandKept, a_factor, a_limit, a_lengthOf, a_lettersOf, a_action, a_kindWord, a_kindCount, a_kindOf, a_kindAction, a_countOfSum, a_lengthSet, a_kindSet, a_firstWord, a_foundSet, a_numberOf, a_stepTo, a_group, a_nextGroup, a_counts, a_isPair, a_pairQueue, a_chosen) := by
  have hn := W.1
  have hm := V.1
  unfold wpX_or
  try dsimp only
  refine zx_ref h2 h5 W V HP.1 HQ.1 (fun hle => ?_) (fun hgt => br_f (by decide) (hno hgt))
  have G' := G hle
  have hF : zp_F Q * 2 ^ zp_n P < 2 ^ (zp_n P + zp_n Q) := zb_shlt V.2.1
  have h64 : 2 ^ (zp_n P + zp_n Q) ≤ 2 ^ 6 := Nat.pow_le_pow_right (by decide) hle
  have hLs : zp_L Q * 2 ^ zp_n P < 2 ^ (zp_n P + zp_n Q) := zb_shlt V.2.2.1
  refine br_t (by decide) (nm_r (nI_add 1 h) (nm_r (nI_add 2 h) (And.intro (vp_in_nI (by omega) (by decide)) (nm_r (e' := nI (zp_n P)) (by rw [nI_clamp (show 1 + h < 2 ^ 31 by omega), HP.1]) ?_))))
  refine zx_copy (by omega) (by omega) (by omega) V hle HQ (fun tk bh c1 c2 => ?_)
  have hin2 : vp_in (nI (2 + h)) 8 := vp_in_nI (by omega) (by decide)
  have hin1 : vp_in (nI (1 + h)) 8 := vp_in_nI (by omega) (by decide)
  have cl1 : (nI (1 + h)).toNatClampNeg = 1 + h := nI_clamp (by omega)
  have cl2 : (nI (2 + h)).toNatClampNeg = 2 + h := nI_clamp (by omega)
  try dsimp only
  rw [cl1, cl2, HP.2.2.1, HQ.2.2.1, HP.2.2.2.1, HQ.2.2.2.1, HP.2.1, HQ.2.1, zb_shl (by omega) (by omega), zb_shl (by omega) (by omega), zb_or, zb_or]
  have o5 : zo_6 (1 + h) a_takes tk := fun s p hs hp => (c1 _ (by omega)).1
  have o6 : zo_6 (1 + h) a_behind bh := fun s p hs hp => (c1 _ (by omega)).2
  have pl : ∀ p, p < zp_n (zp_or P Q) → tk (6 * (1 + h) + p) = nI (zt (zp_l (zp_or P Q) p)) ∧ bh (6 * (1 + h) + p) = nI (zp_B (zp_or P Q) p) := by
    intro p hp
    have hp' : p < zp_n P + zp_n Q := hp
    show tk (6 * (1 + h) + p) = nI (zt (zp_l2 P Q p)) ∧ bh (6 * (1 + h) + p) = nI (if p < zp_n P then zp_B P p else zp_B Q (p - zp_n P) * 2 ^ zp_n P)
    by_cases c : p < zp_n P
    · rw [if_pos c, zt_l2 c, (c1 _ (by omega)).1, (c1 _ (by omega)).2]
      exact HP.2.2.2.2 p c
    · obtain ⟨i, rfl⟩ : ∃ i, p = zp_n P + i := ⟨p - zp_n P, by omega⟩
      rw [if_neg c, zt_l2', Nat.add_sub_cancel_left, show 6 * (1 + h) + (zp_n P + i) = 6 * (1 + h) + zp_n P + i by omega]
      exact c2 i (by omega)
  have k113 : ∀ (b : Bool), b = (zp_e P || zp_e Q) → wX_or_113 post (nI (1 + h)) (nI (2 + h)) (nI (zp_n P)) (zb_i b) (nI (1 + h)) (nI h) f_signs f_demands f_bounds f_isSolved f_kinds f_solutionCount f_leastSum f_found a_sizes a_hasEmpty (upd a_firstSet (1 + h) (nI (zp_F P ||| zp_F Q * 2 ^ zp_n P))) (upd a_lastSet (1 + h) (nI (zp_L P ||| zp_L Q * 2 ^ zp_n P))) tk bh a_sign a_demandSigns a_demandSign a_demandPattern a_demandKept a_factor a_limit a_lengthOf a_lettersOf a_action a_kindWord a_kindCount a_kindOf a_kindAction a_countOfSum a_lengthSet a_kindSet a_firstWord a_foundSet a_numberOf a_stepTo a_group a_nextGroup a_counts a_isPair a_pairQueue a_chosen := by
    intro b eb
    rw [wX_or_113, cl1, cl2, HQ.1, nI_add, zb_iv, show nI h - 1 = nI (h - 1) from pk_sub (b := 1) (by omega)]
    refine And.intro hin1 (nm_e (And.intro hin2 (And.intro hin1 (nm_e (nm_e (G' _ _ _ _ tk bh ⟨zo_1u, zo_1u, zo_1u, zo_1u, o5, o6⟩ ⟨pk_us, ?_, pk_us, pk_us, pl⟩))))))
    rw [pk_us, eb]; rfl
  refine And.intro hin1 (And.intro hin2 (And.intro hin1 (nm_e (And.intro hin1 (And.intro hin2 (And.intro hin1 (nm_e (And.intro hin1 ?_))))))))
  cases e1 : zp_e P with
  | false =>
    refine br_t rfl (And.intro hin2 ?_)
    cases e2 : zp_e Q with
    | false => exact br_t rfl (k113 false (by rw [e1, e2]; rfl))
    | true =>
      refine br_f zb_10 ?_
      rw [wX_or_108]
      exact k113 true (by rw [e1, e2]; rfl)
  | true =>
    refine br_f zb_10 ?_
    rw [wX_or_108]
    exact k113 true (by rw [e1]; rfl)
theorem zx_many {post : Int32 → SX → Prop} (h1 : 1 ≤ h) (h5 : h ≤ 5) (W : zp_W P) (HP : zx_P a_sizes a_hasEmpty a_firstSet a_lastSet a_takes a_behind (2 + h) P)
    (G : ∀ he bh, zx_off (2 + h) a_sizes a_hasEmpty a_firstSet a_lastSet a_takes a_behind a_sizes he a_firstSet a_lastSet a_takes bh → zx_P a_sizes he a_firstSet a_lastSet a_takes bh (2 + h) (zp_many P) → post (nI h) (nI h, f_signs, f_demands, f_bounds, f_isSolved, f_kinds, f_solutionCount, f_leastSum, f_found, a_sizes, he, a_firstSet, a_lastSet, a_takes, bh, a_sign, a_demandSigns, a_demandSign, a_demandPattern, a_demandKept, a_factor, a_limit, a_lengthOf, a_lettersOf, a_action, a_kindWord, a_kindCount, a_kindOf, a_kindAction, a_countOfSum, a_lengthSet, a_kindSet, a_firstWord, a_foundSet, a_numberOf, a_stepTo, a_group, a_nextGroup, a_counts, a_isPair, a_pairQueue, a_chosen)) :
    wpX_many post (nI h, f_signs, f_demands, f_bounds, f_isSolved, f_kinds, f_solutionCount, f_leastSum, f_found, a_sizes, a_hasEmpty, a_firstSet, a_lastSet, a_takes, a_behind, a_sign, a_demandSigns, a_demandSign, a_demandPattern, a_demandKept, a_factor, a_limit, a_lengthOf, a_lettersOf, a_action, a_kindWord, a_kindCount, a_kindOf, a_kindAction, a_countOfSum, a_lengthSet, a_kindSet, a_firstWord, a_foundSet, a_numberOf, a_stepTo, a_group, a_nextGroup, a_counts, a_isPair, a_pairQueue, a_chosen) := by
  have hn := W.1
  have hin : vp_in (nI (2 + h)) 8 := vp_in_nI (by omega) (by decide)
  have cl : (nI (2 + h)).toNatClampNeg = 2 + h := nI_clamp (by omega)
  have hL : zp_L P < 2 ^ 31 := Nat.lt_of_lt_of_le W.2.2.1 (Nat.pow_le_pow_right (by decide) (by omega))
  unfold wpX_many
  try dsimp only
  refine br_f (nI_ne0 (by omega) (by omega)) (nm_r (nI_add 2 h) ?_)
  refine loop_0 (fun n i bh => wX_many_19 post (nI (2 + h)) (nI h) f_signs f_demands f_bounds f_isSolved f_kinds f_solutionCount f_leastSum f_found n (nI i) a_sizes a_hasEmpty a_firstSet a_lastSet a_takes bh a_sign a_demandSigns a_demandSign a_demandPattern a_demandKept a_factor a_limit a_lengthOf a_lettersOf a_action a_kindWord a_kindCount a_kindOf a_kindAction a_countOfSum a_lengthSet a_kindSet a_firstWord a_foundSet a_numberOf a_stepTo a_group a_nextGroup a_counts a_isPair a_pairQueue a_chosen) (fun i bh => (∀ j, j < 6 * (2 + h) ∨ 6 * (2 + h) + i ≤ j → bh j = a_behind j) ∧ ∀ r, r < i → bh (6 * (2 + h) + r) = nI (zp_B (zp_many P) r)) (zp_n P) a_behind ⟨fun _ _ => rfl, fun r hr => absurd hr (Nat.not_lt_zero r)⟩ ?_ ?_
  · rintro n bh ⟨g1, g2⟩
    show wX_many_19 post (nI (2 + h)) (nI h) f_signs f_demands f_bounds f_isSolved f_kinds f_solutionCount f_leastSum f_found (n + 1) (nI (zp_n P)) a_sizes a_hasEmpty a_firstSet a_lastSet a_takes bh a_sign a_demandSigns a_demandSign a_demandPattern a_demandKept a_factor a_limit a_lengthOf a_lettersOf a_action a_kindWord a_kindCount a_kindOf a_kindAction a_countOfSum a_lengthSet a_kindSet a_firstWord a_foundSet a_numberOf a_stepTo a_group a_nextGroup a_counts a_isPair a_pairQueue a_chosen
    rw [wX_many_19]
    try dsimp only
    rw [cl, HP.1]
    refine And.intro hin (br_t (nI_le (Nat.le_refl _) (by omega)) (And.intro hin (nm_e (G _ bh ⟨fun _ _ => rfl, zo_1u, fun _ _ => rfl, fun _ _ => rfl, zo_6r _ _, fun s p hs hp => g1 _ (by omega)⟩ ⟨HP.1, pk_us, HP.2.2.1, HP.2.2.2.1, fun p hp => ⟨(HP.2.2.2.2 p hp).1, g2 p hp⟩⟩))))
  · rintro n i bh hi ⟨g1, g2⟩ K'
    show wX_many_19 post (nI (2 + h)) (nI h) f_signs f_demands f_bounds f_isSolved f_kinds f_solutionCount f_leastSum f_found (n + 1) (nI i) a_sizes a_hasEmpty a_firstSet a_lastSet a_takes bh a_sign a_demandSigns a_demandSign a_demandPattern a_demandKept a_factor a_limit a_lengthOf a_lettersOf a_action a_kindWord a_kindCount a_kindOf a_kindAction a_countOfSum a_lengthSet a_kindSet a_firstWord a_foundSet a_numberOf a_stepTo a_group a_nextGroup a_counts a_isPair a_pairQueue a_chosen
    rw [wX_many_19]
    try dsimp only
    rw [cl, HP.1, HP.2.2.2.1, HP.2.2.1, zb_bit hL (by omega), zb_6, nI_clamp (show 6 * (2 + h) + i < 2 ^ 31 by omega), g1 (6 * (2 + h) + i) (by omega), (HP.2.2.2.2 i hi).2, zb_or]
    have hin6 : vp_in (nI (6 * (2 + h) + i)) 48 := vp_in_nI (by omega) (by decide)
    have next : ∀ v, v = nI (zp_B (zp_many P) i) → (∀ j, j < 6 * (2 + h) ∨ 6 * (2 + h) + (i + 1) ≤ j → upd bh (6 * (2 + h) + i) v j = a_behind j) ∧ ∀ r, r < i + 1 → upd bh (6 * (2 + h) + i) v (6 * (2 + h) + r) = nI (zp_B (zp_many P) r) := by
      intro v hv
      refine ⟨fun j hj => ?_, fun r hr => ?_⟩
      · rw [pk_un (by omega)]; exact g1 j (by omega)
      · by_cases z : r = i
        · rw [z, pk_us]; exact hv
        · rw [pk_un (by omega)]; exact g2 r (by omega)
    have eB : zp_B (zp_many P) i = if (zp_L P).testBit i then zp_B P i ||| zp_F P else zp_B P i := rfl
    refine And.intro hin (br_f (nI_ge hi (by omega)) (And.intro hin (br_c (fun hb => ?_) (fun hb => ?_))))
    · refine And.intro hin6 (And.intro hin (And.intro hin6 (nm_e (nm_r (nI_1 i) (K' _ (next _ ?_))))))
      rw [eB, if_pos hb]
    · refine And.intro hin6 (And.intro hin6 (nm_e (nm_r (nI_1 i) (K' _ (next _ ?_)))))
      rw [eB, if_neg hb]
theorem zx_place {post : Int32 → SX → Prop} {k : Nat} (hk : k < 3) (h1 : 1 ≤ h) (h5 : h ≤ 5) (W : zp_W P) (HP : zx_P a_sizes a_hasEmpty a_firstSet a_lastSet a_takes a_behind (2 + h) P)
    (G : ∀ si he fi la tk bh, zx_off k a_sizes a_hasEmpty a_firstSet a_lastSet a_takes a_behind si he fi la tk bh → zx_P si he fi la tk bh k P → post (nI (h - 1)) (nI (h - 1), f_signs, f_demands, f_bounds, 0, f_kinds, f_solutionCount, f_leastSum, f_found, si, he, fi, la, tk, bh, a_sign, a_demandSigns, a_demandSign, a_demandPattern, a_demandKept, a_factor, a_limit, a_lengthOf, a_lettersOf, a_action, a_kindWord, a_kindCount, a_kindOf, a_kindAction, a_countOfSum, a_lengthSet, a_kindSet, a_firstWord, a_foundSet, a_numberOf, a_stepTo, a_group, a_nextGroup, a_counts, a_isPair, a_pairQueue, a_chosen)) :
    wpX_place post (nI h, f_signs, f_demands, f_bounds, f_isSolved, f_kinds, f_solutionCount, f_leastSum, f_found, a_sizes, a_hasEmpty, a_firstSet, a_lastSet, a_takes, a_behind, a_sign, a_demandSigns, a_demandSign, a_demandPattern, a_demandKept, a_factor, a_limit, a_lengthOf, a_lettersOf, a_action, a_kindWord, a_kindCount, a_kindOf, a_kindAction, a_countOfSum, a_lengthSet, a_kindSet, a_firstWord, a_foundSet, a_numberOf, a_stepTo, a_group, a_nextGroup, a_counts, a_isPair, a_pairQueue, a_chosen) (nI k) := by
  have hn := W.1
  have hin2 : vp_in (nI (2 + h)) 8 := vp_in_nI (by omega) (by decide)
  have hink : vp_in (nI k) 8 := vp_in_nI (by omega) (by decide)
  have cl2 : (nI (2 + h)).toNatClampNeg = 2 + h := nI_clamp (by omega)
  have clk : (nI k).toNatClampNeg = k := nI_clamp (by omega)
  unfold wpX_place wpX_badThree
  try dsimp only
  refine br_f (nI_pos (by omega)) (br_t (nI_le (b := 2) (by omega) (by decide)) (br_t rfl (br_f (nI_ne0 (by omega) (by omega)) (nm_r (nI_add 2 h) ?_))))
  refine zx_copy (sh := 0) (by omega) (by omega) (by omega) W (by omega) HP (fun tk bh c1 c2 => ?_)
  try dsimp only
  rw [cl2, clk, HP.1, HP.2.1, HP.2.2.1, HP.2.2.2.1, zb_iv, show nI h - 1 = nI (h - 1) from pk_sub (b := 1) (by omega)]
  refine And.intro hin2 (And.intro hink (nm_e (And.intro hin2 (And.intro hink (nm_e (And.intro hin2 (And.intro hink (nm_e (And.intro hin2 (And.intro hink (nm_e (nm_e ?_))))))))))))
  refine G _ _ _ _ tk bh ⟨zo_1u, zo_1u, zo_1u, zo_1u, fun s p hs hp => (c1 _ (by omega)).1, fun s p hs hp => (c1 _ (by omega)).2⟩ ⟨pk_us, pk_us, pk_us, pk_us, fun p hp => ?_⟩
  have := c2 p hp
  rw [Nat.add_zero, Nat.pow_zero, Nat.mul_one] at this
  exact this
end
end
section
/-! Y: patterns built -/
section
variable {g_depth g_termLength g_demands g_boundCount g_known g_found g_least : Int32} {b_sizes b_empties b_firsts b_lasts b_letters b_behinds b_steps b_term b_patterns b_kepts b_signs b_signCounts b_bounds b_firstWords b_sums b_met b_tried b_seen b_apart b_counts b_next : Nat → Int32}
variable {P Q : PT} {h : Nat}
theorem zy_set {post : SY → Prop} {s : Nat} {v1 v3 v4 : Int32} {b : Bool} (hs : s < 8) (G : post (g_depth, g_termLength, g_demands, g_boundCount, g_known, g_found, g_least, upd b_sizes s v1, upd b_empties s (zb_i b), upd b_firsts s v3, upd b_lasts s v4, b_letters, b_behinds, b_steps, b_term, b_patterns, b_kepts, b_signs, b_signCounts, b_bounds, b_firstWords, b_sums, b_met, b_tried, b_seen, b_apart, b_counts, b_next)) : wpY_set post (g_depth, g_termLength, g_demands, g_boundCount, g_known, g_found, g_least, b_sizes, b_empties, b_firsts, b_lasts, b_letters, b_behinds, b_steps, b_term, b_patterns, b_kepts, b_signs, b_signCounts, b_bounds, b_firstWords, b_sums, b_met, b_tried, b_seen, b_apart, b_counts, b_next) (nI s) v1 (zb_i b) v3 v4 := by
  have hin : vp_in (nI s) 8 := vp_in_nI hs (by decide)
  unfold wpY_set
  try dsimp only
  rw [nI_clamp (show s < 2 ^ 31 by omega), zb_iv]
  exact And.intro hin (nm_e (And.intro hin (nm_e (And.intro hin (nm_e (And.intro hin (nm_e G)))))))
theorem zy_simple {post : Int32 → SY → Prop} {w : Nat} (hh : h < 5) (hw : w ≤ 3)
    (G : ∀ si he fi la tk bh, zx_off h b_sizes b_empties b_firsts b_lasts b_letters b_behinds si he fi la tk bh → zy_P si he fi la tk bh h (zp_simple w) → post (nI (h + 1)) (nI (h + 1), g_termLength, g_demands, g_boundCount, g_known, g_found, g_least, si, he, fi, la, tk, bh, b_steps, b_term, b_patterns, b_kepts, b_signs, b_signCounts, b_bounds, b_firstWords, b_sums, b_met, b_tried, b_seen, b_apart, b_counts, b_next)) :
    wpY_simple post (nI h, g_termLength, g_demands, g_boundCount, g_known, g_found, g_least, b_sizes, b_empties, b_firsts, b_lasts, b_letters, b_behinds, b_steps, b_term, b_patterns, b_kepts, b_signs, b_signCounts, b_bounds, b_firstWords, b_sums, b_met, b_tried, b_seen, b_apart, b_counts, b_next) (nI w) := by
  have hin6 : vp_in (nI (6 * h)) 48 := vp_in_nI (by omega) (by decide)
  have hcl6 : (nI (6 * h)).toNatClampNeg = 6 * h := nI_clamp (by omega)
  have k74 : ∀ (z0 z1 z3 : Int32) (b : Bool), zp_n (zp_simple w) ≤ 1 → z0 = nI (zp_L (zp_simple w)) → z1 = nI (zp_F (zp_simple w)) → z3 = nI (zp_n (zp_simple w)) → b = zp_e (zp_simple w) → wY_simple_74 post (nI w) z0 z1 (zb_i b) z3 (nI h) (nI h) g_termLength g_demands g_boundCount g_known g_found g_least b_sizes b_empties b_firsts b_lasts b_letters b_behinds b_steps b_term b_patterns b_kepts b_signs b_signCounts b_bounds b_firstWords b_sums b_met b_tried b_seen b_apart b_counts b_next := by
    intro z0 z1 z3 b hn e0 e1 e3 eb
    rw [wY_simple_74]
    refine zy_set (by omega) ?_
    try dsimp only
    rw [zb_60, hcl6]
    refine And.intro hin6 (nm_e (And.intro hin6 (nm_e (nm_r (nI_1 h) (G _ _ _ _ _ _ ⟨zo_1u, zo_1u, zo_1u, zo_1u, zo_6u (q := 0) (by omega), zo_6u (q := 0) (by omega)⟩ ⟨?_, ?_, ?_, ?_, fun p hp => ?_⟩)))))
    · rw [pk_us]; exact e3
    · rw [pk_us, eb]
    · rw [pk_us]; exact e1
    · rw [pk_us]; exact e0
    · have : p = 0 := by omega
      subst this
      rw [Nat.add_zero, pk_us, pk_us]
      unfold zp_simple at hp ⊢
      by_cases c : w = 3
      · rw [if_pos c] at hp; exact absurd hp (Nat.not_lt_zero 0)
      · rw [if_neg c]; exact ⟨rfl, rfl⟩
  unfold wpY_simple
  try dsimp only
  refine br_f (nI_pos (by omega)) (br_t (nI_le (b := 3) hw (by decide)) (br_f (fun z => by have := (nI_eq (b := 5) (by omega) (by decide)).mp z; omega) (pk_le 3 w (fun c => ?_) (fun c => ?_))))
  · have e : w = 3 := by omega
    subst e
    rw [wY_simple_32]
    refine br_t rfl ?_
    rw [wY_simple_47]
    refine br_t rfl ?_
    rw [wY_simple_56]
    refine br_t rfl ?_
    rw [wY_simple_65]
    refine br_t rfl ?_
    exact k74 0 0 0 true (by decide) rfl rfl rfl rfl
  · have e : zp_simple w = (1, false, 1, 1, fun _ => w, fun _ => 0) := by unfold zp_simple; rw [if_neg (by omega)]
    rw [wY_simple_32]
    refine br_f zb_10 ?_
    rw [wY_simple_47]
    refine br_f zb_10 ?_
    rw [wY_simple_56]
    refine br_f zb_10 ?_
    rw [wY_simple_65]
    refine br_f zb_10 ?_
    exact k74 1 1 1 false (by rw [e]; exact Nat.le_refl _) (by rw [e]; rfl) (by rw [e]; rfl) (by rw [e]; rfl) (by rw [e]; rfl)
/-- the joined pattern -/
def zp_join (th : Bool) (P Q : PT) : PT := if th then zp_then P Q else zp_or P Q
theorem zj_n (th : Bool) (P Q : PT) : zp_n (zp_join th P Q) = zp_n P + zp_n Q := by cases th <;> rfl
theorem zj_l (th : Bool) (P Q : PT) : zp_l (zp_join th P Q) = zp_l2 P Q := by cases th <;> rfl
theorem zj_e (th : Bool) (P Q : PT) : zp_e (zp_join th P Q) = if th then zp_e P && zp_e Q else zp_e P || zp_e Q := by cases th <;> rfl
theorem zj_F (th : Bool) (P Q : PT) : zp_F (zp_join th P Q) = zp_F P ||| (if !th || zp_e P then zp_F Q * 2 ^ zp_n P else 0) := by
  cases th with
  | false => rfl
  | true =>
    show (if zp_e P then zp_F P ||| zp_F Q * 2 ^ zp_n P else zp_F P) = zp_F P ||| (if zp_e P then zp_F Q * 2 ^ zp_n P else 0)
    cases zp_e P with
    | false => exact (Nat.or_zero _).symm
    | true => rfl
theorem zj_L (th : Bool) (P Q : PT) : zp_L (zp_join th P Q) = zp_L Q * 2 ^ zp_n P ||| (if !th || zp_e Q then zp_L P else 0) := by
  cases th with
  | false => exact Nat.or_comm _ _
  | true =>
    show (if zp_e Q then zp_L P ||| zp_L Q * 2 ^ zp_n P else zp_L Q * 2 ^ zp_n P) = zp_L Q * 2 ^ zp_n P ||| (if zp_e Q then zp_L P else 0)
    cases zp_e Q with
    | false => exact (Nat.or_zero _).symm
    | true => exact Nat.or_comm _ _
theorem zj_B1 (th : Bool) (P Q : PT) {i : Nat} (hi : i < zp_n P) : zp_B (zp_join th P Q) i = if th && (zp_L P).testBit i then zp_B P i ||| zp_F Q * 2 ^ zp_n P else zp_B P i := by
  cases th with
  | false => exact if_pos hi
  | true => exact if_pos hi
theorem zj_B2 (th : Bool) (P Q : PT) (i : Nat) : zp_B (zp_join th P Q) (zp_n P + i) = zp_B Q i * 2 ^ zp_n P := by
  have h : ¬ zp_n P + i < zp_n P := by omega
  cases th with
  | false =>
    show (if zp_n P + i < zp_n P then zp_B P (zp_n P + i) else zp_B Q (zp_n P + i - zp_n P) * 2 ^ zp_n P) = _
    rw [if_neg h, Nat.add_sub_cancel_left]
  | true =>
    show (if zp_n P + i < zp_n P then (if (zp_L P).testBit (zp_n P + i) then zp_B P (zp_n P + i) ||| zp_F Q * 2 ^ zp_n P else zp_B P (zp_n P + i)) else zp_B Q (zp_n P + i - zp_n P) * 2 ^ zp_n P) = _
    rw [if_neg h, Nat.add_sub_cancel_left]
theorem zy_join {post : Int32 → SY → Prop} {th : Bool} (h2 : 2 ≤ h) (h5 : h ≤ 5) (W : zp_W P) (V : zp_W Q) (HP : zy_P b_sizes b_empties b_firsts b_lasts b_letters b_behinds (h - 2) P) (HQ : zy_P b_sizes b_empties b_firsts b_lasts b_letters b_behinds (h - 1) Q)
    (hno : 6 < zp_n P + zp_n Q → post (-2) (nI h, g_termLength, g_demands, g_boundCount, g_known, g_found, g_least, b_sizes, b_empties, b_firsts, b_lasts, b_letters, b_behinds, b_steps, b_term, b_patterns, b_kepts, b_signs, b_signCounts, b_bounds, b_firstWords, b_sums, b_met, b_tried, b_seen, b_apart, b_counts, b_next))
    (G : zp_n P + zp_n Q ≤ 6 → ∀ si he fi la tk bh, zx_off (h - 2) b_sizes b_empties b_firsts b_lasts b_letters b_behinds si he fi la tk bh → zy_P si he fi la tk bh (h - 2) (zp_join th P Q) → post (nI (h - 1)) (nI (h - 1), g_termLength, g_demands, g_boundCount, g_known, g_found, g_least, si, he, fi, la, tk, bh, b_steps, b_term, b_patterns, b_kepts, b_signs, b_signCounts, b_bounds, b_firstWords, b_sums, b_met, b_tried, b_seen, b_apart, b_counts, b_next)) :
    wpY_join post (nI h, g_termLength, g_demands, g_boundCount, g_known, g_found, g_least, b_sizes, b_empties, b_firsts, b_lasts, b_letters, b_behinds, b_steps, b_term, b_patterns, b_kepts, b_signs, b_signCounts, b_bounds, b_firstWords, b_sums, b_met, b_tried, b_seen, b_apart, b_counts, b_next) (zb_i th) := by
  have hn := W.1
  have hm := V.1
  obtain ⟨p, rfl⟩ : ∃ p, h = p + 2 := ⟨h - 2, by omega⟩
  rw [show p + 2 - 2 = p by omega] at HP G
  rw [show p + 2 - 1 = p + 1 by omega] at HQ G
  have hinp : vp_in (nI p) 8 := vp_in_nI (by omega) (by decide)
  have hinq : vp_in (nI (p + 1)) 8 := vp_in_nI (by omega) (by decide)
  have clp : (nI p).toNatClampNeg = p := nI_clamp (by omega)
  have clq : (nI (p + 1)).toNatClampNeg = p + 1 := nI_clamp (by omega)
  unfold wpY_join
  try dsimp only
  refine br_t (nI_le (a := 2) (by omega) (by omega)) (nm_r (e' := nI p) (pk_sub (b := 2) (by omega)) (nm_r (e' := nI (p + 1)) (pk_sub (b := 1) (by omega)) (And.intro hinp (nm_r (e' := nI (zp_n P)) (by rw [clp, HP.1]) (And.intro hinq ?_)))))
  rw [clq, HQ.1, nI_add, HQ.2.2.1, HQ.2.2.2.1]
  refine pk_le (zp_n P + zp_n Q) 6 (fun hle => ?_) (fun hgt => hno hgt)
  have G' := G hle
  have hF : zp_F Q * 2 ^ zp_n P < 2 ^ (zp_n P + zp_n Q) := zb_shlt V.2.1
  have h64 : 2 ^ (zp_n P + zp_n Q) ≤ 2 ^ 6 := Nat.pow_le_pow_right (by decide) hle
  have hLs : zp_L Q * 2 ^ zp_n P < 2 ^ (zp_n P + zp_n Q) := zb_shlt V.2.2.1
  have hL : zp_L P < 2 ^ 31 := Nat.lt_of_lt_of_le W.2.2.1 (Nat.pow_le_pow_right (by decide) (by omega))
  refine And.intro hinq (nm_r (zb_shl (by omega) (by omega)) (And.intro hinq (nm_r (zb_shl (by omega) (by omega)) ?_)))
  -- behind the two loops
  have k347 : ∀ (tk bh : Nat → Int32) (x7 x8 : Nat) (b : Bool), zo_6 p b_letters tk → zo_6 p b_behinds bh → (∀ i, i < zp_n (zp_join th P Q) → tk (6 * p + i) = nI (zp_l (zp_join th P Q) i) ∧ bh (6 * p + i) = nI (zp_B (zp_join th P Q) i)) → x7 = zp_F (zp_join th P Q) → x8 = zp_L (zp_join th P Q) → b = zp_e (zp_join th P Q) →
      wY_join_347 post (nI p) (nI (p + 1)) (nI (zp_n P)) (nI x7) (nI x8) (zb_i b) (nI (p + 2)) g_termLength g_demands g_boundCount g_known g_found g_least b_sizes b_empties b_firsts b_lasts tk bh b_steps b_term b_patterns b_kepts b_signs b_signCounts b_bounds b_firstWords b_sums b_met b_tried b_seen b_apart b_counts b_next := by
    intro tk bh x7 x8 b o5 o6 pl e7 e8 eb
    rw [wY_join_347, clq, HQ.1, nI_add]
    refine And.intro hinq (zy_set (by omega) ?_)
    try dsimp only
    refine nm_r (e' := nI (p + 1)) (pk_sub (b := 1) (by omega)) (G' _ _ _ _ tk bh ⟨zo_1u, zo_1u, zo_1u, zo_1u, o5, o6⟩ ⟨?_, ?_, ?_, ?_, pl⟩)
    · rw [pk_us, zj_n]
    · rw [pk_us, eb]
    · rw [pk_us, e7]
    · rw [pk_us, e8]
  have k291 : ∀ (tk bh : Nat → Int32) (x7 z0 z1 : Nat), zo_6 p b_letters tk → zo_6 p b_behinds bh → (∀ i, i < zp_n (zp_join th P Q) → tk (6 * p + i) = nI (zp_l (zp_join th P Q) i) ∧ bh (6 * p + i) = nI (zp_B (zp_join th P Q) i)) → x7 = zp_F (zp_join th P Q) → z1 ||| z0 = zp_L (zp_join th P Q) →
      wY_join_291 post (zb_i th) (nI p) (nI (p + 1)) (nI (zp_n P)) (nI x7) (nI z0) (nI z1) (nI (p + 2)) g_termLength g_demands g_boundCount g_known g_found g_least b_sizes b_empties b_firsts b_lasts tk bh b_steps b_term b_patterns b_kepts b_signs b_signCounts b_bounds b_firstWords b_sums b_met b_tried b_seen b_apart b_counts b_next := by
    intro tk bh x7 z0 z1 o5 o6 pl e7 e8
    rw [wY_join_291, clp, clq, HP.2.1, HQ.2.1]
    refine nm_r (zb_or _ _) ?_
    have ej := zj_e th P Q
    have fin : ∀ b : Bool, b = zp_e (zp_join th P Q) → wY_join_347 post (nI p) (nI (p + 1)) (nI (zp_n P)) (nI x7) (nI (z1 ||| z0)) (zb_i b) (nI (p + 2)) g_termLength g_demands g_boundCount g_known g_found g_least b_sizes b_empties b_firsts b_lasts tk bh b_steps b_term b_patterns b_kepts b_signs b_signCounts b_bounds b_firstWords b_sums b_met b_tried b_seen b_apart b_counts b_next := fun b eb => k347 tk bh x7 _ b o5 o6 pl e7 e8 eb
    cases th with
    | false =>
      refine br_t rfl (And.intro hinp ?_)
      cases e1 : zp_e P with
      | false =>
        refine br_t rfl (And.intro hinq ?_)
        cases e2 : zp_e Q with
        | false => exact br_t rfl (fin false (by rw [ej, e1, e2]; rfl))
        | true =>
          refine br_f zb_10 ?_
          rw [wY_join_342]
          exact fin true (by rw [ej, e1, e2]; rfl)
      | true =>
        refine br_f zb_10 ?_
        rw [wY_join_342]
        exact fin true (by rw [ej, e1]; rfl)
    | true =>
      refine br_f zb_10 (And.intro hinp ?_)
      cases e1 : zp_e P with
      | false =>
        refine br_t rfl ?_
        rw [wY_join_320]
        exact fin false (by rw [ej, e1]; rfl)
      | true =>
        refine br_f zb_10 (And.intro hinq ?_)
        cases e2 : zp_e Q with
        | false =>
          refine br_t rfl ?_
          rw [wY_join_320]
          exact fin false (by rw [ej, e1, e2]; rfl)
        | true => exact br_f zb_10 (fin true (by rw [ej, e1, e2]; rfl))
  have k263 : ∀ (tk bh : Nat → Int32) (z0 z1 : Nat), zo_6 p b_letters tk → zo_6 p b_behinds bh → (∀ i, i < zp_n (zp_join th P Q) → tk (6 * p + i) = nI (zp_l (zp_join th P Q) i) ∧ bh (6 * p + i) = nI (zp_B (zp_join th P Q) i)) → z1 ||| z0 = zp_F (zp_join th P Q) →
      wY_join_263 post (zb_i th) (nI p) (nI (p + 1)) (nI (zp_n P)) (nI (zp_L Q * 2 ^ zp_n P)) (nI z0) (nI z1) (nI (p + 2)) g_termLength g_demands g_boundCount g_known g_found g_least b_sizes b_empties b_firsts b_lasts tk bh b_steps b_term b_patterns b_kepts b_signs b_signCounts b_bounds b_firstWords b_sums b_met b_tried b_seen b_apart b_counts b_next := by
    intro tk bh z0 z1 o5 o6 pl e7
    have eL := zj_L th P Q
    rw [wY_join_263, clq, HQ.2.1]
    refine nm_r (zb_or _ _) ?_
    have k281 : (!th || zp_e Q) = true → wY_join_281 post (zb_i th) (nI p) (nI (p + 1)) (nI (zp_n P)) (nI (z1 ||| z0)) (nI (zp_L Q * 2 ^ zp_n P)) (nI (p + 2)) g_termLength g_demands g_boundCount g_known g_found g_least b_sizes b_empties b_firsts b_lasts tk bh b_steps b_term b_patterns b_kepts b_signs b_signCounts b_bounds b_firstWords b_sums b_met b_tried b_seen b_apart b_counts b_next := by
      intro c
      rw [wY_join_281, clp, HP.2.2.2.1]
      exact And.intro hinp (k291 tk bh _ _ _ o5 o6 pl e7 (by rw [eL, if_pos c]))
    cases th with
    | false => exact br_t rfl (k281 rfl)
    | true =>
      refine br_f zb_10 (And.intro hinq ?_)
      cases e2 : zp_e Q with
      | false => exact br_t rfl (k291 tk bh _ 0 _ o5 o6 pl e7 (by rw [eL, e2]; rfl))
      | true => exact br_f zb_10 (k281 (by rw [e2]; rfl))
  have kend : ∀ (tk bh : Nat → Int32), zo_6 p b_letters tk → zo_6 p b_behinds bh → (∀ i, i < zp_n (zp_join th P Q) → tk (6 * p + i) = nI (zp_l (zp_join th P Q) i) ∧ bh (6 * p + i) = nI (zp_B (zp_join th P Q) i)) →
      ∀ n, wY_join_164 post (zb_i th) (nI p) (nI (p + 1)) (nI (zp_n P)) (nI (zp_F Q * 2 ^ zp_n P)) (nI (zp_L Q * 2 ^ zp_n P)) (nI (p + 2)) g_termLength g_demands g_boundCount g_known g_found g_least (n + 1) (nI (zp_n Q)) b_sizes b_empties b_firsts b_lasts tk bh b_steps b_term b_patterns b_kepts b_signs b_signCounts b_bounds b_firstWords b_sums b_met b_tried b_seen b_apart b_counts b_next := by
    intro tk bh o5 o6 pl n
    have eF := zj_F th P Q
    rw [wY_join_164]
    try dsimp only
    rw [clp, clq, HQ.1, HP.2.2.1, HP.2.1]
    refine And.intro hinq (br_t (nI_le (Nat.le_refl _) (by omega)) (And.intro hinp ?_))
    have k257 : (!th || zp_e P) = true → wY_join_257 post (zb_i th) (nI p) (nI (p + 1)) (nI (zp_n P)) (nI (zp_F Q * 2 ^ zp_n P)) (nI (zp_L Q * 2 ^ zp_n P)) (nI (zp_F P)) (nI (p + 2)) g_termLength g_demands g_boundCount g_known g_found g_least b_sizes b_empties b_firsts b_lasts tk bh b_steps b_term b_patterns b_kepts b_signs b_signCounts b_bounds b_firstWords b_sums b_met b_tried b_seen b_apart b_counts b_next := by
      intro c
      rw [wY_join_257]
      exact k263 tk bh _ _ o5 o6 pl (by rw [eF, if_pos c])
    cases th with
    | false => exact br_t rfl (k257 rfl)
    | true =>
      refine br_f zb_10 (And.intro hinp ?_)
      cases e1 : zp_e P with
      | false => exact br_t rfl (k263 tk bh 0 _ o5 o6 pl (by rw [eF, e1]; rfl))
      | true => exact br_f zb_10 (k257 (by rw [e1]; rfl))
  -- the second loop
  have kcopy : ∀ bh : Nat → Int32, (∀ j, j < 6 * p ∨ 6 * p + zp_n P ≤ j → bh j = b_behinds j) → (∀ i, i < zp_n P → bh (6 * p + i) = nI (zp_B (zp_join th P Q) i)) →
      ∃ n, wY_join_164 post (zb_i th) (nI p) (nI (p + 1)) (nI (zp_n P)) (nI (zp_F Q * 2 ^ zp_n P)) (nI (zp_L Q * 2 ^ zp_n P)) (nI (p + 2)) g_termLength g_demands g_boundCount g_known g_found g_least n (nI 0) b_sizes b_empties b_firsts b_lasts b_letters bh b_steps b_term b_patterns b_kepts b_signs b_signCounts b_bounds b_firstWords b_sums b_met b_tried b_seen b_apart b_counts b_next := by
    intro bh0 d1 d2
    refine loop_0 (fun n i (s : (Nat → Int32) × (Nat → Int32)) => wY_join_164 post (zb_i th) (nI p) (nI (p + 1)) (nI (zp_n P)) (nI (zp_F Q * 2 ^ zp_n P)) (nI (zp_L Q * 2 ^ zp_n P)) (nI (p + 2)) g_termLength g_demands g_boundCount g_known g_found g_least n (nI i) b_sizes b_empties b_firsts b_lasts s.1 s.2 b_steps b_term b_patterns b_kepts b_signs b_signCounts b_bounds b_firstWords b_sums b_met b_tried b_seen b_apart b_counts b_next) (fun i s => (∀ j, j < 6 * p + zp_n P ∨ 6 * p + zp_n P + i ≤ j → s.1 j = b_letters j ∧ s.2 j = bh0 j) ∧ ∀ r, r < i → s.1 (6 * p + zp_n P + r) = nI (zp_l Q r) ∧ s.2 (6 * p + zp_n P + r) = nI (zp_B Q r * 2 ^ zp_n P)) (zp_n Q) (b_letters, bh0) ⟨fun _ _ => ⟨rfl, rfl⟩, fun r hr => absurd hr (Nat.not_lt_zero r)⟩ ?_ ?_
    · rintro n ⟨tk, bh⟩ ⟨g1, g2⟩
      dsimp only at g1 g2
      refine kend tk bh (fun s r hs hr => (g1 _ (by omega)).1) (fun s r hs hr => by rw [(g1 _ (by omega)).2]; exact d1 _ (by omega)) (fun i hi => ?_) n
      rw [zj_n] at hi
      rw [zj_l]
      by_cases c : i < zp_n P
      · rw [zt_l2 c, (g1 _ (by omega)).1, (g1 _ (by omega)).2]
        exact ⟨(HP.2.2.2.2 i c).1, d2 i c⟩
      · obtain ⟨r, rfl⟩ : ∃ r, i = zp_n P + r := ⟨i - zp_n P, by omega⟩
        rw [zt_l2', zj_B2, show 6 * p + (zp_n P + r) = 6 * p + zp_n P + r by omega]
        exact g2 r (by omega)
    · rintro n i ⟨tk, bh⟩ hi ⟨g1, g2⟩ K'
      dsimp only at g1 g2
      show wY_join_164 post (zb_i th) (nI p) (nI (p + 1)) (nI (zp_n P)) (nI (zp_F Q * 2 ^ zp_n P)) (nI (zp_L Q * 2 ^ zp_n P)) (nI (p + 2)) g_termLength g_demands g_boundCount g_known g_found g_least (n + 1) (nI i) b_sizes b_empties b_firsts b_lasts tk bh b_steps b_term b_patterns b_kepts b_signs b_signCounts b_bounds b_firstWords b_sums b_met b_tried b_seen b_apart b_counts b_next
      have hT := HQ.2.2.2.2 i hi
      have hB := (V.2.2.2 i hi).2
      have r1 := g1 (6 * (p + 1) + i) (by omega)
      have r2 := d1 (6 * (p + 1) + i) (by omega)
      have e1 : (6 : Int32) * nI p + nI (zp_n P) + nI i = nI (6 * p + zp_n P + i) := by rw [zb_6, nI_add]
      have hsl : zp_B Q i * 2 ^ zp_n P < 2 ^ 32 := Nat.lt_of_lt_of_le (zb_shlt hB) (Nat.pow_le_pow_right (by decide) (by omega))
      rw [wY_join_164]
      try dsimp only
      rw [clq, HQ.1, zb_6 (p + 1) i, e1, nI_clamp (show 6 * (p + 1) + i < 2 ^ 31 by omega), nI_clamp (show 6 * p + zp_n P + i < 2 ^ 31 by omega), r1.1, r1.2, r2, hT.1, hT.2, zb_shl (show zp_n P < 32 by omega) hsl]
      refine And.intro hinq (br_f (nI_ge hi (by omega)) (And.intro (vp_in_nI (by omega) (by decide)) (And.intro (vp_in_nI (by omega) (by decide)) (nm_e (And.intro (vp_in_nI (by omega) (by decide)) (And.intro (vp_in_nI (by omega) (by decide)) (nm_e (nm_r (nI_1 i) (K' (_, _) ⟨fun j hj => ?_, fun r hr => ?_⟩)))))))))
      · show upd tk (6 * p + zp_n P + i) _ j = _ ∧ upd bh (6 * p + zp_n P + i) _ j = _
        rw [pk_un (by omega), pk_un (by omega)]
        exact g1 j (by omega)
      · show upd tk (6 * p + zp_n P + i) _ (6 * p + zp_n P + r) = _ ∧ upd bh (6 * p + zp_n P + i) _ (6 * p + zp_n P + r) = _
        by_cases z : r = i
        · subst z
          exact ⟨pk_us, pk_us⟩
        · rw [pk_un (by omega), pk_un (by omega)]
          exact g2 r (by omega)
  -- the first loop
  refine loop_0 (fun n i bh => wY_join_75 post (zb_i th) (nI p) (nI (p + 1)) (nI (zp_n P)) (nI (zp_F Q * 2 ^ zp_n P)) (nI (zp_L Q * 2 ^ zp_n P)) (nI (p + 2)) g_termLength g_demands g_boundCount g_known g_found g_least n (nI i) b_sizes b_empties b_firsts b_lasts b_letters bh b_steps b_term b_patterns b_kepts b_signs b_signCounts b_bounds b_firstWords b_sums b_met b_tried b_seen b_apart b_counts b_next) (fun i bh => (∀ j, j < 6 * p ∨ 6 * p + i ≤ j → bh j = b_behinds j) ∧ ∀ r, r < i → bh (6 * p + r) = nI (zp_B (zp_join th P Q) r)) (zp_n P) b_behinds ⟨fun _ _ => rfl, fun r hr => absurd hr (Nat.not_lt_zero r)⟩ ?_ ?_
  · rintro n bh ⟨g1, g2⟩
    show wY_join_75 post (zb_i th) (nI p) (nI (p + 1)) (nI (zp_n P)) (nI (zp_F Q * 2 ^ zp_n P)) (nI (zp_L Q * 2 ^ zp_n P)) (nI (p + 2)) g_termLength g_demands g_boundCount g_known g_found g_least (n + 1) (nI (zp_n P)) b_sizes b_empties b_firsts b_lasts b_letters bh b_steps b_term b_patterns b_kepts b_signs b_signCounts b_bounds b_firstWords b_sums b_met b_tried b_seen b_apart b_counts b_next
    rw [wY_join_75]
    exact br_t (nI_le (Nat.le_refl _) (by omega)) (kcopy bh g1 g2)
  · rintro n i bh hi ⟨g1, g2⟩ K'
    show wY_join_75 post (zb_i th) (nI p) (nI (p + 1)) (nI (zp_n P)) (nI (zp_F Q * 2 ^ zp_n P)) (nI (zp_L Q * 2 ^ zp_n P)) (nI (p + 2)) g_termLength g_demands g_boundCount g_known g_found g_least (n + 1) (nI i) b_sizes b_empties b_firsts b_lasts b_letters bh b_steps b_term b_patterns b_kepts b_signs b_signCounts b_bounds b_firstWords b_sums b_met b_tried b_seen b_apart b_counts b_next
    have hin6 : vp_in (nI (6 * p + i)) 48 := vp_in_nI (by omega) (by decide)
    have eB := zj_B1 th P Q hi
    have k106 : ∀ z : Bool, z = (th && (zp_L P).testBit i) → wY_join_106 post (wY_join_75 post (zb_i th) (nI p) (nI (p + 1)) (nI (zp_n P)) (nI (zp_F Q * 2 ^ zp_n P)) (nI (zp_L Q * 2 ^ zp_n P)) (nI (p + 2)) g_termLength g_demands g_boundCount g_known g_found g_least n) (zb_i th) (nI p) (nI (p + 1)) (nI (zp_n P)) (nI (zp_F Q * 2 ^ zp_n P)) (nI (zp_L Q * 2 ^ zp_n P)) (nI i) (zb_i z) (nI (p + 2)) g_termLength g_demands g_boundCount g_known g_found g_least b_sizes b_empties b_firsts b_lasts b_letters bh b_steps b_term b_patterns b_kepts b_signs b_signCounts b_bounds b_firstWords b_sums b_met b_tried b_seen b_apart b_counts b_next := by
      intro z hz
      have next : ∀ v, v = nI (zp_B (zp_join th P Q) i) → (∀ j, j < 6 * p ∨ 6 * p + (i + 1) ≤ j → upd bh (6 * p + i) v j = b_behinds j) ∧ ∀ r, r < i + 1 → upd bh (6 * p + i) v (6 * p + r) = nI (zp_B (zp_join th P Q) r) := by
        intro v hv
        refine ⟨fun j hj => ?_, fun r hr => ?_⟩
        · rw [pk_un (by omega)]; exact g1 j (by omega)
        · by_cases y : r = i
          · rw [y, pk_us]; exact hv
          · rw [pk_un (by omega)]; exact g2 r (by omega)
      rw [wY_join_106, zb_6, nI_clamp (show 6 * p + i < 2 ^ 31 by omega), g1 (6 * p + i) (by omega), (HP.2.2.2.2 i hi).2, zb_or]
      cases z with
      | false => exact br_t rfl (And.intro hin6 (And.intro hin6 (nm_e (nm_r (nI_1 i) (K' _ (next _ (by rw [eB, ← hz]; rfl)))))))
      | true => exact br_f zb_10 (And.intro hin6 (And.intro hin6 (nm_e (nm_r (nI_1 i) (K' _ (next _ (by rw [eB, ← hz]; rfl)))))))
    rw [wY_join_75]
    try dsimp only
    rw [clp, HP.2.2.2.1, zb_bit hL (by omega)]
    refine br_f (nI_ge hi (by omega)) ?_
    cases th with
    | false =>
      refine br_t rfl ?_
      rw [wY_join_105]
      exact k106 false rfl
    | true =>
      refine br_f zb_10 (And.intro hinp (br_c (fun hb => k106 true (by rw [hb]; rfl)) (fun hb => ?_)))
      rw [wY_join_105]
      refine k106 false ?_
      cases e : (zp_L P).testBit i with
      | false => rfl
      | true => exact absurd e hb
end
end
section
/-! Y: many, place, the first state; X's first state -/
section
variable {g_depth g_termLength g_demands g_boundCount g_known g_found g_least : Int32} {b_sizes b_empties b_firsts b_lasts b_letters b_behinds b_steps b_term b_patterns b_kepts b_signs b_signCounts b_bounds b_firstWords b_sums b_met b_tried b_seen b_apart b_counts b_next : Nat → Int32}
variable {P : PT} {h : Nat}
theorem zy_many {post : Int32 → SY → Prop} (h1 : 1 ≤ h) (h5 : h ≤ 5) (W : zp_W P) (HP : zy_P b_sizes b_empties b_firsts b_lasts b_letters b_behinds (h - 1) P)
    (G : ∀ he bh, zx_off (h - 1) b_sizes b_empties b_firsts b_lasts b_letters b_behinds b_sizes he b_firsts b_lasts b_letters bh → zy_P b_sizes he b_firsts b_lasts b_letters bh (h - 1) (zp_many P) → post (nI h) (nI h, g_termLength, g_demands, g_boundCount, g_known, g_found, g_least, b_sizes, he, b_firsts, b_lasts, b_letters, bh, b_steps, b_term, b_patterns, b_kepts, b_signs, b_signCounts, b_bounds, b_firstWords, b_sums, b_met, b_tried, b_seen, b_apart, b_counts, b_next)) :
    wpY_many post (nI h, g_termLength, g_demands, g_boundCount, g_known, g_found, g_least, b_sizes, b_empties, b_firsts, b_lasts, b_letters, b_behinds, b_steps, b_term, b_patterns, b_kepts, b_signs, b_signCounts, b_bounds, b_firstWords, b_sums, b_met, b_tried, b_seen, b_apart, b_counts, b_next) := by
  have hn := W.1
  obtain ⟨p, rfl⟩ : ∃ p, h = p + 1 := ⟨h - 1, by omega⟩
  rw [show p + 1 - 1 = p by omega] at HP G
  have hin : vp_in (nI p) 8 := vp_in_nI (by omega) (by decide)
  have cl : (nI p).toNatClampNeg = p := nI_clamp (by omega)
  have hL : zp_L P < 2 ^ 31 := Nat.lt_of_lt_of_le W.2.2.1 (Nat.pow_le_pow_right (by decide) (by omega))
  unfold wpY_many
  try dsimp only
  refine br_f (nI_ne0 (by omega) (by omega)) (nm_r (e' := nI p) (pk_sub (b := 1) (by omega)) ?_)
  refine loop_0 (fun n i bh => wY_many_19 post (nI p) (nI (p + 1)) g_termLength g_demands g_boundCount g_known g_found g_least n (nI i) b_sizes b_empties b_firsts b_lasts b_letters bh b_steps b_term b_patterns b_kepts b_signs b_signCounts b_bounds b_firstWords b_sums b_met b_tried b_seen b_apart b_counts b_next) (fun i bh => (∀ j, j < 6 * p ∨ 6 * p + i ≤ j → bh j = b_behinds j) ∧ ∀ r, r < i → bh (6 * p + r) = nI (zp_B (zp_many P) r)) (zp_n P) b_behinds ⟨fun _ _ => rfl, fun r hr => absurd hr (Nat.not_lt_zero r)⟩ ?_ ?_
  · rintro n bh ⟨g1, g2⟩
    show wY_many_19 post (nI p) (nI (p + 1)) g_termLength g_demands g_boundCount g_known g_found g_least (n + 1) (nI (zp_n P)) b_sizes b_empties b_firsts b_lasts b_letters bh b_steps b_term b_patterns b_kepts b_signs b_signCounts b_bounds b_firstWords b_sums b_met b_tried b_seen b_apart b_counts b_next
    rw [wY_many_19]
    try dsimp only
    rw [cl, HP.1]
    refine And.intro hin (br_t (nI_le (Nat.le_refl _) (by omega)) (And.intro hin (nm_e (G _ bh ⟨fun _ _ => rfl, zo_1u, fun _ _ => rfl, fun _ _ => rfl, zo_6r _ _, fun s p hs hp => g1 _ (by omega)⟩ ⟨HP.1, pk_us, HP.2.2.1, HP.2.2.2.1, fun p hp => ⟨(HP.2.2.2.2 p hp).1, g2 p hp⟩⟩))))
  · rintro n i bh hi ⟨g1, g2⟩ K'
    show wY_many_19 post (nI p) (nI (p + 1)) g_termLength g_demands g_boundCount g_known g_found g_least (n + 1) (nI i) b_sizes b_empties b_firsts b_lasts b_letters bh b_steps b_term b_patterns b_kepts b_signs b_signCounts b_bounds b_firstWords b_sums b_met b_tried b_seen b_apart b_counts b_next
    have hin6 : vp_in (nI (6 * p + i)) 48 := vp_in_nI (by omega) (by decide)
    have next : ∀ v, v = nI (zp_B (zp_many P) i) → (∀ j, j < 6 * p ∨ 6 * p + (i + 1) ≤ j → upd bh (6 * p + i) v j = b_behinds j) ∧ ∀ r, r < i + 1 → upd bh (6 * p + i) v (6 * p + r) = nI (zp_B (zp_many P) r) := by
      intro v hv
      refine ⟨fun j hj => ?_, fun r hr => ?_⟩
      · rw [pk_un (by omega)]; exact g1 j (by omega)
      · by_cases z : r = i
        · rw [z, pk_us]; exact hv
        · rw [pk_un (by omega)]; exact g2 r (by omega)
    have eB : zp_B (zp_many P) i = if (zp_L P).testBit i then zp_B P i ||| zp_F P else zp_B P i := rfl
    rw [wY_many_19]
    try dsimp only
    rw [cl, HP.1, HP.2.2.2.1, zb_bit hL (by omega)]
    refine And.intro hin (br_f (nI_ge hi (by omega)) (And.intro hin (br_c (fun hb => ?_) (fun hb => ?_))))
    · rw [wY_many_48, cl, zb_6, nI_clamp (show 6 * p + i < 2 ^ 31 by omega), g1 (6 * p + i) (by omega), (HP.2.2.2.2 i hi).2, HP.2.2.1, zb_or]
      refine br_f zb_10 (And.intro hin6 (And.intro hin (And.intro hin6 (nm_e (nm_r (nI_1 i) (K' _ (next _ ?_)))))))
      rw [eB, if_pos hb]
    · rw [wY_many_48, cl, zb_6, nI_clamp (show 6 * p + i < 2 ^ 31 by omega), g1 (6 * p + i) (by omega), (HP.2.2.2.2 i hi).2, HP.2.2.1, zb_or]
      refine br_t rfl (And.intro hin6 (And.intro hin6 (nm_e (nm_r (nI_1 i) (K' _ (next _ ?_))))))
      rw [eB, if_neg hb]
theorem zy_place {post : Int32 → SY → Prop} {k : Nat} (hk : k < 3) (h1 : 1 ≤ h) (h5 : h ≤ 5) (W : zp_W P) (HP : zy_P b_sizes b_empties b_firsts b_lasts b_letters b_behinds (h - 1) P)
    (G : ∀ si he fi la tk bh st, zx_off (5 + k) b_sizes b_empties b_firsts b_lasts b_letters b_behinds si he fi la tk bh → zy_P si he fi la tk bh (5 + k) P → zy_T st k P → (∀ j, j < 256 * k ∨ 256 * k + 256 ≤ j → st j = b_steps j) → post (nI (h - 1)) (nI (h - 1), g_termLength, g_demands, g_boundCount, 0, g_found, g_least, si, he, fi, la, tk, bh, st, b_term, b_patterns, b_kepts, b_signs, b_signCounts, b_bounds, b_firstWords, b_sums, b_met, b_tried, b_seen, b_apart, b_counts, b_next)) :
    wpY_place post (nI h, g_termLength, g_demands, g_boundCount, g_known, g_found, g_least, b_sizes, b_empties, b_firsts, b_lasts, b_letters, b_behinds, b_steps, b_term, b_patterns, b_kepts, b_signs, b_signCounts, b_bounds, b_firstWords, b_sums, b_met, b_tried, b_seen, b_apart, b_counts, b_next) (nI k) := by
  have hn := W.1
  obtain ⟨p, rfl⟩ : ∃ p, h = p + 1 := ⟨h - 1, by omega⟩
  rw [show p + 1 - 1 = p by omega] at HP G
  have hin : vp_in (nI p) 8 := vp_in_nI (by omega) (by decide)
  have cl : (nI p).toNatClampNeg = p := nI_clamp (by omega)
  unfold wpY_place wpY_isThird
  try dsimp only
  refine br_f (nI_pos (by omega)) (br_f (nI_nlt (a := 2) (by omega) (by decide)) (br_f zb_10 (br_f (nI_ne0 (by omega) (by omega)) (nm_r (e' := nI p) (pk_sub (b := 1) (by omega)) ?_))))
  rw [cl, HP.1, HP.2.1, HP.2.2.1, HP.2.2.2.1, show (5 : Int32) + nI k = nI (5 + k) from nI_add 5 k]
  refine And.intro hin (And.intro hin (And.intro hin (And.intro hin (zy_set (by omega) ?_))))
  try dsimp only
  refine loop_0 (fun n i (s : (Nat → Int32) × (Nat → Int32)) => wY_place_75 post (nI k) (nI p) g_termLength g_demands g_boundCount g_known g_found g_least n (nI i) (upd b_sizes (5 + k) (nI (zp_n P))) (upd b_empties (5 + k) (zb_i (zp_e P))) (upd b_firsts (5 + k) (nI (zp_F P))) (upd b_lasts (5 + k) (nI (zp_L P))) s.1 s.2 b_steps b_term b_patterns b_kepts b_signs b_signCounts b_bounds b_firstWords b_sums b_met b_tried b_seen b_apart b_counts b_next) (fun i s => (∀ j, j < 6 * (5 + k) ∨ 6 * (5 + k) + 6 ≤ j → s.1 j = b_letters j ∧ s.2 j = b_behinds j) ∧ ∀ r, r < i → s.1 (6 * (5 + k) + r) = b_letters (6 * p + r) ∧ s.2 (6 * (5 + k) + r) = b_behinds (6 * p + r)) 6 (b_letters, b_behinds) ⟨fun _ _ => ⟨rfl, rfl⟩, fun r hr => absurd hr (Nat.not_lt_zero r)⟩ ?_ ?_
  · rintro n ⟨tk, bh⟩ ⟨g1, g2⟩
    dsimp only at g1 g2
    show wY_place_75 post (nI k) (nI p) g_termLength g_demands g_boundCount g_known g_found g_least (n + 1) (nI 6) (upd b_sizes (5 + k) (nI (zp_n P))) (upd b_empties (5 + k) (zb_i (zp_e P))) (upd b_firsts (5 + k) (nI (zp_F P))) (upd b_lasts (5 + k) (nI (zp_L P))) tk bh b_steps b_term b_patterns b_kepts b_signs b_signCounts b_bounds b_firstWords b_sums b_met b_tried b_seen b_apart b_counts b_next
    rw [wY_place_75]
    have H5 : zy_P (upd b_sizes (5 + k) (nI (zp_n P))) (upd b_empties (5 + k) (zb_i (zp_e P))) (upd b_firsts (5 + k) (nI (zp_F P))) (upd b_lasts (5 + k) (nI (zp_L P))) tk bh (5 + k) P := by
      refine ⟨pk_us, pk_us, pk_us, pk_us, fun r hr => ?_⟩
      rw [(g2 r (by omega)).1, (g2 r (by omega)).2]
      exact HP.2.2.2.2 r hr
    refine br_t (by decide) (zy_make hk W H5 (fun st t1 t2 => ?_))
    exact G _ _ _ _ tk bh st ⟨zo_1u, zo_1u, zo_1u, zo_1u, fun s r hs hr => (g1 _ (by omega)).1, fun s r hs hr => (g1 _ (by omega)).2⟩ H5 t1 t2
  · rintro n i ⟨tk, bh⟩ hi ⟨g1, g2⟩ K'
    dsimp only at g1 g2
    show wY_place_75 post (nI k) (nI p) g_termLength g_demands g_boundCount g_known g_found g_least (n + 1) (nI i) (upd b_sizes (5 + k) (nI (zp_n P))) (upd b_empties (5 + k) (zb_i (zp_e P))) (upd b_firsts (5 + k) (nI (zp_F P))) (upd b_lasts (5 + k) (nI (zp_L P))) tk bh b_steps b_term b_patterns b_kepts b_signs b_signCounts b_bounds b_firstWords b_sums b_met b_tried b_seen b_apart b_counts b_next
    have r1 := g1 (6 * p + i) (by omega)
    rw [wY_place_75]
    try dsimp only
    rw [show (5 : Int32) + nI k = nI (5 + k) from nI_add 5 k, zb_6 p i, zb_6 (5 + k) i, nI_clamp (show 6 * p + i < 2 ^ 31 by omega), nI_clamp (show 6 * (5 + k) + i < 2 ^ 31 by omega), r1.1, r1.2]
    refine br_f (nI_ge (b := 6) hi (by decide)) (And.intro (vp_in_nI (by omega) (by decide)) (And.intro (vp_in_nI (by omega) (by decide)) (nm_e (And.intro (vp_in_nI (by omega) (by decide)) (And.intro (vp_in_nI (by omega) (by decide)) (nm_e (nm_r (nI_1 i) (K' (_, _) ⟨fun j hj => ?_, fun r hr => ?_⟩))))))))
    · show upd tk (6 * (5 + k) + i) _ j = _ ∧ upd bh (6 * (5 + k) + i) _ j = _
      rw [pk_un (by omega), pk_un (by omega)]
      exact g1 j hj
    · show upd tk (6 * (5 + k) + i) _ (6 * (5 + k) + r) = _ ∧ upd bh (6 * (5 + k) + i) _ (6 * (5 + k) + r) = _
      by_cases z : r = i
      · subst z
        exact ⟨pk_us, pk_us⟩
      · rw [pk_un (by omega), pk_un (by omega)]
        exact g2 r (by omega)
end
/-- the pattern of the word without letters -/
def zp_0 : PT := (0, true, 0, 0, fun _ => 0, fun _ => 0)
theorem zp_0W : zp_W zp_0 := ⟨by decide, by decide, by decide, fun p hp => absurd hp (Nat.not_lt_zero p)⟩
theorem zp_0T : zp_T zp_0 := ⟨fun _ => rfl, fun p hp => absurd hp (Nat.not_lt_zero p)⟩
theorem zy_init {post : SY → Prop} (G : ∀ em st, (∀ k, k < 3 → zy_P (fun _ => 0) em (fun _ => 0) (fun _ => 0) (fun _ => 0) (fun _ => 0) (5 + k) zp_0 ∧ zy_T st k zp_0) → post (0, 0, 0, 0, 0, 0, 0, fun _ => 0, em, fun _ => 0, fun _ => 0, fun _ => 0, fun _ => 0, st, fun _ => 0, fun _ => 0, fun _ => 0, fun _ => 0, fun _ => 0, fun _ => 0, fun _ => 0, fun _ => 0, fun _ => 0, fun _ => 0, fun _ => 0, fun _ => 0, fun _ => 0, fun _ => 0)) : wpY_init post := by
  refine loop_0 (fun n i (s : (Nat → Int32) × (Nat → Int32)) => wY_init_175 post n (nI i) 0 0 0 0 0 0 0 (fun _ => 0) s.1 (fun _ => 0) (fun _ => 0) (fun _ => 0) (fun _ => 0) s.2 (fun _ => 0) (fun _ => 0) (fun _ => 0) (fun _ => 0) (fun _ => 0) (fun _ => 0) (fun _ => 0) (fun _ => 0) (fun _ => 0) (fun _ => 0) (fun _ => 0) (fun _ => 0) (fun _ => 0) (fun _ => 0)) (fun i s => ∀ k, k < i → zy_P (fun _ => 0) s.1 (fun _ => 0) (fun _ => 0) (fun _ => 0) (fun _ => 0) (5 + k) zp_0 ∧ zy_T s.2 k zp_0) 3 (fun _ => 0, fun _ => 0) (fun k hk => absurd hk (Nat.not_lt_zero k)) ?_ ?_
  · rintro n ⟨em, st⟩ h1
    show wY_init_175 post (n + 1) (nI 3) 0 0 0 0 0 0 0 (fun _ => 0) em (fun _ => 0) (fun _ => 0) (fun _ => 0) (fun _ => 0) st (fun _ => 0) (fun _ => 0) (fun _ => 0) (fun _ => 0) (fun _ => 0) (fun _ => 0) (fun _ => 0) (fun _ => 0) (fun _ => 0) (fun _ => 0) (fun _ => 0) (fun _ => 0) (fun _ => 0) (fun _ => 0)
    rw [wY_init_175]
    exact br_t (by decide) (G em st h1)
  · rintro n i ⟨em, st⟩ hi h1 K'
    dsimp only at h1
    show wY_init_175 post (n + 1) (nI i) 0 0 0 0 0 0 0 (fun _ => 0) em (fun _ => 0) (fun _ => 0) (fun _ => 0) (fun _ => 0) st (fun _ => 0) (fun _ => 0) (fun _ => 0) (fun _ => 0) (fun _ => 0) (fun _ => 0) (fun _ => 0) (fun _ => 0) (fun _ => 0) (fun _ => 0) (fun _ => 0) (fun _ => 0) (fun _ => 0) (fun _ => 0)
    rw [wY_init_175]
    try dsimp only
    rw [show (5 : Int32) + nI i = nI (5 + i) from nI_add 5 i, nI_clamp (show 5 + i < 2 ^ 31 by omega), zb_v1]
    have H5 : zy_P (fun _ => 0) (upd em (5 + i) 1) (fun _ => 0) (fun _ => 0) (fun _ => 0) (fun _ => 0) (5 + i) zp_0 := ⟨rfl, pk_us, rfl, rfl, fun p hp => absurd hp (Nat.not_lt_zero p)⟩
    refine br_f (nI_ge (b := 3) hi (by decide)) (And.intro (vp_in_nI (by omega) (by decide)) (nm_e (zy_make hi zp_0W H5 (fun st' t1 t2 => ?_))))
    try dsimp only
    refine nm_r (nI_1 i) (K' (_, _) (fun k hk => ?_))
    by_cases z : k = i
    · subst z
      exact ⟨H5, t1⟩
    · obtain ⟨q1, q2⟩ := h1 k (by omega)
      refine ⟨⟨rfl, ?_, rfl, rfl, fun p hp => absurd hp (Nat.not_lt_zero p)⟩, fun t c ht hc => ?_⟩
      · show upd em (5 + i) 1 (5 + k) = _
        rw [pk_un (by omega)]; exact q1.2.1
      · show st' _ = _
        rw [t2 _ (by omega)]; exact q2 t c ht hc
theorem zx_init {post : SX → Prop} (G : ∀ he ln lt, (∀ k, k < 3 → zx_P (fun _ => 0) he (fun _ => 0) (fun _ => 0) (fun _ => 0) (fun _ => 0) k zp_0) → zx_L ln lt → post (0, 0, 0, 0, 0, 0, 0, 0, 0, fun _ => 0, he, fun _ => 0, fun _ => 0, fun _ => 0, fun _ => 0, fun _ => 0, fun _ => 0, fun _ => 0, fun _ => 0, fun _ => 0, fun _ => 0, fun _ => 0, ln, lt, fun _ => 0, fun _ => 0, fun _ => 0, fun _ => 0, fun _ => 0, fun _ => 0, fun _ => 0, fun _ => 0, fun _ => 0, fun _ => 0, fun _ => 0, fun _ => 0, fun _ => 0, fun _ => 0, fun _ => 0, fun _ => 0, fun _ => 0, fun _ => 0)) : wpX_init post := by
  refine loop_0 (fun n i he => wX_init_274 post 0 0 0 0 0 0 0 0 0 n (nI i) (fun _ => 0) he (fun _ => 0) (fun _ => 0) (fun _ => 0) (fun _ => 0) (fun _ => 0) (fun _ => 0) (fun _ => 0) (fun _ => 0) (fun _ => 0) (fun _ => 0) (fun _ => 0) (fun _ => 0) (fun _ => 0) (fun _ => 0) (fun _ => 0) (fun _ => 0) (fun _ => 0) (fun _ => 0) (fun _ => 0) (fun _ => 0) (fun _ => 0) (fun _ => 0) (fun _ => 0) (fun _ => 0) (fun _ => 0) (fun _ => 0) (fun _ => 0) (fun _ => 0) (fun _ => 0) (fun _ => 0) (fun _ => 0)) (fun i he => ∀ k, k < i → he k = 1) 3 (fun _ => 0) (fun k hk => absurd hk (Nat.not_lt_zero k)) ?_ ?_
  · intro n he h1
    show wX_init_274 post 0 0 0 0 0 0 0 0 0 (n + 1) (nI 3) (fun _ => 0) he (fun _ => 0) (fun _ => 0) (fun _ => 0) (fun _ => 0) (fun _ => 0) (fun _ => 0) (fun _ => 0) (fun _ => 0) (fun _ => 0) (fun _ => 0) (fun _ => 0) (fun _ => 0) (fun _ => 0) (fun _ => 0) (fun _ => 0) (fun _ => 0) (fun _ => 0) (fun _ => 0) (fun _ => 0) (fun _ => 0) (fun _ => 0) (fun _ => 0) (fun _ => 0) (fun _ => 0) (fun _ => 0) (fun _ => 0) (fun _ => 0) (fun _ => 0) (fun _ => 0) (fun _ => 0) (fun _ => 0)
    rw [wX_init_274]
    refine br_t (by decide) ?_
    refine loop_0 (fun n i (s : (Nat → Int32) × (Nat → Int32)) => wX_init_294 post 0 0 0 0 0 0 0 0 0 n (nI i) (fun _ => 0) he (fun _ => 0) (fun _ => 0) (fun _ => 0) (fun _ => 0) (fun _ => 0) (fun _ => 0) (fun _ => 0) (fun _ => 0) (fun _ => 0) (fun _ => 0) (fun _ => 0) s.1 s.2 (fun _ => 0) (fun _ => 0) (fun _ => 0) (fun _ => 0) (fun _ => 0) (fun _ => 0) (fun _ => 0) (fun _ => 0) (fun _ => 0) (fun _ => 0) (fun _ => 0) (fun _ => 0) (fun _ => 0) (fun _ => 0) (fun _ => 0) (fun _ => 0) (fun _ => 0) (fun _ => 0)) (fun i s => ∀ w, w < i → s.1 w = nI (zw_n w) ∧ s.2 w = nI (w + 1 - 2 ^ zw_n w)) 15 (fun _ => 0, fun _ => 0) (fun k hk => absurd hk (Nat.not_lt_zero k)) ?_ ?_
    · rintro n ⟨ln, lt⟩ h2
      show wX_init_294 post 0 0 0 0 0 0 0 0 0 (n + 1) (nI 15) (fun _ => 0) he (fun _ => 0) (fun _ => 0) (fun _ => 0) (fun _ => 0) (fun _ => 0) (fun _ => 0) (fun _ => 0) (fun _ => 0) (fun _ => 0) (fun _ => 0) (fun _ => 0) ln lt (fun _ => 0) (fun _ => 0) (fun _ => 0) (fun _ => 0) (fun _ => 0) (fun _ => 0) (fun _ => 0) (fun _ => 0) (fun _ => 0) (fun _ => 0) (fun _ => 0) (fun _ => 0) (fun _ => 0) (fun _ => 0) (fun _ => 0) (fun _ => 0) (fun _ => 0) (fun _ => 0)
      rw [wX_init_294]
      exact br_t (by decide) (G he ln lt (fun k hk => ⟨rfl, h1 k hk, rfl, rfl, fun p hp => absurd hp (Nat.not_lt_zero p)⟩) h2)
    · rintro n i ⟨ln, lt⟩ hi h2 K'
      dsimp only at h2
      show wX_init_294 post 0 0 0 0 0 0 0 0 0 (n + 1) (nI i) (fun _ => 0) he (fun _ => 0) (fun _ => 0) (fun _ => 0) (fun _ => 0) (fun _ => 0) (fun _ => 0) (fun _ => 0) (fun _ => 0) (fun _ => 0) (fun _ => 0) (fun _ => 0) ln lt (fun _ => 0) (fun _ => 0) (fun _ => 0) (fun _ => 0) (fun _ => 0) (fun _ => 0) (fun _ => 0) (fun _ => 0) (fun _ => 0) (fun _ => 0) (fun _ => 0) (fun _ => 0) (fun _ => 0) (fun _ => 0) (fun _ => 0) (fun _ => 0) (fun _ => 0) (fun _ => 0)
      have hin : vp_in (nI i) 15 := vp_in_nI hi (by decide)
      have hle : 2 ^ zw_n i ≤ i + 1 := (by decide : ∀ i, i < 15 → 2 ^ zw_n i ≤ i + 1) i hi
      have h3 := zw_n3 i
      have k334 : ∀ z : Nat, z = zw_n i → wX_init_334 post (wX_init_294 post 0 0 0 0 0 0 0 0 0 n) (nI i) (nI z) (nI i) 0 0 0 0 0 0 0 0 0 (fun _ => 0) he (fun _ => 0) (fun _ => 0) (fun _ => 0) (fun _ => 0) (fun _ => 0) (fun _ => 0) (fun _ => 0) (fun _ => 0) (fun _ => 0) (fun _ => 0) (fun _ => 0) ln lt (fun _ => 0) (fun _ => 0) (fun _ => 0) (fun _ => 0) (fun _ => 0) (fun _ => 0) (fun _ => 0) (fun _ => 0) (fun _ => 0) (fun _ => 0) (fun _ => 0) (fun _ => 0) (fun _ => 0) (fun _ => 0) (fun _ => 0) (fun _ => 0) (fun _ => 0) (fun _ => 0) := by
        intro z hz
        subst hz
        rw [wX_init_334, nI_clamp (show i < 2 ^ 31 by omega)]
        refine And.intro hin (nm_e (And.intro hin (And.intro hin (nm_r (e' := upd lt i (nI (i + 1 - 2 ^ zw_n i))) ?_ (nm_r (nI_1 i) (K' (_, _) (fun w hw => ?_)))))))
        · rw [pk_us, zb_2w (by omega), nI_1, pk_sub hle]
        · show upd ln i _ w = _ ∧ upd lt i _ w = _
          by_cases y : w = i
          · subst y
            exact ⟨pk_us, pk_us⟩
          · rw [pk_un y, pk_un y]
            exact h2 w (by omega)
      rw [wX_init_294]
      refine br_f (nI_ge (b := 15) hi (by decide)) ?_
      unfold zw_n at k334
      refine pk_le 1 i (fun g1 => ?_) (fun g1 => ?_)
      · rw [if_neg (show ¬ i = 0 by omega)] at k334
        refine pk_le 3 i (fun g3 => ?_) (fun g3 => ?_)
        · rw [if_neg (show ¬ i < 3 by omega)] at k334
          refine pk_le 7 i (fun g7 => ?_) (fun g7 => ?_)
          · rw [if_neg (show ¬ i < 7 by omega)] at k334; exact k334 3 rfl
          · rw [if_pos g7] at k334; exact k334 2 rfl
        · rw [if_pos g3] at k334; exact k334 1 rfl
      · rw [if_pos (show i = 0 by omega)] at k334; exact k334 0 rfl
  · intro n i he hi h1 K'
    show wX_init_274 post 0 0 0 0 0 0 0 0 0 (n + 1) (nI i) (fun _ => 0) he (fun _ => 0) (fun _ => 0) (fun _ => 0) (fun _ => 0) (fun _ => 0) (fun _ => 0) (fun _ => 0) (fun _ => 0) (fun _ => 0) (fun _ => 0) (fun _ => 0) (fun _ => 0) (fun _ => 0) (fun _ => 0) (fun _ => 0) (fun _ => 0) (fun _ => 0) (fun _ => 0) (fun _ => 0) (fun _ => 0) (fun _ => 0) (fun _ => 0) (fun _ => 0) (fun _ => 0) (fun _ => 0) (fun _ => 0) (fun _ => 0) (fun _ => 0) (fun _ => 0) (fun _ => 0) (fun _ => 0)
    rw [wX_init_274]
    refine br_f (nI_ge (b := 3) hi (by decide)) (And.intro (vp_in_nI (by omega) (by decide)) (nm_e (nm_r (nI_1 i) (K' _ (fun k hk => ?_)))))
    rw [nI_clamp (show i < 2 ^ 31 by omega), zb_v1]
    by_cases z : k = i
    · rw [z, pk_us]
    · rw [pk_un z]; exact h1 k (by omega)
end
section
/-! the relation of the two states -/
def zR_I (a_sizes a_hasEmpty a_firstSet a_lastSet a_takes a_behind b_sizes b_empties b_firsts b_lasts b_letters b_behinds b_steps : Nat → Int32) (ip : Nat → PT) : Prop :=
  ∀ k, k < 3 → zp_W (ip k) ∧ zp_T (ip k) ∧ zx_P a_sizes a_hasEmpty a_firstSet a_lastSet a_takes a_behind k (ip k) ∧ zy_P b_sizes b_empties b_firsts b_lasts b_letters b_behinds (5 + k) (ip k) ∧ zy_T b_steps k (ip k)
def zR_S (a_sizes a_hasEmpty a_firstSet a_lastSet a_takes a_behind b_sizes b_empties b_firsts b_lasts b_letters b_behinds : Nat → Int32) (h : Nat) (sp : Nat → PT) : Prop :=
  ∀ d, d < h → zp_W (sp d) ∧ zp_T (sp d) ∧ zx_P a_sizes a_hasEmpty a_firstSet a_lastSet a_takes a_behind (3 + d) (sp d) ∧ zy_P b_sizes b_empties b_firsts b_lasts b_letters b_behinds d (sp d)
def zR_P (f_height : Int32) (a_sizes a_hasEmpty a_firstSet a_lastSet a_takes a_behind : Nat → Int32) (g_depth : Int32) (b_sizes b_empties b_firsts b_lasts b_letters b_behinds b_steps : Nat → Int32) : Prop :=
  (∃ (h : Nat) (sp : Nat → PT), h ≤ 5 ∧ f_height = nI h ∧ g_depth = nI h ∧ zR_S a_sizes a_hasEmpty a_firstSet a_lastSet a_takes a_behind b_sizes b_empties b_firsts b_lasts b_letters b_behinds h sp) ∧ ∃ ip : Nat → PT, zR_I a_sizes a_hasEmpty a_firstSet a_lastSet a_takes a_behind b_sizes b_empties b_firsts b_lasts b_letters b_behinds b_steps ip
def zR_T (f_signs : Int32) (a_sign : Nat → Int32) (g_termLength : Int32) (b_term : Nat → Int32) : Prop :=
  g_termLength = f_signs ∧ b_term = a_sign ∧ ∃ ns : Nat, ns ≤ 4 ∧ f_signs = nI ns ∧ ∀ i, i < ns → ∃ s, s < 5 ∧ a_sign i = nI s
def zR_D (f_demands : Int32) (a_demandSigns a_demandSign a_demandPattern a_demandKept : Nat → Int32) (g_demands : Int32) (b_patterns b_kepts b_signs b_signCounts : Nat → Int32) : Prop :=
  g_demands = f_demands ∧ b_patterns = a_demandPattern ∧ b_kepts = a_demandKept ∧ b_signs = a_demandSign ∧ b_signCounts = a_demandSigns ∧ ∃ nd : Nat, f_demands = nI nd ∧ zd_ok a_demandPattern a_demandSign a_demandSigns nd
def zR_B (f_bounds : Int32) (a_factor a_limit : Nat → Int32) (g_boundCount : Int32) (b_bounds : Nat → Int32) : Prop :=
  g_boundCount = f_bounds ∧ ∃ nb : Nat, nb ≤ 3 ∧ f_bounds = nI nb ∧ zx_B nb a_factor a_limit b_bounds
def zR_C (f_isSolved f_kinds f_solutionCount f_leastSum : Int32) (a_kindCount a_countOfSum a_lengthSet a_kindSet a_firstWord : Nat → Int32) (g_known g_found : Int32) (b_firstWords b_sums b_met : Nat → Int32) : Prop :=
  (f_isSolved = 0 ∧ g_known = 0) ∨ (f_isSolved = 1 ∧ g_known = 1 ∧ zC f_solutionCount f_leastSum f_kinds a_kindCount a_countOfSum a_lengthSet a_kindSet a_firstWord g_found b_sums b_met b_firstWords)
/-- the relation at the head of a turn whose first cell is k -/
def i_Rel (_ : Nat) (u : SX) (v : SY) : Prop := match u, v with
  | (f_height, f_signs, f_demands, f_bounds, f_isSolved, f_kinds, f_solutionCount, f_leastSum, f_found, a_sizes, a_hasEmpty, a_firstSet, a_lastSet, a_takes, a_behind, a_sign, a_demandSigns, a_demandSign, a_demandPattern, a_demandKept, a_factor, a_limit, a_lengthOf, a_lettersOf, a_action, a_kindWord, a_kindCount, a_kindOf, a_kindAction, a_countOfSum, a_lengthSet, a_kindSet, a_firstWord, a_foundSet, a_numberOf, a_stepTo, a_group, a_nextGroup, a_counts, a_isPair, a_pairQueue, a_chosen), (g_depth, g_termLength, g_demands, g_boundCount, g_known, g_found, g_least, b_sizes, b_empties, b_firsts, b_lasts, b_letters, b_behinds, b_steps, b_term, b_patterns, b_kepts, b_signs, b_signCounts, b_bounds, b_firstWords, b_sums, b_met, b_tried, b_seen, b_apart, b_counts, b_next) =>
    zR_P f_height a_sizes a_hasEmpty a_firstSet a_lastSet a_takes a_behind g_depth b_sizes b_empties b_firsts b_lasts b_letters b_behinds b_steps ∧
    zR_T f_signs a_sign g_termLength b_term ∧
    zR_D f_demands a_demandSigns a_demandSign a_demandPattern a_demandKept g_demands b_patterns b_kepts b_signs b_signCounts ∧
    zR_B f_bounds a_factor a_limit g_boundCount b_bounds ∧ zx_L a_lengthOf a_lettersOf ∧
    zR_C f_isSolved f_kinds f_solutionCount f_leastSum a_kindCount a_countOfSum a_lengthSet a_kindSet a_firstWord g_known g_found b_firstWords b_sums b_met
theorem i_up {k : Nat} {u : SX} {v : SY} (h : i_Rel k u v) : i_Rel (k + 5) u v := h
section
variable {f_height f_signs f_demands f_bounds f_isSolved f_kinds f_solutionCount f_leastSum f_found : Int32} {a_sizes a_hasEmpty a_firstSet a_lastSet a_takes a_behind a_sign a_demandSigns a_demandSign a_demandPattern a_demandKept a_factor a_limit a_lengthOf a_lettersOf a_action a_kindWord a_kindCount a_kindOf a_kindAction a_countOfSum a_lengthSet a_kindSet a_firstWord a_foundSet a_numberOf a_stepTo a_group a_nextGroup a_counts a_isPair a_pairQueue a_chosen : Nat → Int32}
variable {g_depth g_termLength g_demands g_boundCount g_known g_found g_least : Int32} {b_sizes b_empties b_firsts b_lasts b_letters b_behinds b_steps b_term b_patterns b_kepts b_signs b_signCounts b_bounds b_firstWords b_sums b_met b_tried b_seen b_apart b_counts b_next : Nat → Int32}
theorem zz_in {k : Nat} (RP : zR_P f_height a_sizes a_hasEmpty a_firstSet a_lastSet a_takes a_behind g_depth b_sizes b_empties b_firsts b_lasts b_letters b_behinds b_steps) (RT : zR_T f_signs a_sign g_termLength b_term)
    (RD : zR_D f_demands a_demandSigns a_demandSign a_demandPattern a_demandKept g_demands b_patterns b_kepts b_signs b_signCounts) (RB : zR_B f_bounds a_factor a_limit g_boundCount b_bounds) (RL : zx_L a_lengthOf a_lettersOf)
    (RC : zR_C f_isSolved f_kinds f_solutionCount f_leastSum a_kindCount a_countOfSum a_lengthSet a_kindSet a_firstWord g_known g_found b_firstWords b_sums b_met) : i_Rel k (f_height, f_signs, f_demands, f_bounds, f_isSolved, f_kinds, f_solutionCount, f_leastSum, f_found, a_sizes, a_hasEmpty, a_firstSet, a_lastSet, a_takes, a_behind, a_sign, a_demandSigns, a_demandSign, a_demandPattern, a_demandKept, a_factor, a_limit, a_lengthOf, a_lettersOf, a_action, a_kindWord, a_kindCount, a_kindOf, a_kindAction, a_countOfSum, a_lengthSet, a_kindSet, a_firstWord, a_foundSet, a_numberOf, a_stepTo, a_group, a_nextGroup, a_counts, a_isPair, a_pairQueue, a_chosen) (g_depth, g_termLength, g_demands, g_boundCount, g_known, g_found, g_least, b_sizes, b_empties, b_firsts, b_lasts, b_letters, b_behinds, b_steps, b_term, b_patterns, b_kepts, b_signs, b_signCounts, b_bounds, b_firstWords, b_sums, b_met, b_tried, b_seen, b_apart, b_counts, b_next) := ⟨RP, RT, RD, RB, RL, RC⟩
end
theorem zz_el {Z : SX → SY → Prop} {k : Nat} {u : SX} {v : SY}
    (h : ∀ f_height f_signs f_demands f_bounds f_isSolved f_kinds f_solutionCount f_leastSum f_found a_sizes a_hasEmpty a_firstSet a_lastSet a_takes a_behind a_sign a_demandSigns a_demandSign a_demandPattern a_demandKept a_factor a_limit a_lengthOf a_lettersOf a_action a_kindWord a_kindCount a_kindOf a_kindAction a_countOfSum a_lengthSet a_kindSet a_firstWord a_foundSet a_numberOf a_stepTo a_group a_nextGroup a_counts a_isPair a_pairQueue a_chosen g_depth g_termLength g_demands g_boundCount g_known g_found g_least b_sizes b_empties b_firsts b_lasts b_letters b_behinds b_steps b_term b_patterns b_kepts b_signs b_signCounts b_bounds b_firstWords b_sums b_met b_tried b_seen b_apart b_counts b_next, zR_P f_height a_sizes a_hasEmpty a_firstSet a_lastSet a_takes a_behind g_depth b_sizes b_empties b_firsts b_lasts b_letters b_behinds b_steps → zR_T f_signs a_sign g_termLength b_term →
      zR_D f_demands a_demandSigns a_demandSign a_demandPattern a_demandKept g_demands b_patterns b_kepts b_signs b_signCounts → zR_B f_bounds a_factor a_limit g_boundCount b_bounds → zx_L a_lengthOf a_lettersOf →
      zR_C f_isSolved f_kinds f_solutionCount f_leastSum a_kindCount a_countOfSum a_lengthSet a_kindSet a_firstWord g_known g_found b_firstWords b_sums b_met → Z (f_height, f_signs, f_demands, f_bounds, f_isSolved, f_kinds, f_solutionCount, f_leastSum, f_found, a_sizes, a_hasEmpty, a_firstSet, a_lastSet, a_takes, a_behind, a_sign, a_demandSigns, a_demandSign, a_demandPattern, a_demandKept, a_factor, a_limit, a_lengthOf, a_lettersOf, a_action, a_kindWord, a_kindCount, a_kindOf, a_kindAction, a_countOfSum, a_lengthSet, a_kindSet, a_firstWord, a_foundSet, a_numberOf, a_stepTo, a_group, a_nextGroup, a_counts, a_isPair, a_pairQueue, a_chosen) (g_depth, g_termLength, g_demands, g_boundCount, g_known, g_found, g_least, b_sizes, b_empties, b_firsts, b_lasts, b_letters, b_behinds, b_steps, b_term, b_patterns, b_kepts, b_signs, b_signCounts, b_bounds, b_firstWords, b_sums, b_met, b_tried, b_seen, b_apart, b_counts, b_next)) (I : i_Rel k u v) : Z u v :=
  match u, v, I with
  | (f_height, f_signs, f_demands, f_bounds, f_isSolved, f_kinds, f_solutionCount, f_leastSum, f_found, a_sizes, a_hasEmpty, a_firstSet, a_lastSet, a_takes, a_behind, a_sign, a_demandSigns, a_demandSign, a_demandPattern, a_demandKept, a_factor, a_limit, a_lengthOf, a_lettersOf, a_action, a_kindWord, a_kindCount, a_kindOf, a_kindAction, a_countOfSum, a_lengthSet, a_kindSet, a_firstWord, a_foundSet, a_numberOf, a_stepTo, a_group, a_nextGroup, a_counts, a_isPair, a_pairQueue, a_chosen), (g_depth, g_termLength, g_demands, g_boundCount, g_known, g_found, g_least, b_sizes, b_empties, b_firsts, b_lasts, b_letters, b_behinds, b_steps, b_term, b_patterns, b_kepts, b_signs, b_signCounts, b_bounds, b_firstWords, b_sums, b_met, b_tried, b_seen, b_apart, b_counts, b_next), I => h f_height f_signs f_demands f_bounds f_isSolved f_kinds f_solutionCount f_leastSum f_found a_sizes a_hasEmpty a_firstSet a_lastSet a_takes a_behind a_sign a_demandSigns a_demandSign a_demandPattern a_demandKept a_factor a_limit a_lengthOf a_lettersOf a_action a_kindWord a_kindCount a_kindOf a_kindAction a_countOfSum a_lengthSet a_kindSet a_firstWord a_foundSet a_numberOf a_stepTo a_group a_nextGroup a_counts a_isPair a_pairQueue a_chosen g_depth g_termLength g_demands g_boundCount g_known g_found g_least b_sizes b_empties b_firsts b_lasts b_letters b_behinds b_steps b_term b_patterns b_kepts b_signs b_signCounts b_bounds b_firstWords b_sums b_met b_tried b_seen b_apart b_counts b_next I.1 I.2.1 I.2.2.1 I.2.2.2.1 I.2.2.2.2.1 I.2.2.2.2.2
theorem i_vc0 : wpX_init (fun u => wpY_init (fun v => i_Rel 0 u v)) := by
  refine zx_init (fun he ln lt h1 hL => zy_init (fun em st h2 => zz_in ⟨⟨0, fun _ => zp_0, by omega, rfl, rfl, fun d hd => absurd hd (Nat.not_lt_zero d)⟩, fun _ => zp_0, fun k hk => ⟨zp_0W, zp_0T, h1 k hk, (h2 k hk).1, (h2 k hk).2⟩⟩ ⟨rfl, rfl, 0, by omega, rfl, fun i hi => absurd hi (Nat.not_lt_zero i)⟩ ⟨rfl, rfl, rfl, rfl, rfl, 0, rfl, by omega, fun i hi => absurd hi (Nat.not_lt_zero i)⟩ ⟨rfl, 0, by omega, rfl, fun b hb => absurd hb (Nat.not_lt_zero b)⟩ hL (Or.inl ⟨rfl, rfl⟩)))
/-- an argument: out of range, or below 3 -/
def zz_out (v : Int32) : Prop := v < 0 ∨ (¬ v < 0 ∧ ¬ v ≤ 2 ∧ 2 < v)
theorem zz_3 (v : Int32) : zz_out v ∨ ∃ k, k < 3 ∧ v = nI k := by
  rcases pk_ix v (n := 3) (by decide) with h | h | h
  · exact Or.inl (Or.inl h)
  · refine Or.inl (Or.inr ?_)
    rw [Int32.le_iff_toInt_le] at h
    have e3 : (nI 3).toInt = 3 := by decide
    have e2 : (2 : Int32).toInt = 2 := by decide
    have e0 : (0 : Int32).toInt = 0 := by decide
    rw [Int32.lt_iff_toInt_lt, Int32.le_iff_toInt_le, Int32.lt_iff_toInt_lt, e2, e0]
    omega
  · exact Or.inr h
section
variable {f_height f_signs f_demands f_bounds f_isSolved f_kinds f_solutionCount f_leastSum f_found : Int32} {a_sizes a_hasEmpty a_firstSet a_lastSet a_takes a_behind a_sign a_demandSigns a_demandSign a_demandPattern a_demandKept a_factor a_limit a_lengthOf a_lettersOf a_action a_kindWord a_kindCount a_kindOf a_kindAction a_countOfSum a_lengthSet a_kindSet a_firstWord a_foundSet a_numberOf a_stepTo a_group a_nextGroup a_counts a_isPair a_pairQueue a_chosen : Nat → Int32}
theorem zx_bad {post : Int32 → Prop} {v : Int32} (hv : zz_out v) (hp : post 1) : wpX_badThree post (f_height, f_signs, f_demands, f_bounds, f_isSolved, f_kinds, f_solutionCount, f_leastSum, f_found, a_sizes, a_hasEmpty, a_firstSet, a_lastSet, a_takes, a_behind, a_sign, a_demandSigns, a_demandSign, a_demandPattern, a_demandKept, a_factor, a_limit, a_lengthOf, a_lettersOf, a_action, a_kindWord, a_kindCount, a_kindOf, a_kindAction, a_countOfSum, a_lengthSet, a_kindSet, a_firstWord, a_foundSet, a_numberOf, a_stepTo, a_group, a_nextGroup, a_counts, a_isPair, a_pairQueue, a_chosen) v := by
  rcases hv with h | ⟨h0, h1, _⟩
  · exact br_t h hp
  · exact br_f h0 (br_f h1 hp)
theorem zx_ok3 {post : Int32 → Prop} {k : Nat} (hk : k < 3) (hp : post 0) : wpX_badThree post (f_height, f_signs, f_demands, f_bounds, f_isSolved, f_kinds, f_solutionCount, f_leastSum, f_found, a_sizes, a_hasEmpty, a_firstSet, a_lastSet, a_takes, a_behind, a_sign, a_demandSigns, a_demandSign, a_demandPattern, a_demandKept, a_factor, a_limit, a_lengthOf, a_lettersOf, a_action, a_kindWord, a_kindCount, a_kindOf, a_kindAction, a_countOfSum, a_lengthSet, a_kindSet, a_firstWord, a_foundSet, a_numberOf, a_stepTo, a_group, a_nextGroup, a_counts, a_isPair, a_pairQueue, a_chosen) (nI k) := br_f (nI_pos (by omega)) (br_t (nI_le (b := 2) (by omega) (by decide)) hp)
end
section
variable {g_depth g_termLength g_demands g_boundCount g_known g_found g_least : Int32} {b_sizes b_empties b_firsts b_lasts b_letters b_behinds b_steps b_term b_patterns b_kepts b_signs b_signCounts b_bounds b_firstWords b_sums b_met b_tried b_seen b_apart b_counts b_next : Nat → Int32}
theorem zy_bad {post : Int32 → Prop} {v : Int32} (hv : zz_out v) (hp : post 0) : wpY_isThird post (g_depth, g_termLength, g_demands, g_boundCount, g_known, g_found, g_least, b_sizes, b_empties, b_firsts, b_lasts, b_letters, b_behinds, b_steps, b_term, b_patterns, b_kepts, b_signs, b_signCounts, b_bounds, b_firstWords, b_sums, b_met, b_tried, b_seen, b_apart, b_counts, b_next) v := by
  rcases hv with h | ⟨h0, _, h1⟩
  · exact br_t h hp
  · exact br_f h0 (br_t h1 hp)
theorem zy_ok3 {post : Int32 → Prop} {k : Nat} (hk : k < 3) (hp : post 1) : wpY_isThird post (g_depth, g_termLength, g_demands, g_boundCount, g_known, g_found, g_least, b_sizes, b_empties, b_firsts, b_lasts, b_letters, b_behinds, b_steps, b_term, b_patterns, b_kepts, b_signs, b_signCounts, b_bounds, b_firstWords, b_sums, b_met, b_tried, b_seen, b_apart, b_counts, b_next) (nI k) := br_f (nI_pos (by omega)) (br_f (nI_nlt (a := 2) (by omega) (by decide)) hp)
end
end
section
/-! the owed statements: patterns -/
def zf_p (f : Nat → PT) (a : Nat) (P : PT) : Nat → PT := fun j => if j = a then P else f j
theorem zf_ps {f : Nat → PT} {a : Nat} {P : PT} : zf_p f a P a = P := if_pos rfl
theorem zf_pn {f : Nat → PT} {a j : Nat} {P : PT} (h : j ≠ a) : zf_p f a P j = f j := if_neg h
section
variable {a1 a2 a3 a4 a5 a6 c1 c2 c3 c4 c5 c6 b1 b2 b3 b4 b5 b6 d1 d2 d3 d4 d5 d6 st st' : Nat → Int32} {h h' d0 k : Nat} {sp ip : Nat → PT} {R : PT}
theorem zR_push (hS : zR_S a1 a2 a3 a4 a5 a6 b1 b2 b3 b4 b5 b6 h sp) (hI : zR_I a1 a2 a3 a4 a5 a6 b1 b2 b3 b4 b5 b6 st ip) (O : zx_off (3 + d0) a1 a2 a3 a4 a5 a6 c1 c2 c3 c4 c5 c6) (O' : zx_off d0 b1 b2 b3 b4 b5 b6 d1 d2 d3 d4 d5 d6) (hd : d0 < 5) (hle : ∀ d, d < h' → d ≠ d0 → d < h)
    (W : zp_W R) (T : zp_T R) (HX : zx_P c1 c2 c3 c4 c5 c6 (3 + d0) R) (HY : zy_P d1 d2 d3 d4 d5 d6 d0 R) :
    zR_S c1 c2 c3 c4 c5 c6 d1 d2 d3 d4 d5 d6 h' (zf_p sp d0 R) ∧ zR_I c1 c2 c3 c4 c5 c6 d1 d2 d3 d4 d5 d6 st ip := by
  refine ⟨fun d hd' => ?_, fun k hk => ?_⟩
  · by_cases z : d = d0
    · subst z
      rw [zf_ps]; exact ⟨W, T, HX, HY⟩
    · obtain ⟨q1, q2, q3, q4⟩ := hS d (hle d hd' z)
      rw [zf_pn z]
      exact ⟨q1, q2, zx_Pf O (by omega) q1 q3, zy_Pf O' z q1 q4⟩
  · obtain ⟨q1, q2, q3, q4, q5⟩ := hI k hk
    exact ⟨q1, q2, zx_Pf O (by omega) q1 q3, zy_Pf O' (by omega) q1 q4, q5⟩
theorem zR_put (hS : zR_S a1 a2 a3 a4 a5 a6 b1 b2 b3 b4 b5 b6 h sp) (hI : zR_I a1 a2 a3 a4 a5 a6 b1 b2 b3 b4 b5 b6 st ip) (O : zx_off k a1 a2 a3 a4 a5 a6 c1 c2 c3 c4 c5 c6) (O' : zx_off (5 + k) b1 b2 b3 b4 b5 b6 d1 d2 d3 d4 d5 d6) (hk : k < 3) (h5 : h ≤ 5) (hle : h' ≤ h)
    (W : zp_W R) (T : zp_T R) (HX : zx_P c1 c2 c3 c4 c5 c6 k R) (HY : zy_P d1 d2 d3 d4 d5 d6 (5 + k) R) (HT : zy_T st' k R) (hst : ∀ j, j < 256 * k ∨ 256 * k + 256 ≤ j → st' j = st j) :
    zR_S c1 c2 c3 c4 c5 c6 d1 d2 d3 d4 d5 d6 h' sp ∧ zR_I c1 c2 c3 c4 c5 c6 d1 d2 d3 d4 d5 d6 st' (zf_p ip k R) := by
  refine ⟨fun d hd' => ?_, fun j hj => ?_⟩
  · obtain ⟨q1, q2, q3, q4⟩ := hS d (by omega)
    exact ⟨q1, q2, zx_Pf O (by omega) q1 q3, zy_Pf O' (by omega) q1 q4⟩
  · by_cases z : j = k
    · subst z
      rw [zf_ps]; exact ⟨W, T, HX, HY, HT⟩
    · obtain ⟨q1, q2, q3, q4, q5⟩ := hI j hj
      rw [zf_pn z]
      exact ⟨q1, q2, zx_Pf O z q1 q3, zy_Pf O' (by omega) q1 q4, fun t c ht hc => by rw [hst _ (by omega)]; exact q5 t c ht hc⟩
end
theorem zz_4 (v : Int32) (n : Nat) (hn : n < 1000) : (v < 0 ∨ (¬ v < 0 ∧ ¬ v ≤ nI n)) ∨ ∃ w, w ≤ n ∧ v = nI w := by
  rcases pk_ix v (n := n + 1) (by omega) with h | h | ⟨j, h, e⟩
  · exact Or.inl (Or.inl h)
  · refine Or.inl (Or.inr ?_)
    rw [Int32.le_iff_toInt_le, nI_toInt (by omega)] at h
    have e0 : (0 : Int32).toInt = 0 := by decide
    rw [Int32.lt_iff_toInt_lt, Int32.le_iff_toInt_le, nI_toInt (by omega), e0]
    omega
  · exact Or.inr ⟨j, by omega, e⟩
theorem i_vc_simple {k : Nat} {u : SX} {v : SY} (I : i_Rel k u v) (hk : k + 5 ≤ 2560) (v1 : Int32) : wpX_simple (fun r u' => wpY_simple (fun r' v' => r' = r ∧ i_Rel (k + 5) u' v') v v1) u v1 := by
  refine zz_el (Z := fun u v => wpX_simple (fun r u' => wpY_simple (fun r' v' => r' = r ∧ i_Rel (k + 5) u' v') v v1) u v1) ?_ I
  intro f_height f_signs f_demands f_bounds f_isSolved f_kinds f_solutionCount f_leastSum f_found a_sizes a_hasEmpty a_firstSet a_lastSet a_takes a_behind a_sign a_demandSigns a_demandSign a_demandPattern a_demandKept a_factor a_limit a_lengthOf a_lettersOf a_action a_kindWord a_kindCount a_kindOf a_kindAction a_countOfSum a_lengthSet a_kindSet a_firstWord a_foundSet a_numberOf a_stepTo a_group a_nextGroup a_counts a_isPair a_pairQueue a_chosen g_depth g_termLength g_demands g_boundCount g_known g_found g_least b_sizes b_empties b_firsts b_lasts b_letters b_behinds b_steps b_term b_patterns b_kepts b_signs b_signCounts b_bounds b_firstWords b_sums b_met b_tried b_seen b_apart b_counts b_next RP RT RD RB RL RC
  have R : i_Rel (k + 5) (f_height, f_signs, f_demands, f_bounds, f_isSolved, f_kinds, f_solutionCount, f_leastSum, f_found, a_sizes, a_hasEmpty, a_firstSet, a_lastSet, a_takes, a_behind, a_sign, a_demandSigns, a_demandSign, a_demandPattern, a_demandKept, a_factor, a_limit, a_lengthOf, a_lettersOf, a_action, a_kindWord, a_kindCount, a_kindOf, a_kindAction, a_countOfSum, a_lengthSet, a_kindSet, a_firstWord, a_foundSet, a_numberOf, a_stepTo, a_group, a_nextGroup, a_counts, a_isPair, a_pairQueue, a_chosen) (g_depth, g_termLength, g_demands, g_boundCount, g_known, g_found, g_least, b_sizes, b_empties, b_firsts, b_lasts, b_letters, b_behinds, b_steps, b_term, b_patterns, b_kepts, b_signs, b_signCounts, b_bounds, b_firstWords, b_sums, b_met, b_tried, b_seen, b_apart, b_counts, b_next) := zz_in RP RT RD RB RL RC
  rcases zz_4 v1 3 (by decide) with hv | ⟨w, hw, rfl⟩
  · rcases hv with h0 | ⟨h0, h1⟩
    · exact br_t h0 (br_t h0 ⟨rfl, R⟩)
    · exact br_f h0 (br_f h1 (br_f h0 (br_f h1 ⟨rfl, R⟩)))
  · obtain ⟨⟨h, sp, h5, rfl, rfl, hS⟩, ip, hI⟩ := RP
    by_cases c : h = 5
    · subst c
      exact br_f (nI_pos (by omega)) (br_t (nI_le (b := 3) hw (by decide)) (br_t rfl (br_f (nI_pos (by omega)) (br_t (nI_le (b := 3) hw (by decide)) (br_t rfl ⟨rfl, R⟩)))))
    · refine zx_simple (by omega) hw (fun si he fi la tk bh O HX => zy_simple (by omega) hw (fun si' he' fi' la' tk' bh' O' HY => ⟨rfl, ?_⟩))
      obtain ⟨r1, r2⟩ := zR_push (h' := h + 1) hS hI O O' (by omega) (fun d a b => by omega) (zp_simpleW hw) (zp_simpleT w) HX HY
      exact zz_in ⟨⟨h + 1, _, by omega, rfl, rfl, r1⟩, ip, r2⟩ RT RD RB RL RC
theorem zz_then (P Q : PT) : zp_join true P Q = zp_then P Q := rfl
theorem zz_or (P Q : PT) : zp_join false P Q = zp_or P Q := rfl
theorem i_vc_then {k : Nat} {u : SX} {v : SY} (I : i_Rel k u v) (hk : k + 5 ≤ 2560) : wpX_then (fun r u' => wpY_then (fun r' v' => r' = r ∧ i_Rel (k + 5) u' v') v) u := by
  refine zz_el (Z := fun u v => wpX_then (fun r u' => wpY_then (fun r' v' => r' = r ∧ i_Rel (k + 5) u' v') v) u) ?_ I
  intro f_height f_signs f_demands f_bounds f_isSolved f_kinds f_solutionCount f_leastSum f_found a_sizes a_hasEmpty a_firstSet a_lastSet a_takes a_behind a_sign a_demandSigns a_demandSign a_demandPattern a_demandKept a_factor a_limit a_lengthOf a_lettersOf a_action a_kindWord a_kindCount a_kindOf a_kindAction a_countOfSum a_lengthSet a_kindSet a_firstWord a_foundSet a_numberOf a_stepTo a_group a_nextGroup a_counts a_isPair a_pairQueue a_chosen g_depth g_termLength g_demands g_boundCount g_known g_found g_least b_sizes b_empties b_firsts b_lasts b_letters b_behinds b_steps b_term b_patterns b_kepts b_signs b_signCounts b_bounds b_firstWords b_sums b_met b_tried b_seen b_apart b_counts b_next RP RT RD RB RL RC
  have R : i_Rel (k + 5) (f_height, f_signs, f_demands, f_bounds, f_isSolved, f_kinds, f_solutionCount, f_leastSum, f_found, a_sizes, a_hasEmpty, a_firstSet, a_lastSet, a_takes, a_behind, a_sign, a_demandSigns, a_demandSign, a_demandPattern, a_demandKept, a_factor, a_limit, a_lengthOf, a_lettersOf, a_action, a_kindWord, a_kindCount, a_kindOf, a_kindAction, a_countOfSum, a_lengthSet, a_kindSet, a_firstWord, a_foundSet, a_numberOf, a_stepTo, a_group, a_nextGroup, a_counts, a_isPair, a_pairQueue, a_chosen) (g_depth, g_termLength, g_demands, g_boundCount, g_known, g_found, g_least, b_sizes, b_empties, b_firsts, b_lasts, b_letters, b_behinds, b_steps, b_term, b_patterns, b_kepts, b_signs, b_signCounts, b_bounds, b_firstWords, b_sums, b_met, b_tried, b_seen, b_apart, b_counts, b_next) := zz_in RP RT RD RB RL RC
  obtain ⟨⟨h, sp, h5, rfl, rfl, hS⟩, ip, hI⟩ := RP
  by_cases c : h < 2
  · unfold wpX_then
    try dsimp only
    refine zx_ref1 c (br_f (by decide) ?_)
    unfold wpY_then wpY_join
    try dsimp only
    exact br_f (nI_ge (b := 2) c (by decide)) ⟨rfl, R⟩
  · obtain ⟨p, rfl⟩ : ∃ p, h = p + 2 := ⟨h - 2, by omega⟩
    obtain ⟨W, T, HX, HY⟩ := hS p (by omega)
    obtain ⟨V, U, HX2, HY2⟩ := hS (p + 1) (by omega)
    refine zx_then (by omega) h5 W V (by rw [show 1 + (p + 2) = 3 + p by omega]; exact HX) (by rw [show 2 + (p + 2) = 3 + (p + 1) by omega]; exact HX2) (fun hgt => ?_) (fun hle si he fi la tk bh O HX' => ?_)
    · unfold wpY_then
      try dsimp only
      exact zy_join (th := true) (by omega) h5 W V HY HY2 (fun _ => ⟨rfl, R⟩) (fun hle => absurd hgt (by omega))
    · unfold wpY_then
      try dsimp only
      refine zy_join (th := true) (by omega) h5 W V HY HY2 (fun hgt => absurd hle (by omega)) (fun _ si' he' fi' la' tk' bh' O' HY' => ⟨rfl, ?_⟩)
      rw [show 1 + (p + 2) = 3 + p by omega] at O HX'
      rw [show p + 2 - 2 = p by omega] at O' HY'
      obtain ⟨r1, r2⟩ := zR_push (h' := p + 2 - 1) hS hI O O' (by omega) (fun d a b => by omega) (zp_thenW W V hle) (zp_thenT T U) HX' HY'
      exact zz_in ⟨⟨p + 2 - 1, _, by omega, rfl, rfl, r1⟩, ip, r2⟩ RT RD RB RL RC
theorem i_vc_or {k : Nat} {u : SX} {v : SY} (I : i_Rel k u v) (hk : k + 5 ≤ 2560) : wpX_or (fun r u' => wpY_or (fun r' v' => r' = r ∧ i_Rel (k + 5) u' v') v) u := by
  refine zz_el (Z := fun u v => wpX_or (fun r u' => wpY_or (fun r' v' => r' = r ∧ i_Rel (k + 5) u' v') v) u) ?_ I
  intro f_height f_signs f_demands f_bounds f_isSolved f_kinds f_solutionCount f_leastSum f_found a_sizes a_hasEmpty a_firstSet a_lastSet a_takes a_behind a_sign a_demandSigns a_demandSign a_demandPattern a_demandKept a_factor a_limit a_lengthOf a_lettersOf a_action a_kindWord a_kindCount a_kindOf a_kindAction a_countOfSum a_lengthSet a_kindSet a_firstWord a_foundSet a_numberOf a_stepTo a_group a_nextGroup a_counts a_isPair a_pairQueue a_chosen g_depth g_termLength g_demands g_boundCount g_known g_found g_least b_sizes b_empties b_firsts b_lasts b_letters b_behinds b_steps b_term b_patterns b_kepts b_signs b_signCounts b_bounds b_firstWords b_sums b_met b_tried b_seen b_apart b_counts b_next RP RT RD RB RL RC
  have R : i_Rel (k + 5) (f_height, f_signs, f_demands, f_bounds, f_isSolved, f_kinds, f_solutionCount, f_leastSum, f_found, a_sizes, a_hasEmpty, a_firstSet, a_lastSet, a_takes, a_behind, a_sign, a_demandSigns, a_demandSign, a_demandPattern, a_demandKept, a_factor, a_limit, a_lengthOf, a_lettersOf, a_action, a_kindWord, a_kindCount, a_kindOf, a_kindAction, a_countOfSum, a_lengthSet, a_kindSet, a_firstWord, a_foundSet, a_numberOf, a_stepTo, a_group, a_nextGroup, a_counts, a_isPair, a_pairQueue, a_chosen) (g_depth, g_termLength, g_demands, g_boundCount, g_known, g_found, g_least, b_sizes, b_empties, b_firsts, b_lasts, b_letters, b_behinds, b_steps, b_term, b_patterns, b_kepts, b_signs, b_signCounts, b_bounds, b_firstWords, b_sums, b_met, b_tried, b_seen, b_apart, b_counts, b_next) := zz_in RP RT RD RB RL RC
  obtain ⟨⟨h, sp, h5, rfl, rfl, hS⟩, ip, hI⟩ := RP
  by_cases c : h < 2
  · unfold wpX_or
    try dsimp only
    refine zx_ref1 c (br_f (by decide) ?_)
    unfold wpY_or wpY_join
    try dsimp only
    exact br_f (nI_ge (b := 2) c (by decide)) ⟨rfl, R⟩
  · obtain ⟨p, rfl⟩ : ∃ p, h = p + 2 := ⟨h - 2, by omega⟩
    obtain ⟨W, T, HX, HY⟩ := hS p (by omega)
    obtain ⟨V, U, HX2, HY2⟩ := hS (p + 1) (by omega)
    refine zx_or (by omega) h5 W V (by rw [show 1 + (p + 2) = 3 + p by omega]; exact HX) (by rw [show 2 + (p + 2) = 3 + (p + 1) by omega]; exact HX2) (fun hgt => ?_) (fun hle si he fi la tk bh O HX' => ?_)
    · unfold wpY_or
      try dsimp only
      exact zy_join (th := false) (by omega) h5 W V HY HY2 (fun _ => ⟨rfl, R⟩) (fun hle => absurd hgt (by omega))
    · unfold wpY_or
      try dsimp only
      refine zy_join (th := false) (by omega) h5 W V HY HY2 (fun hgt => absurd hle (by omega)) (fun _ si' he' fi' la' tk' bh' O' HY' => ⟨rfl, ?_⟩)
      rw [show 1 + (p + 2) = 3 + p by omega] at O HX'
      rw [show p + 2 - 2 = p by omega] at O' HY'
      obtain ⟨r1, r2⟩ := zR_push (h' := p + 2 - 1) hS hI O O' (by omega) (fun d a b => by omega) (zp_orW W V hle) (zp_orT T U) HX' HY'
      exact zz_in ⟨⟨p + 2 - 1, _, by omega, rfl, rfl, r1⟩, ip, r2⟩ RT RD RB RL RC
theorem i_vc_many {k : Nat} {u : SX} {v : SY} (I : i_Rel k u v) (hk : k + 5 ≤ 2560) : wpX_many (fun r u' => wpY_many (fun r' v' => r' = r ∧ i_Rel (k + 5) u' v') v) u := by
  refine zz_el (Z := fun u v => wpX_many (fun r u' => wpY_many (fun r' v' => r' = r ∧ i_Rel (k + 5) u' v') v) u) ?_ I
  intro f_height f_signs f_demands f_bounds f_isSolved f_kinds f_solutionCount f_leastSum f_found a_sizes a_hasEmpty a_firstSet a_lastSet a_takes a_behind a_sign a_demandSigns a_demandSign a_demandPattern a_demandKept a_factor a_limit a_lengthOf a_lettersOf a_action a_kindWord a_kindCount a_kindOf a_kindAction a_countOfSum a_lengthSet a_kindSet a_firstWord a_foundSet a_numberOf a_stepTo a_group a_nextGroup a_counts a_isPair a_pairQueue a_chosen g_depth g_termLength g_demands g_boundCount g_known g_found g_least b_sizes b_empties b_firsts b_lasts b_letters b_behinds b_steps b_term b_patterns b_kepts b_signs b_signCounts b_bounds b_firstWords b_sums b_met b_tried b_seen b_apart b_counts b_next RP RT RD RB RL RC
  have R : i_Rel (k + 5) (f_height, f_signs, f_demands, f_bounds, f_isSolved, f_kinds, f_solutionCount, f_leastSum, f_found, a_sizes, a_hasEmpty, a_firstSet, a_lastSet, a_takes, a_behind, a_sign, a_demandSigns, a_demandSign, a_demandPattern, a_demandKept, a_factor, a_limit, a_lengthOf, a_lettersOf, a_action, a_kindWord, a_kindCount, a_kindOf, a_kindAction, a_countOfSum, a_lengthSet, a_kindSet, a_firstWord, a_foundSet, a_numberOf, a_stepTo, a_group, a_nextGroup, a_counts, a_isPair, a_pairQueue, a_chosen) (g_depth, g_termLength, g_demands, g_boundCount, g_known, g_found, g_least, b_sizes, b_empties, b_firsts, b_lasts, b_letters, b_behinds, b_steps, b_term, b_patterns, b_kepts, b_signs, b_signCounts, b_bounds, b_firstWords, b_sums, b_met, b_tried, b_seen, b_apart, b_counts, b_next) := zz_in RP RT RD RB RL RC
  obtain ⟨⟨h, sp, h5, rfl, rfl, hS⟩, ip, hI⟩ := RP
  by_cases c : h = 0
  · subst c
    exact br_t rfl (br_t rfl ⟨rfl, R⟩)
  · obtain ⟨p, rfl⟩ : ∃ p, h = p + 1 := ⟨h - 1, by omega⟩
    obtain ⟨W, T, HX, HY⟩ := hS p (by omega)
    refine zx_many (by omega) h5 W (by rw [show 2 + (p + 1) = 3 + p by omega]; exact HX) (fun he bh O HX' => zy_many (by omega) h5 W HY (fun he' bh' O' HY' => ⟨rfl, ?_⟩))
    rw [show 2 + (p + 1) = 3 + p by omega] at O HX'
    rw [show p + 1 - 1 = p by omega] at O' HY'
    obtain ⟨r1, r2⟩ := zR_push (h' := p + 1) hS hI O O' (by omega) (fun d a b => by omega) (zp_manyW W) (zp_manyT T) HX' HY'
    exact zz_in ⟨⟨p + 1, _, by omega, rfl, rfl, r1⟩, ip, r2⟩ RT RD RB RL RC
theorem i_vc_place {k : Nat} {u : SX} {v : SY} (I : i_Rel k u v) (hk : k + 5 ≤ 2560) (v1 : Int32) : wpX_place (fun r u' => wpY_place (fun r' v' => r' = r ∧ i_Rel (k + 5) u' v') v v1) u v1 := by
  refine zz_el (Z := fun u v => wpX_place (fun r u' => wpY_place (fun r' v' => r' = r ∧ i_Rel (k + 5) u' v') v v1) u v1) ?_ I
  intro f_height f_signs f_demands f_bounds f_isSolved f_kinds f_solutionCount f_leastSum f_found a_sizes a_hasEmpty a_firstSet a_lastSet a_takes a_behind a_sign a_demandSigns a_demandSign a_demandPattern a_demandKept a_factor a_limit a_lengthOf a_lettersOf a_action a_kindWord a_kindCount a_kindOf a_kindAction a_countOfSum a_lengthSet a_kindSet a_firstWord a_foundSet a_numberOf a_stepTo a_group a_nextGroup a_counts a_isPair a_pairQueue a_chosen g_depth g_termLength g_demands g_boundCount g_known g_found g_least b_sizes b_empties b_firsts b_lasts b_letters b_behinds b_steps b_term b_patterns b_kepts b_signs b_signCounts b_bounds b_firstWords b_sums b_met b_tried b_seen b_apart b_counts b_next RP RT RD RB RL RC
  have R : i_Rel (k + 5) (f_height, f_signs, f_demands, f_bounds, f_isSolved, f_kinds, f_solutionCount, f_leastSum, f_found, a_sizes, a_hasEmpty, a_firstSet, a_lastSet, a_takes, a_behind, a_sign, a_demandSigns, a_demandSign, a_demandPattern, a_demandKept, a_factor, a_limit, a_lengthOf, a_lettersOf, a_action, a_kindWord, a_kindCount, a_kindOf, a_kindAction, a_countOfSum, a_lengthSet, a_kindSet, a_firstWord, a_foundSet, a_numberOf, a_stepTo, a_group, a_nextGroup, a_counts, a_isPair, a_pairQueue, a_chosen) (g_depth, g_termLength, g_demands, g_boundCount, g_known, g_found, g_least, b_sizes, b_empties, b_firsts, b_lasts, b_letters, b_behinds, b_steps, b_term, b_patterns, b_kepts, b_signs, b_signCounts, b_bounds, b_firstWords, b_sums, b_met, b_tried, b_seen, b_apart, b_counts, b_next) := zz_in RP RT RD RB RL RC
  rcases zz_3 v1 with hv | ⟨j, hj, rfl⟩
  · unfold wpX_place
    try dsimp only
    refine zx_bad hv (br_f zb_10 ?_)
    unfold wpY_place
    try dsimp only
    exact zy_bad hv (br_t rfl ⟨rfl, R⟩)
  · obtain ⟨⟨h, sp, h5, rfl, rfl, hS⟩, ip, hI⟩ := RP
    by_cases c : h = 0
    · subst c
      unfold wpX_place
      try dsimp only
      refine zx_ok3 hj (br_t rfl (br_t rfl ?_))
      unfold wpY_place
      try dsimp only
      exact zy_ok3 hj (br_f zb_10 (br_t rfl ⟨rfl, R⟩))
    · obtain ⟨p, rfl⟩ : ∃ p, h = p + 1 := ⟨h - 1, by omega⟩
      obtain ⟨W, T, HX, HY⟩ := hS p (by omega)
      refine zx_place hj (by omega) h5 W (by rw [show 2 + (p + 1) = 3 + p by omega]; exact HX) (fun si he fi la tk bh O HX' => zy_place hj (by omega) h5 W HY (fun si' he' fi' la' tk' bh' st O' HY' HT hst => ⟨rfl, ?_⟩))
      obtain ⟨r1, r2⟩ := zR_put (h' := p + 1 - 1) hS hI O O' hj h5 (by omega) W T HX' HY' HT hst
      exact zz_in ⟨⟨p + 1 - 1, _, by omega, rfl, rfl, r1⟩, _, r2⟩ RT RD RB RL (Or.inl ⟨rfl, rfl⟩)
theorem i_vc_size {k : Nat} {u : SX} {v : SY} (I : i_Rel k u v) (hk : k + 5 ≤ 2560) (v1 : Int32) : wpX_size (fun r => wpY_size (fun r' => r' = r ∧ i_Rel (k + 5) u v) v v1) u v1 := by
  refine zz_el (Z := fun u v => wpX_size (fun r => wpY_size (fun r' => r' = r ∧ i_Rel (k + 5) u v) v v1) u v1) ?_ I
  intro f_height f_signs f_demands f_bounds f_isSolved f_kinds f_solutionCount f_leastSum f_found a_sizes a_hasEmpty a_firstSet a_lastSet a_takes a_behind a_sign a_demandSigns a_demandSign a_demandPattern a_demandKept a_factor a_limit a_lengthOf a_lettersOf a_action a_kindWord a_kindCount a_kindOf a_kindAction a_countOfSum a_lengthSet a_kindSet a_firstWord a_foundSet a_numberOf a_stepTo a_group a_nextGroup a_counts a_isPair a_pairQueue a_chosen g_depth g_termLength g_demands g_boundCount g_known g_found g_least b_sizes b_empties b_firsts b_lasts b_letters b_behinds b_steps b_term b_patterns b_kepts b_signs b_signCounts b_bounds b_firstWords b_sums b_met b_tried b_seen b_apart b_counts b_next RP RT RD RB RL RC
  have R : i_Rel (k + 5) (f_height, f_signs, f_demands, f_bounds, f_isSolved, f_kinds, f_solutionCount, f_leastSum, f_found, a_sizes, a_hasEmpty, a_firstSet, a_lastSet, a_takes, a_behind, a_sign, a_demandSigns, a_demandSign, a_demandPattern, a_demandKept, a_factor, a_limit, a_lengthOf, a_lettersOf, a_action, a_kindWord, a_kindCount, a_kindOf, a_kindAction, a_countOfSum, a_lengthSet, a_kindSet, a_firstWord, a_foundSet, a_numberOf, a_stepTo, a_group, a_nextGroup, a_counts, a_isPair, a_pairQueue, a_chosen) (g_depth, g_termLength, g_demands, g_boundCount, g_known, g_found, g_least, b_sizes, b_empties, b_firsts, b_lasts, b_letters, b_behinds, b_steps, b_term, b_patterns, b_kepts, b_signs, b_signCounts, b_bounds, b_firstWords, b_sums, b_met, b_tried, b_seen, b_apart, b_counts, b_next) := zz_in RP RT RD RB RL RC
  rcases zz_3 v1 with hv | ⟨j, hj, rfl⟩
  · unfold wpX_size
    try dsimp only
    refine zx_bad hv (br_f zb_10 ?_)
    unfold wpY_size
    try dsimp only
    exact zy_bad hv (br_t rfl ⟨rfl, R⟩)
  · obtain ⟨_, ip, hI⟩ := RP
    obtain ⟨W, T, HX, HY, HT⟩ := hI j hj
    unfold wpX_size
    try dsimp only
    refine zx_ok3 hj (br_t rfl (And.intro (vp_in_nI (by omega) (by decide)) ?_))
    unfold wpY_size
    try dsimp only
    refine zy_ok3 hj (br_f zb_10 ?_)
    rw [show (5 : Int32) + nI j = nI (5 + j) from nI_add 5 j, nI_clamp (show j < 2 ^ 31 by omega), nI_clamp (show 5 + j < 2 ^ 31 by omega), HX.1, HY.1]
    exact And.intro (vp_in_nI (by omega) (by decide)) ⟨rfl, R⟩
end
section
/-! the owed statements: questions about patterns; signs, demands, bounds -/
theorem i_vc_words {k : Nat} {u : SX} {v : SY} (I : i_Rel k u v) (hk : k + 5 ≤ 2560) (v1 : Int32) (v2 : Int32) : wpX_words (fun r u' => wpY_words (fun r' v' => r' = r ∧ i_Rel (k + 5) u' v') v v1 v2) u v1 v2 := by
  refine zz_el (Z := fun u v => wpX_words (fun r u' => wpY_words (fun r' v' => r' = r ∧ i_Rel (k + 5) u' v') v v1 v2) u v1 v2) ?_ I
  intro f_height f_signs f_demands f_bounds f_isSolved f_kinds f_solutionCount f_leastSum f_found a_sizes a_hasEmpty a_firstSet a_lastSet a_takes a_behind a_sign a_demandSigns a_demandSign a_demandPattern a_demandKept a_factor a_limit a_lengthOf a_lettersOf a_action a_kindWord a_kindCount a_kindOf a_kindAction a_countOfSum a_lengthSet a_kindSet a_firstWord a_foundSet a_numberOf a_stepTo a_group a_nextGroup a_counts a_isPair a_pairQueue a_chosen g_depth g_termLength g_demands g_boundCount g_known g_found g_least b_sizes b_empties b_firsts b_lasts b_letters b_behinds b_steps b_term b_patterns b_kepts b_signs b_signCounts b_bounds b_firstWords b_sums b_met b_tried b_seen b_apart b_counts b_next RP RT RD RB RL RC
  have R : i_Rel (k + 5) (f_height, f_signs, f_demands, f_bounds, f_isSolved, f_kinds, f_solutionCount, f_leastSum, f_found, a_sizes, a_hasEmpty, a_firstSet, a_lastSet, a_takes, a_behind, a_sign, a_demandSigns, a_demandSign, a_demandPattern, a_demandKept, a_factor, a_limit, a_lengthOf, a_lettersOf, a_action, a_kindWord, a_kindCount, a_kindOf, a_kindAction, a_countOfSum, a_lengthSet, a_kindSet, a_firstWord, a_foundSet, a_numberOf, a_stepTo, a_group, a_nextGroup, a_counts, a_isPair, a_pairQueue, a_chosen) (g_depth, g_termLength, g_demands, g_boundCount, g_known, g_found, g_least, b_sizes, b_empties, b_firsts, b_lasts, b_letters, b_behinds, b_steps, b_term, b_patterns, b_kepts, b_signs, b_signCounts, b_bounds, b_firstWords, b_sums, b_met, b_tried, b_seen, b_apart, b_counts, b_next) := zz_in RP RT RD RB RL RC
  rcases zz_3 v1 with hv | ⟨j, hj, rfl⟩
  · unfold wpX_words
    try dsimp only
    refine zx_bad hv (br_f zb_10 ?_)
    unfold wpY_words
    try dsimp only
    exact zy_bad hv (br_t rfl ⟨rfl, R⟩)
  · rcases zz_4 v2 20 (by decide) with hv | ⟨m, hm, rfl⟩
    · unfold wpX_words
      try dsimp only
      rcases hv with h0 | ⟨h0, h1⟩
      · refine zx_ok3 hj (br_t rfl (br_t h0 ?_))
        unfold wpY_words
        try dsimp only
        exact zy_ok3 hj (br_f zb_10 (br_t h0 ⟨rfl, R⟩))
      · refine zx_ok3 hj (br_t rfl (br_f h0 (br_f h1 ?_)))
        unfold wpY_words
        try dsimp only
        exact zy_ok3 hj (br_f zb_10 (br_f h0 (br_f h1 ⟨rfl, R⟩)))
    · have RP' := RP
      obtain ⟨_, ip, hI⟩ := RP'
      obtain ⟨W, T, HX, HY, HT⟩ := hI j hj
      exact zx_words hj hm W HX (fun fo fs no st c' => zy_words hj hm W HY HT (fun c'' ne => ⟨rfl, zz_in RP RT RD RB RL RC⟩))
theorem i_vc_same {k : Nat} {u : SX} {v : SY} (I : i_Rel k u v) (hk : k + 5 ≤ 2560) (v1 : Int32) (v2 : Int32) : wpX_same (fun r u' => wpY_same (fun r' v' => r' = r ∧ i_Rel (k + 5) u' v') v v1 v2) u v1 v2 := by
  refine zz_el (Z := fun u v => wpX_same (fun r u' => wpY_same (fun r' v' => r' = r ∧ i_Rel (k + 5) u' v') v v1 v2) u v1 v2) ?_ I
  intro f_height f_signs f_demands f_bounds f_isSolved f_kinds f_solutionCount f_leastSum f_found a_sizes a_hasEmpty a_firstSet a_lastSet a_takes a_behind a_sign a_demandSigns a_demandSign a_demandPattern a_demandKept a_factor a_limit a_lengthOf a_lettersOf a_action a_kindWord a_kindCount a_kindOf a_kindAction a_countOfSum a_lengthSet a_kindSet a_firstWord a_foundSet a_numberOf a_stepTo a_group a_nextGroup a_counts a_isPair a_pairQueue a_chosen g_depth g_termLength g_demands g_boundCount g_known g_found g_least b_sizes b_empties b_firsts b_lasts b_letters b_behinds b_steps b_term b_patterns b_kepts b_signs b_signCounts b_bounds b_firstWords b_sums b_met b_tried b_seen b_apart b_counts b_next RP RT RD RB RL RC
  have R : i_Rel (k + 5) (f_height, f_signs, f_demands, f_bounds, f_isSolved, f_kinds, f_solutionCount, f_leastSum, f_found, a_sizes, a_hasEmpty, a_firstSet, a_lastSet, a_takes, a_behind, a_sign, a_demandSigns, a_demandSign, a_demandPattern, a_demandKept, a_factor, a_limit, a_lengthOf, a_lettersOf, a_action, a_kindWord, a_kindCount, a_kindOf, a_kindAction, a_countOfSum, a_lengthSet, a_kindSet, a_firstWord, a_foundSet, a_numberOf, a_stepTo, a_group, a_nextGroup, a_counts, a_isPair, a_pairQueue, a_chosen) (g_depth, g_termLength, g_demands, g_boundCount, g_known, g_found, g_least, b_sizes, b_empties, b_firsts, b_lasts, b_letters, b_behinds, b_steps, b_term, b_patterns, b_kepts, b_signs, b_signCounts, b_bounds, b_firstWords, b_sums, b_met, b_tried, b_seen, b_apart, b_counts, b_next) := zz_in RP RT RD RB RL RC
  rcases zz_3 v1 with hv | ⟨j, hj, rfl⟩
  · unfold wpX_same
    try dsimp only
    refine zx_bad hv (br_f zb_10 ?_)
    unfold wpY_same
    try dsimp only
    exact zy_bad hv (br_t rfl ⟨rfl, R⟩)
  · rcases zz_3 v2 with hv | ⟨i, hi, rfl⟩
    · unfold wpX_same
      try dsimp only
      refine zx_ok3 hj (br_t rfl (zx_bad hv (br_f zb_10 ?_)))
      unfold wpY_same
      try dsimp only
      exact zy_ok3 hj (br_f zb_10 (zy_bad hv (br_t rfl ⟨rfl, R⟩)))
    · have RP' := RP
      obtain ⟨_, ip, hI⟩ := RP'
      obtain ⟨W, T, HX, HY, HT⟩ := hI j hj
      obtain ⟨V, U, HX2, HY2, HT2⟩ := hI i hi
      refine zx_same hj hi W V HX HX2 (fun b ipr pq hb => zy_same hj hi W V HY HY2 HT HT2 (fun b' ap hb' => ⟨?_, zz_in RP RT RD RB RL RC⟩))
      have : b' = b := by
        cases b <;> cases b' <;> simp_all
      rw [this]
theorem i_vc_endless {k : Nat} {u : SX} {v : SY} (I : i_Rel k u v) (hk : k + 5 ≤ 2560) (v1 : Int32) : wpX_endless (fun r => wpY_endless (fun r' v' => r' = r ∧ i_Rel (k + 5) u v') v v1) u v1 := by
  refine zz_el (Z := fun u v => wpX_endless (fun r => wpY_endless (fun r' v' => r' = r ∧ i_Rel (k + 5) u v') v v1) u v1) ?_ I
  intro f_height f_signs f_demands f_bounds f_isSolved f_kinds f_solutionCount f_leastSum f_found a_sizes a_hasEmpty a_firstSet a_lastSet a_takes a_behind a_sign a_demandSigns a_demandSign a_demandPattern a_demandKept a_factor a_limit a_lengthOf a_lettersOf a_action a_kindWord a_kindCount a_kindOf a_kindAction a_countOfSum a_lengthSet a_kindSet a_firstWord a_foundSet a_numberOf a_stepTo a_group a_nextGroup a_counts a_isPair a_pairQueue a_chosen g_depth g_termLength g_demands g_boundCount g_known g_found g_least b_sizes b_empties b_firsts b_lasts b_letters b_behinds b_steps b_term b_patterns b_kepts b_signs b_signCounts b_bounds b_firstWords b_sums b_met b_tried b_seen b_apart b_counts b_next RP RT RD RB RL RC
  have R : i_Rel (k + 5) (f_height, f_signs, f_demands, f_bounds, f_isSolved, f_kinds, f_solutionCount, f_leastSum, f_found, a_sizes, a_hasEmpty, a_firstSet, a_lastSet, a_takes, a_behind, a_sign, a_demandSigns, a_demandSign, a_demandPattern, a_demandKept, a_factor, a_limit, a_lengthOf, a_lettersOf, a_action, a_kindWord, a_kindCount, a_kindOf, a_kindAction, a_countOfSum, a_lengthSet, a_kindSet, a_firstWord, a_foundSet, a_numberOf, a_stepTo, a_group, a_nextGroup, a_counts, a_isPair, a_pairQueue, a_chosen) (g_depth, g_termLength, g_demands, g_boundCount, g_known, g_found, g_least, b_sizes, b_empties, b_firsts, b_lasts, b_letters, b_behinds, b_steps, b_term, b_patterns, b_kepts, b_signs, b_signCounts, b_bounds, b_firstWords, b_sums, b_met, b_tried, b_seen, b_apart, b_counts, b_next) := zz_in RP RT RD RB RL RC
  rcases zz_3 v1 with hv | ⟨j, hj, rfl⟩
  · unfold wpX_endless
    try dsimp only
    refine zx_bad hv (br_f zb_10 ?_)
    unfold wpY_endless
    try dsimp only
    exact zy_bad hv (br_t rfl ⟨rfl, R⟩)
  · have RP' := RP
    obtain ⟨_, ip, hI⟩ := RP'
    obtain ⟨W, T, HX, HY, HT⟩ := hI j hj
    have law := ze_law W T
    refine zx_endless hj W HX (fun b hb => zy_endless hj W HY HT (fun g c' ne => ⟨?_, zz_in RP RT RD RB RL RC⟩) (fun g c' ne => ⟨?_, zz_in RP RT RD RB RL RC⟩))
    · cases b with
      | false => rfl
      | true =>
        obtain ⟨m, a1, a2, a3⟩ := law.mp (hb.mp rfl)
        exact absurd a3 (g m a1 a2)
    · rw [hb.mpr (law.mpr g)]; rfl
theorem i_vc_rests {k : Nat} {u : SX} {v : SY} (I : i_Rel k u v) (hk : k + 5 ≤ 2560) (v1 : Int32) : wpX_rests (fun r u' => wpY_rests (fun r' v' => r' = r ∧ i_Rel (k + 5) u' v') v v1) u v1 := by
  refine zz_el (Z := fun u v => wpX_rests (fun r u' => wpY_rests (fun r' v' => r' = r ∧ i_Rel (k + 5) u' v') v v1) u v1) ?_ I
  intro f_height f_signs f_demands f_bounds f_isSolved f_kinds f_solutionCount f_leastSum f_found a_sizes a_hasEmpty a_firstSet a_lastSet a_takes a_behind a_sign a_demandSigns a_demandSign a_demandPattern a_demandKept a_factor a_limit a_lengthOf a_lettersOf a_action a_kindWord a_kindCount a_kindOf a_kindAction a_countOfSum a_lengthSet a_kindSet a_firstWord a_foundSet a_numberOf a_stepTo a_group a_nextGroup a_counts a_isPair a_pairQueue a_chosen g_depth g_termLength g_demands g_boundCount g_known g_found g_least b_sizes b_empties b_firsts b_lasts b_letters b_behinds b_steps b_term b_patterns b_kepts b_signs b_signCounts b_bounds b_firstWords b_sums b_met b_tried b_seen b_apart b_counts b_next RP RT RD RB RL RC
  have R : i_Rel (k + 5) (f_height, f_signs, f_demands, f_bounds, f_isSolved, f_kinds, f_solutionCount, f_leastSum, f_found, a_sizes, a_hasEmpty, a_firstSet, a_lastSet, a_takes, a_behind, a_sign, a_demandSigns, a_demandSign, a_demandPattern, a_demandKept, a_factor, a_limit, a_lengthOf, a_lettersOf, a_action, a_kindWord, a_kindCount, a_kindOf, a_kindAction, a_countOfSum, a_lengthSet, a_kindSet, a_firstWord, a_foundSet, a_numberOf, a_stepTo, a_group, a_nextGroup, a_counts, a_isPair, a_pairQueue, a_chosen) (g_depth, g_termLength, g_demands, g_boundCount, g_known, g_found, g_least, b_sizes, b_empties, b_firsts, b_lasts, b_letters, b_behinds, b_steps, b_term, b_patterns, b_kepts, b_signs, b_signCounts, b_bounds, b_firstWords, b_sums, b_met, b_tried, b_seen, b_apart, b_counts, b_next) := zz_in RP RT RD RB RL RC
  rcases zz_3 v1 with hv | ⟨j, hj, rfl⟩
  · unfold wpX_rests
    try dsimp only
    refine zx_bad hv (br_f zb_10 ?_)
    unfold wpY_rests
    try dsimp only
    exact zy_bad hv (br_t rfl ⟨rfl, R⟩)
  · have RP' := RP
    obtain ⟨_, ip, hI⟩ := RP'
    obtain ⟨W, T, HX, HY, HT⟩ := hI j hj
    exact zx_rests hj W HX (fun x fo fs no st g ng hx => zy_rests hj W HY HT (fun y ap se hy => ⟨congrArg nI (zk_Au hy hx), zz_in RP RT RD RB RL RC⟩))
theorem i_vc_sign {k : Nat} {u : SX} {v : SY} (I : i_Rel k u v) (hk : k + 5 ≤ 2560) (v1 : Int32) : wpX_sign (fun r u' => wpY_sign (fun r' v' => r' = r ∧ i_Rel (k + 5) u' v') v v1) u v1 := by
  refine zz_el (Z := fun u v => wpX_sign (fun r u' => wpY_sign (fun r' v' => r' = r ∧ i_Rel (k + 5) u' v') v v1) u v1) ?_ I
  intro f_height f_signs f_demands f_bounds f_isSolved f_kinds f_solutionCount f_leastSum f_found a_sizes a_hasEmpty a_firstSet a_lastSet a_takes a_behind a_sign a_demandSigns a_demandSign a_demandPattern a_demandKept a_factor a_limit a_lengthOf a_lettersOf a_action a_kindWord a_kindCount a_kindOf a_kindAction a_countOfSum a_lengthSet a_kindSet a_firstWord a_foundSet a_numberOf a_stepTo a_group a_nextGroup a_counts a_isPair a_pairQueue a_chosen g_depth g_termLength g_demands g_boundCount g_known g_found g_least b_sizes b_empties b_firsts b_lasts b_letters b_behinds b_steps b_term b_patterns b_kepts b_signs b_signCounts b_bounds b_firstWords b_sums b_met b_tried b_seen b_apart b_counts b_next RP RT RD RB RL RC
  have R : i_Rel (k + 5) (f_height, f_signs, f_demands, f_bounds, f_isSolved, f_kinds, f_solutionCount, f_leastSum, f_found, a_sizes, a_hasEmpty, a_firstSet, a_lastSet, a_takes, a_behind, a_sign, a_demandSigns, a_demandSign, a_demandPattern, a_demandKept, a_factor, a_limit, a_lengthOf, a_lettersOf, a_action, a_kindWord, a_kindCount, a_kindOf, a_kindAction, a_countOfSum, a_lengthSet, a_kindSet, a_firstWord, a_foundSet, a_numberOf, a_stepTo, a_group, a_nextGroup, a_counts, a_isPair, a_pairQueue, a_chosen) (g_depth, g_termLength, g_demands, g_boundCount, g_known, g_found, g_least, b_sizes, b_empties, b_firsts, b_lasts, b_letters, b_behinds, b_steps, b_term, b_patterns, b_kepts, b_signs, b_signCounts, b_bounds, b_firstWords, b_sums, b_met, b_tried, b_seen, b_apart, b_counts, b_next) := zz_in RP RT RD RB RL RC
  rcases zz_4 v1 4 (by decide) with hv | ⟨w, hw, rfl⟩
  · rcases hv with h0 | ⟨h0, h1⟩
    · exact br_t h0 (br_t h0 ⟨rfl, R⟩)
    · exact br_f h0 (br_f h1 (br_f h0 (br_f h1 ⟨rfl, R⟩)))
  · obtain ⟨rfl, rfl, ns, hns, rfl, hs⟩ := RT
    by_cases c : ns = 4
    · subst c
      exact br_f (nI_pos (by omega)) (br_t (nI_le (b := 4) hw (by decide)) (br_t rfl (br_f (nI_pos (by omega)) (br_t (nI_le (b := 4) hw (by decide)) (br_t rfl ⟨rfl, R⟩)))))
    · have c4 : ¬ nI ns = 4 := fun z => c ((nI_eq (b := 4) (by omega) (by decide)).mp z)
      have hcl : (nI ns).toNatClampNeg = ns := nI_clamp (by omega)
      have hin : vp_in (nI ns) 4 := vp_in_nI (by omega) (by decide)
      refine br_f (nI_pos (by omega)) (br_t (nI_le (b := 4) hw (by decide)) (br_f c4 (And.intro hin (nm_e (nm_r (nI_1 ns) (br_f (nI_pos (by omega)) (br_t (nI_le (b := 4) hw (by decide)) (br_f c4 (And.intro hin (nm_e (nm_r (nI_1 ns) ⟨rfl, ?_⟩)))))))))))
      rw [hcl]
      refine zz_in RP ⟨rfl, rfl, ns + 1, by omega, rfl, fun i hi => ?_⟩ RD RB RL RC
      by_cases z : i = ns
      · rw [z, pk_us]; exact ⟨w, by omega, rfl⟩
      · rw [pk_un z]; exact hs i (by omega)
/-- the signs of the term put behind -/
def zfill (old sg : Nat → Int32) (b n : Nat) : Nat → Int32 := fun j => if b ≤ j ∧ j < b + n then sg (j - b) else old j
theorem zfill_s {old sg : Nat → Int32} {b n : Nat} : upd (zfill old sg b n) (b + n) (sg n) = zfill old sg b (n + 1) := by
  funext j
  unfold zfill
  by_cases z : j = b + n
  · rw [z, pk_us, if_pos (by omega), Nat.add_sub_cancel_left]
  · rw [pk_un z]
    by_cases y : b ≤ j ∧ j < b + n
    · rw [if_pos y, if_pos (by omega)]
    · rw [if_neg y, if_neg (by omega)]
theorem zfill_0 {old sg : Nat → Int32} {b : Nat} : zfill old sg b 0 = old := by
  funext j
  exact if_neg (by omega)
section
variable {f_height f_signs f_demands f_bounds f_isSolved f_kinds f_solutionCount f_leastSum f_found : Int32} {a_sizes a_hasEmpty a_firstSet a_lastSet a_takes a_behind a_sign a_demandSigns a_demandSign a_demandPattern a_demandKept a_factor a_limit a_lengthOf a_lettersOf a_action a_kindWord a_kindCount a_kindOf a_kindAction a_countOfSum a_lengthSet a_kindSet a_firstWord a_foundSet a_numberOf a_stepTo a_group a_nextGroup a_counts a_isPair a_pairQueue a_chosen : Nat → Int32}
theorem zx_dem {post : Int32 → SX → Prop} {x1 x2 : Int32} {nd ns : Nat} (hnd : nd < 6) (hns : ns ≤ 4)
    (G : post (nI (nd + 1)) (f_height, 0, nI (nd + 1), f_bounds, 0, f_kinds, f_solutionCount, f_leastSum, f_found, a_sizes, a_hasEmpty, a_firstSet, a_lastSet, a_takes, a_behind, a_sign, upd a_demandSigns nd (nI ns), zfill a_demandSign a_sign (4 * nd) ns, upd a_demandPattern nd x1, upd a_demandKept nd x2, a_factor, a_limit, a_lengthOf, a_lettersOf, a_action, a_kindWord, a_kindCount, a_kindOf, a_kindAction, a_countOfSum, a_lengthSet, a_kindSet, a_firstWord, a_foundSet, a_numberOf, a_stepTo, a_group, a_nextGroup, a_counts, a_isPair, a_pairQueue, a_chosen)) :
    ∀ n i, i ≤ ns → ns < n + i → wX_demand_33 post x1 x2 f_height (nI ns) (nI nd) f_bounds f_isSolved f_kinds f_solutionCount f_leastSum f_found n (nI i) a_sizes a_hasEmpty a_firstSet a_lastSet a_takes a_behind a_sign a_demandSigns (zfill a_demandSign a_sign (4 * nd) i) a_demandPattern a_demandKept a_factor a_limit a_lengthOf a_lettersOf a_action a_kindWord a_kindCount a_kindOf a_kindAction a_countOfSum a_lengthSet a_kindSet a_firstWord a_foundSet a_numberOf a_stepTo a_group a_nextGroup a_counts a_isPair a_pairQueue a_chosen := by
  have hin : vp_in (nI nd) 6 := vp_in_nI hnd (by decide)
  have hcl : (nI nd).toNatClampNeg = nd := nI_clamp (by omega)
  intro n
  induction n with
  | zero => intro i a b; omega
  | succ n ih =>
    intro i a b
    rw [wX_demand_33]
    try dsimp only
    rw [hcl]
    refine pk_le ns i (fun h => ?_) (fun h => ?_)
    · have e : i = ns := by omega
      subst e
      exact And.intro hin (nm_e (And.intro hin (nm_e (And.intro hin (nm_e (nm_r (nI_1 nd) G))))))
    · rw [show (4 : Int32) * nI nd + nI i = nI (4 * nd + i) from by show nI 4 * nI nd + nI i = _; rw [pk_mul, nI_add], nI_clamp (show 4 * nd + i < 2 ^ 31 by omega), nI_clamp (show i < 2 ^ 31 by omega), zfill_s]
      exact And.intro (vp_in_nI (by omega) (by decide)) (And.intro (vp_in_nI (by omega) (by decide)) (nm_e (nm_r (nI_1 i) (ih (i + 1) (by omega) (by omega)))))
end
section
variable {g_depth g_termLength g_demands g_boundCount g_known g_found g_least : Int32} {b_sizes b_empties b_firsts b_lasts b_letters b_behinds b_steps b_term b_patterns b_kepts b_signs b_signCounts b_bounds b_firstWords b_sums b_met b_tried b_seen b_apart b_counts b_next : Nat → Int32}
theorem zy_dem {post : Int32 → SY → Prop} {nd ns : Nat} (hnd : nd < 6) (hns : ns ≤ 4)
    (G : post (nI (nd + 1)) (g_depth, 0, nI (nd + 1), g_boundCount, 0, g_found, g_least, b_sizes, b_empties, b_firsts, b_lasts, b_letters, b_behinds, b_steps, b_term, b_patterns, b_kepts, zfill b_signs b_term (4 * nd) ns, b_signCounts, b_bounds, b_firstWords, b_sums, b_met, b_tried, b_seen, b_apart, b_counts, b_next)) :
    ∀ n i, i ≤ ns → ns < n + i → wY_demand_66 post g_depth (nI ns) (nI nd) g_boundCount g_known g_found g_least n (nI i) b_sizes b_empties b_firsts b_lasts b_letters b_behinds b_steps b_term b_patterns b_kepts (zfill b_signs b_term (4 * nd) i) b_signCounts b_bounds b_firstWords b_sums b_met b_tried b_seen b_apart b_counts b_next := by
  intro n
  induction n with
  | zero => intro i a b; omega
  | succ n ih =>
    intro i a b
    rw [wY_demand_66]
    try dsimp only
    refine pk_le ns i (fun h => ?_) (fun h => ?_)
    · have e : i = ns := by omega
      subst e
      exact nm_r (nI_1 nd) G
    · rw [show (4 : Int32) * nI nd + nI i = nI (4 * nd + i) from by show nI 4 * nI nd + nI i = _; rw [pk_mul, nI_add], nI_clamp (show 4 * nd + i < 2 ^ 31 by omega), nI_clamp (show i < 2 ^ 31 by omega), zfill_s]
      exact And.intro (vp_in_nI (by omega) (by decide)) (And.intro (vp_in_nI (by omega) (by decide)) (nm_e (nm_r (nI_1 i) (ih (i + 1) (by omega) (by omega)))))
end
theorem zd_okN {pt sg sc si : Nat → Int32} {nd ns k : Nat} (D : zd_ok pt sg sc nd) (hnd : nd < 6) (hns : ns ≤ 4) (hk : k < 3) (hs : ∀ i, i < ns → ∃ s, s < 5 ∧ si i = nI s) : zd_ok (upd pt nd (nI k)) (zfill sg si (4 * nd) ns) (upd sc nd (nI ns)) (nd + 1) := by
  refine ⟨by omega, fun i hi => ?_⟩
  by_cases z : i = nd
  · rw [z, pk_us, pk_us]
    refine ⟨⟨k, hk, rfl⟩, ns, hns, rfl, fun n hn => ?_⟩
    unfold zfill
    rw [if_pos (by omega), Nat.add_sub_cancel_left]
    exact hs n hn
  · obtain ⟨a, m, b, c, d⟩ := D.2 i (by omega)
    rw [pk_un z, pk_un z]
    refine ⟨a, m, b, c, fun n hn => ?_⟩
    unfold zfill
    rw [if_neg (by omega)]
    exact d n hn
theorem i_vc_demand {k : Nat} {u : SX} {v : SY} (I : i_Rel k u v) (hk : k + 5 ≤ 2560) (v1 : Int32) (v2 : Int32) : wpX_demand (fun r u' => wpY_demand (fun r' v' => r' = r ∧ i_Rel (k + 5) u' v') v v1 v2) u v1 v2 := by
  refine zz_el (Z := fun u v => wpX_demand (fun r u' => wpY_demand (fun r' v' => r' = r ∧ i_Rel (k + 5) u' v') v v1 v2) u v1 v2) ?_ I
  intro f_height f_signs f_demands f_bounds f_isSolved f_kinds f_solutionCount f_leastSum f_found a_sizes a_hasEmpty a_firstSet a_lastSet a_takes a_behind a_sign a_demandSigns a_demandSign a_demandPattern a_demandKept a_factor a_limit a_lengthOf a_lettersOf a_action a_kindWord a_kindCount a_kindOf a_kindAction a_countOfSum a_lengthSet a_kindSet a_firstWord a_foundSet a_numberOf a_stepTo a_group a_nextGroup a_counts a_isPair a_pairQueue a_chosen g_depth g_termLength g_demands g_boundCount g_known g_found g_least b_sizes b_empties b_firsts b_lasts b_letters b_behinds b_steps b_term b_patterns b_kepts b_signs b_signCounts b_bounds b_firstWords b_sums b_met b_tried b_seen b_apart b_counts b_next RP RT RD RB RL RC
  have R : i_Rel (k + 5) (f_height, f_signs, f_demands, f_bounds, f_isSolved, f_kinds, f_solutionCount, f_leastSum, f_found, a_sizes, a_hasEmpty, a_firstSet, a_lastSet, a_takes, a_behind, a_sign, a_demandSigns, a_demandSign, a_demandPattern, a_demandKept, a_factor, a_limit, a_lengthOf, a_lettersOf, a_action, a_kindWord, a_kindCount, a_kindOf, a_kindAction, a_countOfSum, a_lengthSet, a_kindSet, a_firstWord, a_foundSet, a_numberOf, a_stepTo, a_group, a_nextGroup, a_counts, a_isPair, a_pairQueue, a_chosen) (g_depth, g_termLength, g_demands, g_boundCount, g_known, g_found, g_least, b_sizes, b_empties, b_firsts, b_lasts, b_letters, b_behinds, b_steps, b_term, b_patterns, b_kepts, b_signs, b_signCounts, b_bounds, b_firstWords, b_sums, b_met, b_tried, b_seen, b_apart, b_counts, b_next) := zz_in RP RT RD RB RL RC
  rcases zz_3 v1 with hv | ⟨j, hj, rfl⟩
  · unfold wpX_demand
    try dsimp only
    refine zx_bad hv (br_f zb_10 ?_)
    unfold wpY_demand
    try dsimp only
    exact zy_bad hv (br_t rfl ⟨rfl, R⟩)
  · rcases zz_4 v2 1 (by decide) with hv | ⟨m, hm, rfl⟩
    · have n0 : ¬ v2 = 0 := by
        rintro rfl
        rcases hv with h0 | ⟨h0, h1⟩
        · exact absurd h0 (by decide)
        · exact absurd (by decide : (0 : Int32) ≤ nI 1) h1
      have n1 : ¬ v2 = 1 := by
        rintro rfl
        rcases hv with h0 | ⟨h0, h1⟩
        · exact absurd h0 (by decide)
        · exact absurd (by decide : (1 : Int32) ≤ nI 1) h1
      unfold wpX_demand
      try dsimp only
      rcases hv with h0 | ⟨h0, h1⟩
      · refine zx_ok3 hj (br_t rfl (br_t h0 ?_))
        unfold wpY_demand
        try dsimp only
        exact zy_ok3 hj (br_f zb_10 (br_f n0 (br_f n1 ⟨rfl, R⟩)))
      · refine zx_ok3 hj (br_t rfl (br_f h0 (br_f h1 ?_)))
        unfold wpY_demand
        try dsimp only
        exact zy_ok3 hj (br_f zb_10 (br_f n0 (br_f n1 ⟨rfl, R⟩)))
    · obtain ⟨rfl, rfl, ns, hns, rfl, hs⟩ := RT
      obtain ⟨rfl, rfl, rfl, rfl, rfl, nd, rfl, D⟩ := RD
      have hnd := D.1
      unfold wpX_demand
      try dsimp only
      refine zx_ok3 hj (br_t rfl (br_f (nI_pos (by omega)) (br_t (nI_le (b := 1) hm (by decide)) ?_)))
      -- Y, once past its tests
      have goY : ∀ {post : Int32 → SY → Prop}, wY_demand_19 post (nI j) (nI m) g_depth (nI ns) (nI nd) g_boundCount g_known g_found g_least b_sizes b_empties b_firsts b_lasts b_letters b_behinds b_steps b_term b_patterns b_kepts b_signs b_signCounts b_bounds b_firstWords b_sums b_met b_tried b_seen b_apart b_counts b_next → wpY_demand post (g_depth, nI ns, nI nd, g_boundCount, g_known, g_found, g_least, b_sizes, b_empties, b_firsts, b_lasts, b_letters, b_behinds, b_steps, b_term, b_patterns, b_kepts, b_signs, b_signCounts, b_bounds, b_firstWords, b_sums, b_met, b_tried, b_seen, b_apart, b_counts, b_next) (nI j) (nI m) := by
        intro post h
        unfold wpY_demand
        try dsimp only
        refine zy_ok3 hj (br_f zb_10 ?_)
        rcases (show m = 0 ∨ m = 1 by omega) with e | e
        · subst e
          exact br_t rfl h
        · subst e
          exact br_f zb_10 (br_t rfl h)
      by_cases c : nd = 6
      · subst c
        refine br_t rfl (goY ?_)
        rw [wY_demand_19]
        exact br_t rfl ⟨rfl, R⟩
      · have c6 : ¬ nI nd = 6 := fun z => c ((nI_eq (b := 6) (by omega) (by decide)).mp z)
        have hin : vp_in (nI nd) 6 := vp_in_nI (by omega) (by decide)
        have hcl : (nI nd).toNatClampNeg = nd := nI_clamp (by omega)
        refine br_f c6 ⟨ns + 1, ?_⟩
        have ZX := fun (post : Int32 → SX → Prop) G => zx_dem (f_height := f_height) (f_bounds := f_bounds) (f_isSolved := f_isSolved) (f_kinds := f_kinds) (f_solutionCount := f_solutionCount) (f_leastSum := f_leastSum) (f_found := f_found) (a_sizes := a_sizes) (a_hasEmpty := a_hasEmpty) (a_firstSet := a_firstSet) (a_lastSet := a_lastSet) (a_takes := a_takes) (a_behind := a_behind) (a_sign := b_term) (a_demandSigns := b_signCounts) (a_demandSign := b_signs) (a_demandPattern := b_patterns) (a_demandKept := b_kepts) (a_factor := a_factor) (a_limit := a_limit) (a_lengthOf := a_lengthOf) (a_lettersOf := a_lettersOf) (a_action := a_action) (a_kindWord := a_kindWord) (a_kindCount := a_kindCount) (a_kindOf := a_kindOf) (a_kindAction := a_kindAction) (a_countOfSum := a_countOfSum) (a_lengthSet := a_lengthSet) (a_kindSet := a_kindSet) (a_firstWord := a_firstWord) (a_foundSet := a_foundSet) (a_numberOf := a_numberOf) (a_stepTo := a_stepTo) (a_group := a_group) (a_nextGroup := a_nextGroup) (a_counts := a_counts) (a_isPair := a_isPair) (a_pairQueue := a_pairQueue) (a_chosen := a_chosen) (post := post) (x1 := nI j) (x2 := nI m) (nd := nd) (ns := ns) (by omega) hns G (ns + 1) 0 (by omega) (by omega)
        rw [zfill_0] at ZX
        refine ZX _ (goY ?_)
        rw [wY_demand_19, hcl]
        refine br_f c6 (And.intro hin (nm_e (And.intro hin (nm_e (And.intro hin (nm_e ⟨ns + 1, ?_⟩))))))
        have ZY := fun (post : Int32 → SY → Prop) G => zy_dem (g_depth := g_depth) (g_boundCount := g_boundCount) (g_known := g_known) (g_found := g_found) (g_least := g_least) (b_sizes := b_sizes) (b_empties := b_empties) (b_firsts := b_firsts) (b_lasts := b_lasts) (b_letters := b_letters) (b_behinds := b_behinds) (b_steps := b_steps) (b_term := b_term) (b_patterns := upd b_patterns nd (nI j)) (b_kepts := upd b_kepts nd (nI m)) (b_signs := b_signs) (b_signCounts := upd b_signCounts nd (nI ns)) (b_bounds := b_bounds) (b_firstWords := b_firstWords) (b_sums := b_sums) (b_met := b_met) (b_tried := b_tried) (b_seen := b_seen) (b_apart := b_apart) (b_counts := b_counts) (b_next := b_next) (post := post) (nd := nd) (ns := ns) (by omega) hns G (ns + 1) 0 (by omega) (by omega)
        rw [zfill_0] at ZY
        refine ZY _ ⟨rfl, ?_⟩
        exact zz_in RP ⟨rfl, rfl, 0, by omega, rfl, fun i hi => absurd hi (Nat.not_lt_zero i)⟩ ⟨rfl, rfl, rfl, rfl, rfl, nd + 1, rfl, zd_okN D (by omega) hns hj hs⟩ RB RL (Or.inl ⟨rfl, rfl⟩)
end
section
/-! the owed statements: bound, drop -/
section
variable {f_height f_signs f_demands f_bounds f_isSolved f_kinds f_solutionCount f_leastSum f_found : Int32} {a_sizes a_hasEmpty a_firstSet a_lastSet a_takes a_behind a_sign a_demandSigns a_demandSign a_demandPattern a_demandKept a_factor a_limit a_lengthOf a_lettersOf a_action a_kindWord a_kindCount a_kindOf a_kindAction a_countOfSum a_lengthSet a_kindSet a_firstWord a_foundSet a_numberOf a_stepTo a_group a_nextGroup a_counts a_isPair a_pairQueue a_chosen : Nat → Int32}
theorem zx_bf {post : Int32 → Prop} {v : Int32} (h0 : (v < -3 ∨ ¬ v ≤ 3) → post 1) (h1 : ¬ v < -3 → v ≤ 3 → post 0) : wpX_badFactor post (f_height, f_signs, f_demands, f_bounds, f_isSolved, f_kinds, f_solutionCount, f_leastSum, f_found, a_sizes, a_hasEmpty, a_firstSet, a_lastSet, a_takes, a_behind, a_sign, a_demandSigns, a_demandSign, a_demandPattern, a_demandKept, a_factor, a_limit, a_lengthOf, a_lettersOf, a_action, a_kindWord, a_kindCount, a_kindOf, a_kindAction, a_countOfSum, a_lengthSet, a_kindSet, a_firstWord, a_foundSet, a_numberOf, a_stepTo, a_group, a_nextGroup, a_counts, a_isPair, a_pairQueue, a_chosen) v :=
  br_c (fun a => h0 (Or.inl a)) (fun a => br_c (fun b => h1 a b) (fun b => h0 (Or.inr b)))
end
section
variable {g_depth g_termLength g_demands g_boundCount g_known g_found g_least : Int32} {b_sizes b_empties b_firsts b_lasts b_letters b_behinds b_steps b_term b_patterns b_kepts b_signs b_signCounts b_bounds b_firstWords b_sums b_met b_tried b_seen b_apart b_counts b_next : Nat → Int32}
theorem zy_in0 {post : Int32 → Prop} {v L : Int32} (h : v < -L ∨ ¬ v ≤ L) (hp : post 0) : wpY_isIn post (g_depth, g_termLength, g_demands, g_boundCount, g_known, g_found, g_least, b_sizes, b_empties, b_firsts, b_lasts, b_letters, b_behinds, b_steps, b_term, b_patterns, b_kepts, b_signs, b_signCounts, b_bounds, b_firstWords, b_sums, b_met, b_tried, b_seen, b_apart, b_counts, b_next) v L := by
  by_cases c : v < -L
  · exact br_t c hp
  · exact br_f c (br_t (Int32.not_le.mp (h.resolve_left c)) hp)
theorem zy_in1 {post : Int32 → Prop} {v L : Int32} (h0 : ¬ v < -L) (h1 : v ≤ L) (hp : post 1) : wpY_isIn post (g_depth, g_termLength, g_demands, g_boundCount, g_known, g_found, g_least, b_sizes, b_empties, b_firsts, b_lasts, b_letters, b_behinds, b_steps, b_term, b_patterns, b_kepts, b_signs, b_signCounts, b_bounds, b_firstWords, b_sums, b_met, b_tried, b_seen, b_apart, b_counts, b_next) v L := br_f h0 (br_f (Int32.not_lt.mpr h1) hp)
end
theorem zx_BN {fa li bd : Nat → Int32} {nb : Nat} {x0 x1 x2 x3 : Int32} (B : zx_B nb fa li bd) :
    zx_B (nb + 1) (upd (upd (upd fa (3 * nb) x0) (3 * nb + 1) x1) (3 * nb + 2) x2) (upd li nb x3) (upd (upd (upd (upd bd (4 * nb) x0) (4 * nb + 1) x1) (4 * nb + 2) x2) (4 * nb + 3) x3) := by
  intro b hb
  by_cases z : b = nb
  · subst z
    refine ⟨zu3 ?_ ?_ ?_, ?_⟩
    · show upd (upd (upd fa (3 * b) x0) (3 * b + 1) x1) (3 * b + 2) x2 (3 * b) = upd (upd (upd (upd bd (4 * b) x0) (4 * b + 1) x1) (4 * b + 2) x2) (4 * b + 3) x3 (4 * b)
      rw [pk_un (by omega), pk_un (by omega), pk_us, pk_un (by omega), pk_un (by omega), pk_un (by omega), pk_us]
    · rw [pk_un (by omega), pk_us, pk_un (by omega), pk_un (by omega), pk_us]
    · rw [pk_us, pk_un (by omega), pk_us]
    · rw [pk_us, pk_us]
  · obtain ⟨q1, q2⟩ := B b (by omega)
    refine ⟨fun u hu => ?_, ?_⟩
    · rw [pk_un (by omega), pk_un (by omega), pk_un (by omega), pk_un (by omega), pk_un (by omega), pk_un (by omega), pk_un (by omega)]
      exact q1 u hu
    · rw [pk_un z, pk_un (by omega), pk_un (by omega), pk_un (by omega), pk_un (by omega)]
      exact q2
theorem i_vc_bound {k : Nat} {u : SX} {v : SY} (I : i_Rel k u v) (hk : k + 5 ≤ 2560) (v1 : Int32) (v2 : Int32) (v3 : Int32) (v4 : Int32) : wpX_bound (fun r u' => wpY_bound (fun r' v' => r' = r ∧ i_Rel (k + 5) u' v') v v1 v2 v3 v4) u v1 v2 v3 v4 := by
  refine zz_el (Z := fun u v => wpX_bound (fun r u' => wpY_bound (fun r' v' => r' = r ∧ i_Rel (k + 5) u' v') v v1 v2 v3 v4) u v1 v2 v3 v4) ?_ I
  intro f_height f_signs f_demands f_bounds f_isSolved f_kinds f_solutionCount f_leastSum f_found a_sizes a_hasEmpty a_firstSet a_lastSet a_takes a_behind a_sign a_demandSigns a_demandSign a_demandPattern a_demandKept a_factor a_limit a_lengthOf a_lettersOf a_action a_kindWord a_kindCount a_kindOf a_kindAction a_countOfSum a_lengthSet a_kindSet a_firstWord a_foundSet a_numberOf a_stepTo a_group a_nextGroup a_counts a_isPair a_pairQueue a_chosen g_depth g_termLength g_demands g_boundCount g_known g_found g_least b_sizes b_empties b_firsts b_lasts b_letters b_behinds b_steps b_term b_patterns b_kepts b_signs b_signCounts b_bounds b_firstWords b_sums b_met b_tried b_seen b_apart b_counts b_next RP RT RD RB RL RC
  have R : i_Rel (k + 5) (f_height, f_signs, f_demands, f_bounds, f_isSolved, f_kinds, f_solutionCount, f_leastSum, f_found, a_sizes, a_hasEmpty, a_firstSet, a_lastSet, a_takes, a_behind, a_sign, a_demandSigns, a_demandSign, a_demandPattern, a_demandKept, a_factor, a_limit, a_lengthOf, a_lettersOf, a_action, a_kindWord, a_kindCount, a_kindOf, a_kindAction, a_countOfSum, a_lengthSet, a_kindSet, a_firstWord, a_foundSet, a_numberOf, a_stepTo, a_group, a_nextGroup, a_counts, a_isPair, a_pairQueue, a_chosen) (g_depth, g_termLength, g_demands, g_boundCount, g_known, g_found, g_least, b_sizes, b_empties, b_firsts, b_lasts, b_letters, b_behinds, b_steps, b_term, b_patterns, b_kepts, b_signs, b_signCounts, b_bounds, b_firstWords, b_sums, b_met, b_tried, b_seen, b_apart, b_counts, b_next) := zz_in RP RT RD RB RL RC
  unfold wpX_bound
  try dsimp only
  refine zx_bf (fun a => br_f zb_10 ?_) (fun a1 a2 => br_t rfl (zx_bf (fun b => br_f zb_10 ?_) (fun b1 b2 => br_t rfl (zx_bf (fun c => br_f zb_10 ?_) (fun c1 c2 => br_t rfl ?_)))))
  · unfold wpY_bound
    try dsimp only
    exact zy_in0 a (br_t rfl ⟨rfl, R⟩)
  · unfold wpY_bound
    try dsimp only
    exact zy_in1 a1 a2 (br_f zb_10 (zy_in0 b (br_t rfl ⟨rfl, R⟩)))
  · unfold wpY_bound
    try dsimp only
    exact zy_in1 a1 a2 (br_f zb_10 (zy_in1 b1 b2 (br_f zb_10 (zy_in0 c (br_t rfl ⟨rfl, R⟩)))))
  · refine br_c (fun d => ?_) (fun d1 => br_c (fun d2 => ?_) (fun d => ?_))
    · unfold wpY_bound
      try dsimp only
      exact zy_in1 a1 a2 (br_f zb_10 (zy_in1 b1 b2 (br_f zb_10 (zy_in1 c1 c2 (br_f zb_10 (zy_in0 (Or.inl d) (br_t rfl ⟨rfl, R⟩)))))))
    · obtain ⟨rfl, nb, hnb, rfl, B⟩ := RB
      have goY : ∀ {post : Int32 → SY → Prop}, ((nI nb = 3 → post (-2) (g_depth, g_termLength, g_demands, nI nb, g_known, g_found, g_least, b_sizes, b_empties, b_firsts, b_lasts, b_letters, b_behinds, b_steps, b_term, b_patterns, b_kepts, b_signs, b_signCounts, b_bounds, b_firstWords, b_sums, b_met, b_tried, b_seen, b_apart, b_counts, b_next)) ∧ (¬ nI nb = 3 → post (nI (nb + 1)) (g_depth, g_termLength, g_demands, nI (nb + 1), 0, g_found, g_least, b_sizes, b_empties, b_firsts, b_lasts, b_letters, b_behinds, b_steps, b_term, b_patterns, b_kepts, b_signs, b_signCounts, upd (upd (upd (upd b_bounds (4 * nb) v1) (4 * nb + 1) v2) (4 * nb + 2) v3) (4 * nb + 3) v4, b_firstWords, b_sums, b_met, b_tried, b_seen, b_apart, b_counts, b_next))) → wpY_bound post (g_depth, g_termLength, g_demands, nI nb, g_known, g_found, g_least, b_sizes, b_empties, b_firsts, b_lasts, b_letters, b_behinds, b_steps, b_term, b_patterns, b_kepts, b_signs, b_signCounts, b_bounds, b_firstWords, b_sums, b_met, b_tried, b_seen, b_apart, b_counts, b_next) v1 v2 v3 v4 := by
        intro post h
        unfold wpY_bound
        try dsimp only
        refine zy_in1 a1 a2 (br_f zb_10 (zy_in1 b1 b2 (br_f zb_10 (zy_in1 c1 c2 (br_f zb_10 (zy_in1 d1 d2 (br_f zb_10 (br_c h.1 (fun c => ?_)))))))))
        have hn3 : nb < 3 := by
          rcases Nat.lt_or_ge nb 3 with q | q
          · exact q
          · exact absurd (congrArg nI (show nb = 3 by omega)) c
        have e0 : (4 : Int32) * nI nb = nI (4 * nb) := pk_mul 4 nb
        have e1 : nI (4 * nb) + 1 = nI (4 * nb + 1) := nI_1 _
        have e2 : nI (4 * nb) + 2 = nI (4 * nb + 2) := nI_add _ 2
        have e3 : nI (4 * nb) + 3 = nI (4 * nb + 3) := nI_add _ 3
        rw [e0, e1, e2, e3, nI_clamp (show 4 * nb < 2 ^ 31 by omega), nI_clamp (show 4 * nb + 1 < 2 ^ 31 by omega), nI_clamp (show 4 * nb + 2 < 2 ^ 31 by omega), nI_clamp (show 4 * nb + 3 < 2 ^ 31 by omega)]
        exact And.intro (vp_in_nI (by omega) (by decide)) (nm_e (And.intro (vp_in_nI (by omega) (by decide)) (nm_e (And.intro (vp_in_nI (by omega) (by decide)) (nm_e (And.intro (vp_in_nI (by omega) (by decide)) (nm_e (nm_r (nI_1 nb) (h.2 c)))))))))
      refine br_c (fun c => goY (br_t c ⟨rfl, R⟩)) (fun c => ?_)
      have hn3 : nb < 3 := by
        rcases Nat.lt_or_ge nb 3 with q | q
        · exact q
        · exact absurd (congrArg nI (show nb = 3 by omega)) c
      have e0 : (3 : Int32) * nI nb = nI (3 * nb) := pk_mul 3 nb
      have e1 : nI (3 * nb) + 1 = nI (3 * nb + 1) := nI_1 _
      have e2 : nI (3 * nb) + 2 = nI (3 * nb + 2) := nI_add _ 2
      rw [e0, e1, e2, nI_clamp (show 3 * nb < 2 ^ 31 by omega), nI_clamp (show 3 * nb + 1 < 2 ^ 31 by omega), nI_clamp (show 3 * nb + 2 < 2 ^ 31 by omega), nI_clamp (show nb < 2 ^ 31 by omega)]
      refine And.intro (vp_in_nI (by omega) (by decide)) (nm_e (And.intro (vp_in_nI (by omega) (by decide)) (nm_e (And.intro (vp_in_nI (by omega) (by decide)) (nm_e (And.intro (vp_in_nI (by omega) (by decide)) (nm_e (nm_r (nI_1 nb) (goY (br_f c ⟨rfl, ?_⟩))))))))))
      exact zz_in RP RT RD ⟨rfl, nb + 1, by omega, rfl, zx_BN B⟩ RL (Or.inl ⟨rfl, rfl⟩)
    · unfold wpY_bound
      try dsimp only
      exact zy_in1 a1 a2 (br_f zb_10 (zy_in1 b1 b2 (br_f zb_10 (zy_in1 c1 c2 (br_f zb_10 (zy_in0 (Or.inr d) (br_t rfl ⟨rfl, R⟩)))))))
theorem i_vc_drop {k : Nat} {u : SX} {v : SY} (I : i_Rel k u v) (hk : k + 5 ≤ 2560) (v1 : Int32) : wpX_drop (fun r u' => wpY_drop (fun r' v' => r' = r ∧ i_Rel (k + 5) u' v') v v1) u v1 := by
  refine zz_el (Z := fun u v => wpX_drop (fun r u' => wpY_drop (fun r' v' => r' = r ∧ i_Rel (k + 5) u' v') v v1) u v1) ?_ I
  intro f_height f_signs f_demands f_bounds f_isSolved f_kinds f_solutionCount f_leastSum f_found a_sizes a_hasEmpty a_firstSet a_lastSet a_takes a_behind a_sign a_demandSigns a_demandSign a_demandPattern a_demandKept a_factor a_limit a_lengthOf a_lettersOf a_action a_kindWord a_kindCount a_kindOf a_kindAction a_countOfSum a_lengthSet a_kindSet a_firstWord a_foundSet a_numberOf a_stepTo a_group a_nextGroup a_counts a_isPair a_pairQueue a_chosen g_depth g_termLength g_demands g_boundCount g_known g_found g_least b_sizes b_empties b_firsts b_lasts b_letters b_behinds b_steps b_term b_patterns b_kepts b_signs b_signCounts b_bounds b_firstWords b_sums b_met b_tried b_seen b_apart b_counts b_next RP RT RD RB RL RC
  have R : i_Rel (k + 5) (f_height, f_signs, f_demands, f_bounds, f_isSolved, f_kinds, f_solutionCount, f_leastSum, f_found, a_sizes, a_hasEmpty, a_firstSet, a_lastSet, a_takes, a_behind, a_sign, a_demandSigns, a_demandSign, a_demandPattern, a_demandKept, a_factor, a_limit, a_lengthOf, a_lettersOf, a_action, a_kindWord, a_kindCount, a_kindOf, a_kindAction, a_countOfSum, a_lengthSet, a_kindSet, a_firstWord, a_foundSet, a_numberOf, a_stepTo, a_group, a_nextGroup, a_counts, a_isPair, a_pairQueue, a_chosen) (g_depth, g_termLength, g_demands, g_boundCount, g_known, g_found, g_least, b_sizes, b_empties, b_firsts, b_lasts, b_letters, b_behinds, b_steps, b_term, b_patterns, b_kepts, b_signs, b_signCounts, b_bounds, b_firstWords, b_sums, b_met, b_tried, b_seen, b_apart, b_counts, b_next) := zz_in RP RT RD RB RL RC
  rcases zz_4 v1 1 (by decide) with hv | ⟨m, hm, rfl⟩
  · have n0 : ¬ v1 = 0 := by
      rintro rfl
      rcases hv with h0 | ⟨h0, h1⟩
      · exact absurd h0 (by decide)
      · exact absurd (by decide : (0 : Int32) ≤ nI 1) h1
    have n1 : ¬ v1 = 1 := by
      rintro rfl
      rcases hv with h0 | ⟨h0, h1⟩
      · exact absurd h0 (by decide)
      · exact absurd (by decide : (1 : Int32) ≤ nI 1) h1
    rcases hv with h0 | ⟨h0, h1⟩
    · exact br_t h0 (br_f n0 (br_f n1 ⟨rfl, R⟩))
    · exact br_f h0 (br_f h1 (br_f n0 (br_f n1 ⟨rfl, R⟩)))
  · unfold wpX_drop
    try dsimp only
    refine br_f (nI_pos (by omega)) (br_t (nI_le (b := 1) hm (by decide)) ?_)
    rcases (show m = 0 ∨ m = 1 by omega) with e | e
    · subst e
      refine br_t rfl ?_
      rw [wX_drop_26]
      have goY : ∀ {post : Int32 → SY → Prop}, ((g_demands = 0 → post (-4) (g_depth, g_termLength, g_demands, g_boundCount, g_known, g_found, g_least, b_sizes, b_empties, b_firsts, b_lasts, b_letters, b_behinds, b_steps, b_term, b_patterns, b_kepts, b_signs, b_signCounts, b_bounds, b_firstWords, b_sums, b_met, b_tried, b_seen, b_apart, b_counts, b_next)) ∧ (¬ g_demands = 0 → post (g_demands - 1) (g_depth, g_termLength, g_demands - 1, g_boundCount, 0, g_found, g_least, b_sizes, b_empties, b_firsts, b_lasts, b_letters, b_behinds, b_steps, b_term, b_patterns, b_kepts, b_signs, b_signCounts, b_bounds, b_firstWords, b_sums, b_met, b_tried, b_seen, b_apart, b_counts, b_next))) → wpY_drop post (g_depth, g_termLength, g_demands, g_boundCount, g_known, g_found, g_least, b_sizes, b_empties, b_firsts, b_lasts, b_letters, b_behinds, b_steps, b_term, b_patterns, b_kepts, b_signs, b_signCounts, b_bounds, b_firstWords, b_sums, b_met, b_tried, b_seen, b_apart, b_counts, b_next) (nI 0) := by
        intro post h
        refine br_t rfl ?_
        rw [wY_drop_11]
        refine br_t rfl ?_
        rw [wY_drop_26]
        exact br_c h.1 (fun c => br_t rfl (nm_e (h.2 c)))
      obtain ⟨rfl, rfl, rfl, rfl, rfl, nd, rfl, D⟩ := RD
      refine br_c (fun c => goY (br_t c ⟨rfl, R⟩)) (fun c => br_t rfl (nm_e (goY (br_f c ⟨rfl, ?_⟩))))
      have hnd : 0 < nd := by
        rcases Nat.eq_zero_or_pos nd with q | q
        · exact absurd (congrArg nI q) c
        · exact q
      refine zz_in RP RT ⟨rfl, rfl, rfl, rfl, rfl, nd - 1, pk_sub (b := 1) hnd, ?_, fun i hi => D.2 i (by omega)⟩ RB RL (Or.inl ⟨rfl, rfl⟩)
      have := D.1
      omega
    · subst e
      refine br_f zb_10 ?_
      rw [wX_drop_26]
      have goY : ∀ {post : Int32 → SY → Prop}, ((g_boundCount = 0 → post (-4) (g_depth, g_termLength, g_demands, g_boundCount, g_known, g_found, g_least, b_sizes, b_empties, b_firsts, b_lasts, b_letters, b_behinds, b_steps, b_term, b_patterns, b_kepts, b_signs, b_signCounts, b_bounds, b_firstWords, b_sums, b_met, b_tried, b_seen, b_apart, b_counts, b_next)) ∧ (¬ g_boundCount = 0 → post (g_boundCount - 1) (g_depth, g_termLength, g_demands, g_boundCount - 1, 0, g_found, g_least, b_sizes, b_empties, b_firsts, b_lasts, b_letters, b_behinds, b_steps, b_term, b_patterns, b_kepts, b_signs, b_signCounts, b_bounds, b_firstWords, b_sums, b_met, b_tried, b_seen, b_apart, b_counts, b_next))) → wpY_drop post (g_depth, g_termLength, g_demands, g_boundCount, g_known, g_found, g_least, b_sizes, b_empties, b_firsts, b_lasts, b_letters, b_behinds, b_steps, b_term, b_patterns, b_kepts, b_signs, b_signCounts, b_bounds, b_firstWords, b_sums, b_met, b_tried, b_seen, b_apart, b_counts, b_next) (nI 1) := by
        intro post h
        refine br_f zb_10 (br_t rfl ?_)
        rw [wY_drop_11]
        refine br_f zb_10 ?_
        rw [wY_drop_26]
        exact br_c h.1 (fun c => br_f zb_10 (nm_e (h.2 c)))
      obtain ⟨rfl, nb, hnb, rfl, B⟩ := RB
      refine br_c (fun c => goY (br_t c ⟨rfl, R⟩)) (fun c => br_f zb_10 (nm_e (goY (br_f c ⟨rfl, ?_⟩))))
      have hn : 0 < nb := by
        rcases Nat.eq_zero_or_pos nb with q | q
        · exact absurd (congrArg nI q) c
        · exact q
      exact zz_in RP RT RD ⟨rfl, nb - 1, by omega, pk_sub (b := 1) hn, fun b hb => B b (by omega)⟩ RL (Or.inl ⟨rfl, rfl⟩)
end
section
/-! solving, both sides in turn -/
/-- what X has found, by kinds -/
def zX_o (ip : Nat → PT) (pt kp sg sn bd : Nat → Int32) (nd nb : Nat) (kn sc le : Int32) (kcA cs ls ks fw : Nat → Int32) : Prop :=
  ∃ (K : Nat) (kw ko : Nat → Nat) (ac kwA kaA : Nat → Int32), kn = nI K ∧ zx_A ip ac 315 ∧ zx_K ac 15 K kw ko kwA kcA kaA ∧
    zv_N (fun y => zd_sol ip pt kp sg sn bd nd nb (zx_w K kw y)) (fun y => zw_S (zx_w K kw y)) (fun y => zpr (fun u => zkc ko 15 (zd_w K y u)) 3) (K * K * K) sc cs ∧
    zv_O (fun y => zd_sol ip pt kp sg sn bd nd nb (zx_w K kw y)) (fun y u => zw_n (zx_w K kw y u)) (K * K * K) ls ∧
    zv_O (fun y => zd_sol ip pt kp sg sn bd nd nb (zx_w K kw y)) (zd_w K) (K * K * K) ks ∧
    zv_F (fun y => zd_sol ip pt kp sg sn bd nd nb (zx_w K kw y)) (fun y => zw_S (zx_w K kw y)) (fun y => zw_c (zx_w K kw y)) (zx_w K kw) (-1) (K * K * K) le fw
/-- between X's solving and Y's -/
def zM (ip : Nat → PT) (pt kp sg sn bd : Nat → Int32) (nd nb : Nat) (g_known g_found : Int32) (b_firstWords b_sums b_met : Nat → Int32) (kn sc le : Int32) (kcA cs ls ks fw : Nat → Int32) : Prop :=
  (g_known = 0 ∧ zX_o ip pt kp sg sn bd nd nb kn sc le kcA cs ls ks fw) ∨ (g_known = 1 ∧ zC sc le kn kcA cs ls ks fw g_found b_sums b_met b_firstWords)
section
variable {f_height f_signs f_demands f_bounds f_isSolved f_kinds f_solutionCount f_leastSum f_found : Int32} {a_sizes a_hasEmpty a_firstSet a_lastSet a_takes a_behind a_sign a_demandSigns a_demandSign a_demandPattern a_demandKept a_factor a_limit a_lengthOf a_lettersOf a_action a_kindWord a_kindCount a_kindOf a_kindAction a_countOfSum a_lengthSet a_kindSet a_firstWord a_foundSet a_numberOf a_stepTo a_group a_nextGroup a_counts a_isPair a_pairQueue a_chosen : Nat → Int32}
theorem zz_xs {post : SX → Prop} {ip : Nat → PT} {nd nb : Nat} {bd : Nat → Int32} {g_known g_found : Int32} {b_firstWords b_sums b_met : Nat → Int32} (hnb : nb ≤ 3) (D : zd_ok a_demandPattern a_demandSign a_demandSigns nd) (Ps : zx_Ps a_sizes a_hasEmpty a_firstSet a_lastSet a_takes a_behind ip) (hB : zx_B nb a_factor a_limit bd) (hL : zx_L a_lengthOf a_lettersOf)
    (RC : zR_C f_isSolved f_kinds f_solutionCount f_leastSum a_kindCount a_countOfSum a_lengthSet a_kindSet a_firstWord g_known g_found b_firstWords b_sums b_met)
    (G : ∀ kn sc le ac kwA kcA kof kaA cs ls ks fw ch, zM ip a_demandPattern a_demandKept a_demandSign a_demandSigns bd nd nb g_known g_found b_firstWords b_sums b_met kn sc le kcA cs ls ks fw →
      post (f_height, f_signs, nI nd, nI nb, 1, kn, sc, le, f_found, a_sizes, a_hasEmpty, a_firstSet, a_lastSet, a_takes, a_behind, a_sign, a_demandSigns, a_demandSign, a_demandPattern, a_demandKept, a_factor, a_limit, a_lengthOf, a_lettersOf, ac, kwA, kcA, kof, kaA, cs, ls, ks, fw, a_foundSet, a_numberOf, a_stepTo, a_group, a_nextGroup, a_counts, a_isPair, a_pairQueue, ch)) :
    wpX_solve post (f_height, f_signs, nI nd, nI nb, f_isSolved, f_kinds, f_solutionCount, f_leastSum, f_found, a_sizes, a_hasEmpty, a_firstSet, a_lastSet, a_takes, a_behind, a_sign, a_demandSigns, a_demandSign, a_demandPattern, a_demandKept, a_factor, a_limit, a_lengthOf, a_lettersOf, a_action, a_kindWord, a_kindCount, a_kindOf, a_kindAction, a_countOfSum, a_lengthSet, a_kindSet, a_firstWord, a_foundSet, a_numberOf, a_stepTo, a_group, a_nextGroup, a_counts, a_isPair, a_pairQueue, a_chosen) := by
  rcases RC with ⟨rfl, rfl⟩ | ⟨rfl, rfl, hC⟩
  · exact zx_solve hnb D Ps hB hL (fun K kw ko ac kwA kcA kof kaA sc le cs ls ks fw ch a b c d e f => G (nI K) sc le ac kwA kcA kof kaA cs ls ks fw ch (Or.inl ⟨rfl, K, kw, ko, ac, kwA, kaA, rfl, a, b, c, d, e, f⟩))
  · exact br_f zb_10 (G _ _ _ _ _ _ _ _ _ _ _ _ _ (Or.inr ⟨rfl, hC⟩))
end
section
variable {g_depth g_termLength g_demands g_boundCount g_known g_found g_least : Int32} {b_sizes b_empties b_firsts b_lasts b_letters b_behinds b_steps b_term b_patterns b_kepts b_signs b_signCounts b_bounds b_firstWords b_sums b_met b_tried b_seen b_apart b_counts b_next : Nat → Int32}
theorem zz_ys {post : SY → Prop} {ip : Nat → PT} {nd nb : Nat} {kn sc le : Int32} {kcA cs ls ks fw : Nat → Int32} (hnb : nb ≤ 3) (D : zd_ok b_patterns b_signs b_signCounts nd) (Ps : zy_Ps b_sizes b_empties b_firsts b_lasts b_letters b_behinds b_steps ip)
    (M : zM ip b_patterns b_kepts b_signs b_signCounts b_bounds nd nb g_known g_found b_firstWords b_sums b_met kn sc le kcA cs ls ks fw)
    (G : ∀ fo ly fy su mt tr, zC sc le kn kcA cs ls ks fw fo su mt fy → post (g_depth, g_termLength, nI nd, nI nb, 1, fo, ly, b_sizes, b_empties, b_firsts, b_lasts, b_letters, b_behinds, b_steps, b_term, b_patterns, b_kepts, b_signs, b_signCounts, b_bounds, fy, su, mt, tr, b_seen, b_apart, b_counts, b_next)) :
    wpY_tryAll post (g_depth, g_termLength, nI nd, nI nb, g_known, g_found, g_least, b_sizes, b_empties, b_firsts, b_lasts, b_letters, b_behinds, b_steps, b_term, b_patterns, b_kepts, b_signs, b_signCounts, b_bounds, b_firstWords, b_sums, b_met, b_tried, b_seen, b_apart, b_counts, b_next) := by
  rcases M with ⟨rfl, K, kw, ko, ac, kwA, kaA, rfl, a, b, c, d, e, f⟩ | ⟨rfl, hC⟩
  · exact zy_try (fun _ => rfl) (fun _ => rfl) hnb D Ps (fun fo ly fy su mt tr p q r => G fo ly fy su mt tr (zl_law (fun k hk => (Ps k hk).1) D a b c d e f p q r))
  · exact br_f zb_10 (G _ _ _ _ _ _ hC)
/-- Y's lengths out of what was met -/
theorem zy_l18 {post : Int32 → SY → Prop} {i M : Nat} (hi : i < 3) (hM : M < 2 ^ 15) (em : b_met i = nI M) (hp : post (nI (zo (fun w => if M.testBit w then 2 ^ zw_n w else 0) 15)) (g_depth, g_termLength, g_demands, g_boundCount, g_known, g_found, g_least, b_sizes, b_empties, b_firsts, b_lasts, b_letters, b_behinds, b_steps, b_term, b_patterns, b_kepts, b_signs, b_signCounts, b_bounds, b_firstWords, b_sums, b_met, b_tried, b_seen, b_apart, b_counts, b_next)) :
    ∀ n w, w ≤ 15 → 15 < n + w → wY_lengths_18 post (nI i) g_depth g_termLength g_demands g_boundCount g_known g_found g_least b_sizes b_empties b_firsts b_lasts b_letters b_behinds b_steps b_term b_patterns b_kepts b_signs b_signCounts b_bounds b_firstWords b_sums b_met b_tried b_seen b_apart b_counts b_next n (nI (zo (fun w => if M.testBit w then 2 ^ zw_n w else 0) w)) (nI w) := by
  intro n
  induction n with
  | zero => intro w a b; omega
  | succ n ih =>
    intro w a b
    rw [wY_lengths_18]
    refine pk_le 15 w (fun h => ?_) (fun h => And.intro (vp_in_nI hi (by decide)) ?_)
    · have e : w = 15 := by omega
      rw [e]; exact hp
    · have ih' := ih (w + 1) (by omega) (by omega)
      have h3 := zw_n3 w
      rw [nI_clamp (show i < 2 ^ 31 by omega), em, zb_bit (by omega) (by omega)]
      refine br_c (fun hb => ?_) (fun hb => ?_)
      · refine zy_len (by omega) (nm_r ?_ (nm_r (nI_1 w) ih'))
        show _ = nI (_ ||| (if M.testBit w then 2 ^ zw_n w else 0))
        rw [if_pos hb, zb_2w (by omega), zb_or]
      · refine nm_r (nI_1 w) ?_
        have e : zo (fun w => if M.testBit w then 2 ^ zw_n w else 0) (w + 1) = zo (fun w => if M.testBit w then 2 ^ zw_n w else 0) w := by
          show _ ||| (if M.testBit w then 2 ^ zw_n w else 0) = _
          rw [if_neg hb, Nat.or_zero]
        rw [e] at ih'
        exact ih'
theorem zy_d18 {post : Int32 → SY → Prop} {i M : Nat} (hi : i < 3) (hM : M < 2 ^ 15) (em : b_met i = nI M) (hp : post (nI (zn (fun w => if M.testBit w then 1 else 0) 15)) (g_depth, g_termLength, g_demands, g_boundCount, g_known, g_found, g_least, b_sizes, b_empties, b_firsts, b_lasts, b_letters, b_behinds, b_steps, b_term, b_patterns, b_kepts, b_signs, b_signCounts, b_bounds, b_firstWords, b_sums, b_met, b_tried, b_seen, b_apart, b_counts, b_next)) :
    ∀ n w, w ≤ 15 → 15 < n + w → wY_different_18 post (nI i) g_depth g_termLength g_demands g_boundCount g_known g_found g_least b_sizes b_empties b_firsts b_lasts b_letters b_behinds b_steps b_term b_patterns b_kepts b_signs b_signCounts b_bounds b_firstWords b_sums b_met b_tried b_seen b_apart b_counts b_next n (nI (zn (fun w => if M.testBit w then 1 else 0) w)) (nI w) := by
  intro n
  induction n with
  | zero => intro w a b; omega
  | succ n ih =>
    intro w a b
    rw [wY_different_18]
    refine pk_le 15 w (fun h => ?_) (fun h => And.intro (vp_in_nI hi (by decide)) ?_)
    · have e : w = 15 := by omega
      rw [e]; exact hp
    · rw [nI_clamp (show i < 2 ^ 31 by omega), em, zb_bitv (by omega) (by omega)]
      exact nm_r (nI_add _ _) (nm_r (nI_1 w) (ih (w + 1) (by omega) (by omega)))
end
section
variable {f_height f_signs f_demands f_bounds f_isSolved f_kinds f_solutionCount f_leastSum f_found : Int32} {a_sizes a_hasEmpty a_firstSet a_lastSet a_takes a_behind a_sign a_demandSigns a_demandSign a_demandPattern a_demandKept a_factor a_limit a_lengthOf a_lettersOf a_action a_kindWord a_kindCount a_kindOf a_kindAction a_countOfSum a_lengthSet a_kindSet a_firstWord a_foundSet a_numberOf a_stepTo a_group a_nextGroup a_counts a_isPair a_pairQueue a_chosen : Nat → Int32}
theorem zx_d18 {post : Int32 → SX → Prop} {i S K : Nat} {c : Nat → Nat} (hi : i < 3) (hK : K ≤ 15) (hS : S < 2 ^ 15) (es : a_kindSet i = nI S) (hc : ∀ k, k < K → a_kindCount k = nI (c k)) (hp : post (nI (zn (fun k => if S.testBit k then c k else 0) K)) (f_height, f_signs, f_demands, f_bounds, f_isSolved, nI K, f_solutionCount, f_leastSum, f_found, a_sizes, a_hasEmpty, a_firstSet, a_lastSet, a_takes, a_behind, a_sign, a_demandSigns, a_demandSign, a_demandPattern, a_demandKept, a_factor, a_limit, a_lengthOf, a_lettersOf, a_action, a_kindWord, a_kindCount, a_kindOf, a_kindAction, a_countOfSum, a_lengthSet, a_kindSet, a_firstWord, a_foundSet, a_numberOf, a_stepTo, a_group, a_nextGroup, a_counts, a_isPair, a_pairQueue, a_chosen)) :
    ∀ n k, k ≤ K → K < n + k → wX_different_18 post (nI i) f_height f_signs f_demands f_bounds f_isSolved (nI K) f_solutionCount f_leastSum f_found a_sizes a_hasEmpty a_firstSet a_lastSet a_takes a_behind a_sign a_demandSigns a_demandSign a_demandPattern a_demandKept a_factor a_limit a_lengthOf a_lettersOf a_action a_kindWord a_kindCount a_kindOf a_kindAction a_countOfSum a_lengthSet a_kindSet a_firstWord a_foundSet a_numberOf a_stepTo a_group a_nextGroup a_counts a_isPair a_pairQueue a_chosen n (nI (zn (fun k => if S.testBit k then c k else 0) k)) (nI k) := by
  intro n
  induction n with
  | zero => intro k a b; omega
  | succ n ih =>
    intro k a b
    rw [wX_different_18]
    refine pk_le K k (fun h => ?_) (fun h => And.intro (vp_in_nI hi (by decide)) ?_)
    · have e : k = K := by omega
      rw [e]; exact hp
    · have ih' := ih (k + 1) (by omega) (by omega)
      rw [nI_clamp (show i < 2 ^ 31 by omega), es, zb_bit (by omega) (by omega)]
      refine br_c (fun hb => ?_) (fun hb => ?_)
      · refine And.intro (vp_in_nI (by omega) (by decide)) (nm_r ?_ (nm_r (nI_1 k) ih'))
        rw [nI_clamp (show k < 2 ^ 31 by omega), hc k h, nI_add]
        show _ = nI (_ + (if S.testBit k then c k else 0))
        rw [if_pos hb]
      · refine nm_r (nI_1 k) ?_
        have e : zn (fun k => if S.testBit k then c k else 0) (k + 1) = zn (fun k => if S.testBit k then c k else 0) k := by
          show _ + (if S.testBit k then c k else 0) = _
          rw [if_neg hb, Nat.add_zero]
        rw [e] at ih'
        exact ih'
end
theorem zw_lx : ∀ w, w < 15 → ∀ m, m < 3 → m < zw_n w → (w + 1 - 2 ^ zw_n w) / 2 ^ (zw_n w - 1 - m) % 2 = zw_l w m := by decide
theorem zM_fw {ip : Nat → PT} {pt kp sg sn bd : Nat → Int32} {nd nb : Nat} {g_known g_found kn sc le : Int32} {b_firstWords b_sums b_met kcA cs ls ks fw : Nat → Int32} (M : zM ip pt kp sg sn bd nd nb g_known g_found b_firstWords b_sums b_met kn sc le kcA cs ls ks fw) (h : ¬ le = -1) : ∀ u, u < 3 → ∃ w, w < 15 ∧ fw u = nI w := by
  intro u hu
  rcases M with ⟨_, K, kw, ko, ac, kwA, kaA, rfl, a, b, c, d, e, f⟩ | ⟨_, hC⟩
  · rcases f with ⟨q, _⟩ | ⟨y, q1, q2, q3, q4, q5⟩
    · exact absurd q h
    · exact ⟨zx_w K kw y u, zl_xw b q1 u hu, q4 u hu⟩
  · obtain ⟨w, a, b, _⟩ := hC.2.2.2.1 (fun z => h (hC.2.2.1.mpr z)) u hu
    exact ⟨w, a, b⟩
theorem zM_k {ip : Nat → PT} {pt kp sg sn bd : Nat → Int32} {nd nb : Nat} {g_known g_found kn sc le : Int32} {b_firstWords b_sums b_met kcA cs ls ks fw : Nat → Int32} (M : zM ip pt kp sg sn bd nd nb g_known g_found b_firstWords b_sums b_met kn sc le kcA cs ls ks fw) : ∃ (K : Nat) (c : Nat → Nat), K ≤ 15 ∧ kn = nI K ∧ (∀ k, k < K → kcA k = nI (c k)) ∧ ∀ u, u < 3 → ∃ S, S < 2 ^ 15 ∧ ks u = nI S := by
  rcases M with ⟨_, K, kw, ko, ac, kwA, kaA, rfl, a, b, c, d, e, f⟩ | ⟨_, hC⟩
  · exact ⟨K, zkc ko 15, b.1, rfl, fun k hk => (b.2.1 k hk).2.2.1, fun u hu => ⟨_, zl_olt (fun y hy => Nat.lt_of_lt_of_le (zd_wl hy) b.1), e u hu⟩⟩
  · obtain ⟨K, c, h1, h2, h3, h4⟩ := hC.2.2.2.2
    refine ⟨K, c, h1, h2, h3, fun u hu => ?_⟩
    obtain ⟨S, M, q1, _, q2, _⟩ := h4 u hu
    exact ⟨S, q1, q2⟩
theorem zb_zn (f : Nat → Nat) (n : Nat) : nI (zn f n) = zs (fun i => nI (f i)) n := by
  induction n with
  | zero => rfl
  | succ n ih =>
    show nI (zn f n + f n) = zs (fun i => nI (f i)) n + nI (f n)
    rw [← ih, nI_add]
end
section
/-! the owed statements: solutions -/
theorem i_vc_solutions {k : Nat} {u : SX} {v : SY} (I : i_Rel k u v) (hk : k + 5 ≤ 2560) : wpX_solutions (fun r u' => wpY_solutions (fun r' v' => r' = r ∧ i_Rel (k + 5) u' v') v) u := by
  refine zz_el (Z := fun u v => wpX_solutions (fun r u' => wpY_solutions (fun r' v' => r' = r ∧ i_Rel (k + 5) u' v') v) u) ?_ I
  intro f_height f_signs f_demands f_bounds f_isSolved f_kinds f_solutionCount f_leastSum f_found a_sizes a_hasEmpty a_firstSet a_lastSet a_takes a_behind a_sign a_demandSigns a_demandSign a_demandPattern a_demandKept a_factor a_limit a_lengthOf a_lettersOf a_action a_kindWord a_kindCount a_kindOf a_kindAction a_countOfSum a_lengthSet a_kindSet a_firstWord a_foundSet a_numberOf a_stepTo a_group a_nextGroup a_counts a_isPair a_pairQueue a_chosen g_depth g_termLength g_demands g_boundCount g_known g_found g_least b_sizes b_empties b_firsts b_lasts b_letters b_behinds b_steps b_term b_patterns b_kepts b_signs b_signCounts b_bounds b_firstWords b_sums b_met b_tried b_seen b_apart b_counts b_next RP RT RD RB RL RC
  have RP' := RP
  obtain ⟨_, ip, hI⟩ := RP'
  obtain ⟨rfl, rfl, rfl, rfl, rfl, nd, rfl, D⟩ := RD
  obtain ⟨rfl, nb, hnb, rfl, B⟩ := RB
  unfold wpX_solutions
  try dsimp only
  refine zz_xs hnb D (fun j hj => ⟨(hI j hj).1, (hI j hj).2.2.1⟩) B RL RC (fun kn sc le ac kwA kcA kof kaA cs ls ks fw ch M => ?_)
  unfold wpY_solutions
  try dsimp only
  refine zz_ys hnb D (fun j hj => ⟨(hI j hj).1, (hI j hj).2.2.2.1, (hI j hj).2.2.2.2⟩) M (fun fo ly fy su mt tr hC => ⟨hC.1, ?_⟩)
  exact zz_in RP RT ⟨rfl, rfl, rfl, rfl, rfl, nd, rfl, D⟩ ⟨rfl, nb, hnb, rfl, B⟩ RL (Or.inr ⟨rfl, rfl, hC⟩)
theorem i_vc_ofLength {k : Nat} {u : SX} {v : SY} (I : i_Rel k u v) (hk : k + 5 ≤ 2560) (v1 : Int32) : wpX_ofLength (fun r u' => wpY_ofLength (fun r' v' => r' = r ∧ i_Rel (k + 5) u' v') v v1) u v1 := by
  refine zz_el (Z := fun u v => wpX_ofLength (fun r u' => wpY_ofLength (fun r' v' => r' = r ∧ i_Rel (k + 5) u' v') v v1) u v1) ?_ I
  intro f_height f_signs f_demands f_bounds f_isSolved f_kinds f_solutionCount f_leastSum f_found a_sizes a_hasEmpty a_firstSet a_lastSet a_takes a_behind a_sign a_demandSigns a_demandSign a_demandPattern a_demandKept a_factor a_limit a_lengthOf a_lettersOf a_action a_kindWord a_kindCount a_kindOf a_kindAction a_countOfSum a_lengthSet a_kindSet a_firstWord a_foundSet a_numberOf a_stepTo a_group a_nextGroup a_counts a_isPair a_pairQueue a_chosen g_depth g_termLength g_demands g_boundCount g_known g_found g_least b_sizes b_empties b_firsts b_lasts b_letters b_behinds b_steps b_term b_patterns b_kepts b_signs b_signCounts b_bounds b_firstWords b_sums b_met b_tried b_seen b_apart b_counts b_next RP RT RD RB RL RC
  have RP' := RP
  obtain ⟨_, ip, hI⟩ := RP'
  obtain ⟨rfl, rfl, rfl, rfl, rfl, nd, rfl, D⟩ := RD
  obtain ⟨rfl, nb, hnb, rfl, B⟩ := RB
  unfold wpX_ofLength
  try dsimp only
  refine zz_xs hnb D (fun j hj => ⟨(hI j hj).1, (hI j hj).2.2.1⟩) B RL RC (fun kn sc le ac kwA kcA kof kaA cs ls ks fw ch M => ?_)
  try dsimp only
  have rel : ∀ {fo ly : Int32} {fy su mt tr : Nat → Int32}, zC sc le kn kcA cs ls ks fw fo su mt fy → i_Rel (k + 5) (f_height, f_signs, nI nd, nI nb, 1, kn, sc, le, f_found, a_sizes, a_hasEmpty, a_firstSet, a_lastSet, a_takes, a_behind, a_sign, b_signCounts, b_signs, b_patterns, b_kepts, a_factor, a_limit, a_lengthOf, a_lettersOf, ac, kwA, kcA, kof, kaA, cs, ls, ks, fw, a_foundSet, a_numberOf, a_stepTo, a_group, a_nextGroup, a_counts, a_isPair, a_pairQueue, ch) (g_depth, g_termLength, nI nd, nI nb, 1, fo, ly, b_sizes, b_empties, b_firsts, b_lasts, b_letters, b_behinds, b_steps, b_term, b_patterns, b_kepts, b_signs, b_signCounts, b_bounds, fy, su, mt, tr, b_seen, b_apart, b_counts, b_next) :=
    fun hC => zz_in RP RT ⟨rfl, rfl, rfl, rfl, rfl, nd, rfl, D⟩ ⟨rfl, nb, hnb, rfl, B⟩ RL (Or.inr ⟨rfl, rfl, hC⟩)
  rcases zz_4 v1 9 (by decide) with hv | ⟨n, hn, rfl⟩
  · rcases hv with h0 | ⟨h0, h1⟩
    · refine br_t h0 ?_
      unfold wpY_ofLength
      try dsimp only
      exact zz_ys hnb D (fun j hj => ⟨(hI j hj).1, (hI j hj).2.2.2.1, (hI j hj).2.2.2.2⟩) M (fun fo ly fy su mt tr hC => br_t h0 ⟨rfl, rel hC⟩)
    · refine br_f h0 (br_f h1 ?_)
      unfold wpY_ofLength
      try dsimp only
      exact zz_ys hnb D (fun j hj => ⟨(hI j hj).1, (hI j hj).2.2.2.1, (hI j hj).2.2.2.2⟩) M (fun fo ly fy su mt tr hC => br_f h0 (br_f h1 ⟨rfl, rel hC⟩))
  · have hin : vp_in (nI n) 10 := vp_in_nI (by omega) (by decide)
    have hcl : (nI n).toNatClampNeg = n := nI_clamp (by omega)
    rw [hcl]
    refine br_f (nI_pos (by omega)) (br_t (nI_le (b := 9) hn (by decide)) (And.intro hin ?_))
    unfold wpY_ofLength
    try dsimp only
    rw [hcl]
    exact zz_ys hnb D (fun j hj => ⟨(hI j hj).1, (hI j hj).2.2.2.1, (hI j hj).2.2.2.2⟩) M (fun fo ly fy su mt tr hC => br_f (nI_pos (by omega)) (br_t (nI_le (b := 9) hn (by decide)) (And.intro hin ⟨hC.2.1 n (by omega), rel hC⟩)))
theorem i_vc_length {k : Nat} {u : SX} {v : SY} (I : i_Rel k u v) (hk : k + 5 ≤ 2560) (v1 : Int32) : wpX_length (fun r u' => wpY_length (fun r' v' => r' = r ∧ i_Rel (k + 5) u' v') v v1) u v1 := by
  refine zz_el (Z := fun u v => wpX_length (fun r u' => wpY_length (fun r' v' => r' = r ∧ i_Rel (k + 5) u' v') v v1) u v1) ?_ I
  intro f_height f_signs f_demands f_bounds f_isSolved f_kinds f_solutionCount f_leastSum f_found a_sizes a_hasEmpty a_firstSet a_lastSet a_takes a_behind a_sign a_demandSigns a_demandSign a_demandPattern a_demandKept a_factor a_limit a_lengthOf a_lettersOf a_action a_kindWord a_kindCount a_kindOf a_kindAction a_countOfSum a_lengthSet a_kindSet a_firstWord a_foundSet a_numberOf a_stepTo a_group a_nextGroup a_counts a_isPair a_pairQueue a_chosen g_depth g_termLength g_demands g_boundCount g_known g_found g_least b_sizes b_empties b_firsts b_lasts b_letters b_behinds b_steps b_term b_patterns b_kepts b_signs b_signCounts b_bounds b_firstWords b_sums b_met b_tried b_seen b_apart b_counts b_next RP RT RD RB RL RC
  have R : i_Rel (k + 5) (f_height, f_signs, f_demands, f_bounds, f_isSolved, f_kinds, f_solutionCount, f_leastSum, f_found, a_sizes, a_hasEmpty, a_firstSet, a_lastSet, a_takes, a_behind, a_sign, a_demandSigns, a_demandSign, a_demandPattern, a_demandKept, a_factor, a_limit, a_lengthOf, a_lettersOf, a_action, a_kindWord, a_kindCount, a_kindOf, a_kindAction, a_countOfSum, a_lengthSet, a_kindSet, a_firstWord, a_foundSet, a_numberOf, a_stepTo, a_group, a_nextGroup, a_counts, a_isPair, a_pairQueue, a_chosen) (g_depth, g_termLength, g_demands, g_boundCount, g_known, g_found, g_least, b_sizes, b_empties, b_firsts, b_lasts, b_letters, b_behinds, b_steps, b_term, b_patterns, b_kepts, b_signs, b_signCounts, b_bounds, b_firstWords, b_sums, b_met, b_tried, b_seen, b_apart, b_counts, b_next) := zz_in RP RT RD RB RL RC
  rcases zz_3 v1 with hv | ⟨i, hi, rfl⟩
  · unfold wpX_length
    try dsimp only
    refine zx_bad hv (br_f zb_10 ?_)
    unfold wpY_length
    try dsimp only
    exact zy_bad hv (br_t rfl ⟨rfl, R⟩)
  · have RP' := RP
    obtain ⟨_, ip, hI⟩ := RP'
    obtain ⟨rfl, rfl, rfl, rfl, rfl, nd, rfl, D⟩ := RD
    obtain ⟨rfl, nb, hnb, rfl, B⟩ := RB
    unfold wpX_length
    try dsimp only
    refine zx_ok3 hi (br_t rfl (zz_xs hnb D (fun j hj => ⟨(hI j hj).1, (hI j hj).2.2.1⟩) B RL RC (fun kn sc le ac kwA kcA kof kaA cs ls ks fw ch M => ?_)))
    try dsimp only
    have rel : ∀ {fo ly : Int32} {fy su mt tr : Nat → Int32}, zC sc le kn kcA cs ls ks fw fo su mt fy → i_Rel (k + 5) (f_height, f_signs, nI nd, nI nb, 1, kn, sc, le, f_found, a_sizes, a_hasEmpty, a_firstSet, a_lastSet, a_takes, a_behind, a_sign, b_signCounts, b_signs, b_patterns, b_kepts, a_factor, a_limit, a_lengthOf, a_lettersOf, ac, kwA, kcA, kof, kaA, cs, ls, ks, fw, a_foundSet, a_numberOf, a_stepTo, a_group, a_nextGroup, a_counts, a_isPair, a_pairQueue, ch) (g_depth, g_termLength, nI nd, nI nb, 1, fo, ly, b_sizes, b_empties, b_firsts, b_lasts, b_letters, b_behinds, b_steps, b_term, b_patterns, b_kepts, b_signs, b_signCounts, b_bounds, fy, su, mt, tr, b_seen, b_apart, b_counts, b_next) :=
      fun hC => zz_in RP RT ⟨rfl, rfl, rfl, rfl, rfl, nd, rfl, D⟩ ⟨rfl, nb, hnb, rfl, B⟩ RL (Or.inr ⟨rfl, rfl, hC⟩)
    have hcl : (nI i).toNatClampNeg = i := nI_clamp (by omega)
    refine br_c (fun c => ?_) (fun c => ?_)
    · unfold wpY_length
      try dsimp only
      refine zy_ok3 hi (br_f zb_10 (zz_ys hnb D (fun j hj => ⟨(hI j hj).1, (hI j hj).2.2.2.1, (hI j hj).2.2.2.2⟩) M (fun fo ly fy su mt tr hC => ?_)))
      exact br_t (hC.2.2.1.mp c) ⟨rfl, rel hC⟩
    · obtain ⟨w, hw, ew⟩ := zM_fw M c i hi
      rw [hcl, ew, nI_clamp (show w < 2 ^ 31 by omega), (RL w hw).1]
      refine And.intro (vp_in_nI hi (by decide)) (And.intro (vp_in_nI hw (by decide)) ?_)
      unfold wpY_length
      try dsimp only
      refine zy_ok3 hi (br_f zb_10 (zz_ys hnb D (fun j hj => ⟨(hI j hj).1, (hI j hj).2.2.2.1, (hI j hj).2.2.2.2⟩) M (fun fo ly fy su mt tr hC => ?_)))
      have hfo : ¬ fo = 0 := fun z => c (hC.2.2.1.mpr z)
      obtain ⟨w', hw', e1, e2⟩ := hC.2.2.2.1 hfo i hi
      have eww : w' = w := by rw [ew] at e1; exact ((nI_eq (by omega) (by omega)).mp e1).symm
      subst eww
      try dsimp only
      rw [hcl, e2]
      exact br_f hfo (And.intro (vp_in_nI hi (by decide)) (zy_len (by omega) ⟨rfl, rel hC⟩))
theorem i_vc_letter {k : Nat} {u : SX} {v : SY} (I : i_Rel k u v) (hk : k + 5 ≤ 2560) (v1 : Int32) (v2 : Int32) : wpX_letter (fun r u' => wpY_letter (fun r' v' => r' = r ∧ i_Rel (k + 5) u' v') v v1 v2) u v1 v2 := by
  refine zz_el (Z := fun u v => wpX_letter (fun r u' => wpY_letter (fun r' v' => r' = r ∧ i_Rel (k + 5) u' v') v v1 v2) u v1 v2) ?_ I
  intro f_height f_signs f_demands f_bounds f_isSolved f_kinds f_solutionCount f_leastSum f_found a_sizes a_hasEmpty a_firstSet a_lastSet a_takes a_behind a_sign a_demandSigns a_demandSign a_demandPattern a_demandKept a_factor a_limit a_lengthOf a_lettersOf a_action a_kindWord a_kindCount a_kindOf a_kindAction a_countOfSum a_lengthSet a_kindSet a_firstWord a_foundSet a_numberOf a_stepTo a_group a_nextGroup a_counts a_isPair a_pairQueue a_chosen g_depth g_termLength g_demands g_boundCount g_known g_found g_least b_sizes b_empties b_firsts b_lasts b_letters b_behinds b_steps b_term b_patterns b_kepts b_signs b_signCounts b_bounds b_firstWords b_sums b_met b_tried b_seen b_apart b_counts b_next RP RT RD RB RL RC
  have R : i_Rel (k + 5) (f_height, f_signs, f_demands, f_bounds, f_isSolved, f_kinds, f_solutionCount, f_leastSum, f_found, a_sizes, a_hasEmpty, a_firstSet, a_lastSet, a_takes, a_behind, a_sign, a_demandSigns, a_demandSign, a_demandPattern, a_demandKept, a_factor, a_limit, a_lengthOf, a_lettersOf, a_action, a_kindWord, a_kindCount, a_kindOf, a_kindAction, a_countOfSum, a_lengthSet, a_kindSet, a_firstWord, a_foundSet, a_numberOf, a_stepTo, a_group, a_nextGroup, a_counts, a_isPair, a_pairQueue, a_chosen) (g_depth, g_termLength, g_demands, g_boundCount, g_known, g_found, g_least, b_sizes, b_empties, b_firsts, b_lasts, b_letters, b_behinds, b_steps, b_term, b_patterns, b_kepts, b_signs, b_signCounts, b_bounds, b_firstWords, b_sums, b_met, b_tried, b_seen, b_apart, b_counts, b_next) := zz_in RP RT RD RB RL RC
  rcases zz_3 v1 with hv | ⟨i, hi, rfl⟩
  · unfold wpX_letter
    try dsimp only
    refine zx_bad hv (br_f zb_10 ?_)
    unfold wpY_letter
    try dsimp only
    exact zy_bad hv (br_t rfl ⟨rfl, R⟩)
  · have RP' := RP
    obtain ⟨_, ip, hI⟩ := RP'
    obtain ⟨rfl, rfl, rfl, rfl, rfl, nd, rfl, D⟩ := RD
    obtain ⟨rfl, nb, hnb, rfl, B⟩ := RB
    unfold wpX_letter
    try dsimp only
    refine zx_ok3 hi (br_t rfl (zz_xs hnb D (fun j hj => ⟨(hI j hj).1, (hI j hj).2.2.1⟩) B RL RC (fun kn sc le ac kwA kcA kof kaA cs ls ks fw ch M => ?_)))
    try dsimp only
    have rel : ∀ {fo ly : Int32} {fy su mt tr : Nat → Int32}, zC sc le kn kcA cs ls ks fw fo su mt fy → i_Rel (k + 5) (f_height, f_signs, nI nd, nI nb, 1, kn, sc, le, f_found, a_sizes, a_hasEmpty, a_firstSet, a_lastSet, a_takes, a_behind, a_sign, b_signCounts, b_signs, b_patterns, b_kepts, a_factor, a_limit, a_lengthOf, a_lettersOf, ac, kwA, kcA, kof, kaA, cs, ls, ks, fw, a_foundSet, a_numberOf, a_stepTo, a_group, a_nextGroup, a_counts, a_isPair, a_pairQueue, ch) (g_depth, g_termLength, nI nd, nI nb, 1, fo, ly, b_sizes, b_empties, b_firsts, b_lasts, b_letters, b_behinds, b_steps, b_term, b_patterns, b_kepts, b_signs, b_signCounts, b_bounds, fy, su, mt, tr, b_seen, b_apart, b_counts, b_next) :=
      fun hC => zz_in RP RT ⟨rfl, rfl, rfl, rfl, rfl, nd, rfl, D⟩ ⟨rfl, nb, hnb, rfl, B⟩ RL (Or.inr ⟨rfl, rfl, hC⟩)
    have hcl : (nI i).toNatClampNeg = i := nI_clamp (by omega)
    refine br_c (fun c => ?_) (fun c => ?_)
    · unfold wpY_letter
      try dsimp only
      refine zy_ok3 hi (br_f zb_10 (zz_ys hnb D (fun j hj => ⟨(hI j hj).1, (hI j hj).2.2.2.1, (hI j hj).2.2.2.2⟩) M (fun fo ly fy su mt tr hC => ?_)))
      exact br_t (hC.2.2.1.mp c) ⟨rfl, rel hC⟩
    · refine br_c (fun c2 => ?_) (fun c2 => ?_)
      · unfold wpY_letter
        try dsimp only
        refine zy_ok3 hi (br_f zb_10 (zz_ys hnb D (fun j hj => ⟨(hI j hj).1, (hI j hj).2.2.2.1, (hI j hj).2.2.2.2⟩) M (fun fo ly fy su mt tr hC => ?_)))
        exact br_f (fun z => c (hC.2.2.1.mpr z)) (br_t c2 ⟨rfl, rel hC⟩)
      · obtain ⟨m, hm, rfl⟩ := nI_of c2
        obtain ⟨w, hw, ew⟩ := zM_fw M c i hi
        have h3 := zw_n3 w
        rw [hcl, ew, nI_clamp (show w < 2 ^ 31 by omega), (RL w hw).1]
        refine And.intro (vp_in_nI hi (by decide)) (And.intro (vp_in_nI hw (by decide)) (pk_lt m (zw_n w) (fun g => ?_) (fun g => ?_)))
        · refine And.intro (vp_in_nI hi (by decide)) ?_
          unfold wpX_letterOf
          try dsimp only
          have e1 : nI (zw_n w) - 1 - nI m = nI (zw_n w - 1 - m) := by
            rw [show nI (zw_n w) - 1 = nI (zw_n w - 1) from pk_sub (b := 1) (by omega), pk_sub (by omega)]
          rw [nI_clamp (show w < 2 ^ 31 by omega), (RL w hw).1, (RL w hw).2, e1, pk_shrN (Nat.lt_of_le_of_lt (Nat.sub_le _ _) (show w + 1 < 2 ^ 31 by omega)) _ _ (s_l (zw_n w - 1 - m) (by omega)), zb_and1, zw_lx w hw m (by omega) g]
          refine And.intro (vp_in_nI hw (by decide)) (And.intro (vp_in_nI hw (by decide)) ?_)
          unfold wpY_letter
          try dsimp only
          refine zy_ok3 hi (br_f zb_10 (zz_ys hnb D (fun j hj => ⟨(hI j hj).1, (hI j hj).2.2.2.1, (hI j hj).2.2.2.2⟩) M (fun fo ly fy su mt tr hC => ?_)))
          have hfo : ¬ fo = 0 := fun z => c (hC.2.2.1.mpr z)
          obtain ⟨w', hw', e1, e2⟩ := hC.2.2.2.1 hfo i hi
          have eww : w' = w := by rw [ew] at e1; exact ((nI_eq (by omega) (by omega)).mp e1).symm
          subst eww
          try dsimp only
          rw [hcl, e2]
          exact br_f hfo (br_f c2 (And.intro (vp_in_nI hi (by decide)) (zy_len (by omega) (pk_lt m (zw_n w') (fun _ => And.intro (vp_in_nI hi (by decide)) (zy_let hw g ⟨rfl, rel hC⟩)) (fun q => absurd g (by omega))))))
        · unfold wpY_letter
          try dsimp only
          refine zy_ok3 hi (br_f zb_10 (zz_ys hnb D (fun j hj => ⟨(hI j hj).1, (hI j hj).2.2.2.1, (hI j hj).2.2.2.2⟩) M (fun fo ly fy su mt tr hC => ?_)))
          have hfo : ¬ fo = 0 := fun z => c (hC.2.2.1.mpr z)
          obtain ⟨w', hw', e1, e2⟩ := hC.2.2.2.1 hfo i hi
          have eww : w' = w := by rw [ew] at e1; exact ((nI_eq (by omega) (by omega)).mp e1).symm
          subst eww
          try dsimp only
          rw [hcl, e2]
          exact br_f hfo (br_f c2 (And.intro (vp_in_nI hi (by decide)) (zy_len (by omega) (pk_lt m (zw_n w') (fun q => absurd g (by omega)) (fun _ => ⟨rfl, rel hC⟩)))))
theorem i_vc_lengths {k : Nat} {u : SX} {v : SY} (I : i_Rel k u v) (hk : k + 5 ≤ 2560) (v1 : Int32) : wpX_lengths (fun r u' => wpY_lengths (fun r' v' => r' = r ∧ i_Rel (k + 5) u' v') v v1) u v1 := by
  refine zz_el (Z := fun u v => wpX_lengths (fun r u' => wpY_lengths (fun r' v' => r' = r ∧ i_Rel (k + 5) u' v') v v1) u v1) ?_ I
  intro f_height f_signs f_demands f_bounds f_isSolved f_kinds f_solutionCount f_leastSum f_found a_sizes a_hasEmpty a_firstSet a_lastSet a_takes a_behind a_sign a_demandSigns a_demandSign a_demandPattern a_demandKept a_factor a_limit a_lengthOf a_lettersOf a_action a_kindWord a_kindCount a_kindOf a_kindAction a_countOfSum a_lengthSet a_kindSet a_firstWord a_foundSet a_numberOf a_stepTo a_group a_nextGroup a_counts a_isPair a_pairQueue a_chosen g_depth g_termLength g_demands g_boundCount g_known g_found g_least b_sizes b_empties b_firsts b_lasts b_letters b_behinds b_steps b_term b_patterns b_kepts b_signs b_signCounts b_bounds b_firstWords b_sums b_met b_tried b_seen b_apart b_counts b_next RP RT RD RB RL RC
  have R : i_Rel (k + 5) (f_height, f_signs, f_demands, f_bounds, f_isSolved, f_kinds, f_solutionCount, f_leastSum, f_found, a_sizes, a_hasEmpty, a_firstSet, a_lastSet, a_takes, a_behind, a_sign, a_demandSigns, a_demandSign, a_demandPattern, a_demandKept, a_factor, a_limit, a_lengthOf, a_lettersOf, a_action, a_kindWord, a_kindCount, a_kindOf, a_kindAction, a_countOfSum, a_lengthSet, a_kindSet, a_firstWord, a_foundSet, a_numberOf, a_stepTo, a_group, a_nextGroup, a_counts, a_isPair, a_pairQueue, a_chosen) (g_depth, g_termLength, g_demands, g_boundCount, g_known, g_found, g_least, b_sizes, b_empties, b_firsts, b_lasts, b_letters, b_behinds, b_steps, b_term, b_patterns, b_kepts, b_signs, b_signCounts, b_bounds, b_firstWords, b_sums, b_met, b_tried, b_seen, b_apart, b_counts, b_next) := zz_in RP RT RD RB RL RC
  rcases zz_3 v1 with hv | ⟨i, hi, rfl⟩
  · unfold wpX_lengths
    try dsimp only
    refine zx_bad hv (br_f zb_10 ?_)
    unfold wpY_lengths
    try dsimp only
    exact zy_bad hv (br_t rfl ⟨rfl, R⟩)
  · have RP' := RP
    obtain ⟨_, ip, hI⟩ := RP'
    obtain ⟨rfl, rfl, rfl, rfl, rfl, nd, rfl, D⟩ := RD
    obtain ⟨rfl, nb, hnb, rfl, B⟩ := RB
    unfold wpX_lengths
    try dsimp only
    refine zx_ok3 hi (br_t rfl (zz_xs hnb D (fun j hj => ⟨(hI j hj).1, (hI j hj).2.2.1⟩) B RL RC (fun kn sc le ac kwA kcA kof kaA cs ls ks fw ch M => ?_)))
    try dsimp only
    have hcl : (nI i).toNatClampNeg = i := nI_clamp (by omega)
    rw [hcl]
    refine And.intro (vp_in_nI hi (by decide)) ?_
    unfold wpY_lengths
    try dsimp only
    refine zy_ok3 hi (br_f zb_10 (zz_ys hnb D (fun j hj => ⟨(hI j hj).1, (hI j hj).2.2.2.1, (hI j hj).2.2.2.2⟩) M (fun fo ly fy su mt tr hC => ?_)))
    try dsimp only
    obtain ⟨K, c, h1, h2, h3, h4⟩ := hC.2.2.2.2
    obtain ⟨S, Mm, q1, q2, q3, q4, q5, q6⟩ := h4 i hi
    refine ⟨16, zy_l18 hi q2 q4 ⟨q5.symm, ?_⟩ 16 0 (by omega) (by omega)⟩
    exact zz_in RP RT ⟨rfl, rfl, rfl, rfl, rfl, nd, rfl, D⟩ ⟨rfl, nb, hnb, rfl, B⟩ RL (Or.inr ⟨rfl, rfl, hC⟩)
theorem i_vc_different {k : Nat} {u : SX} {v : SY} (I : i_Rel k u v) (hk : k + 5 ≤ 2560) (v1 : Int32) : wpX_different (fun r u' => wpY_different (fun r' v' => r' = r ∧ i_Rel (k + 5) u' v') v v1) u v1 := by
  refine zz_el (Z := fun u v => wpX_different (fun r u' => wpY_different (fun r' v' => r' = r ∧ i_Rel (k + 5) u' v') v v1) u v1) ?_ I
  intro f_height f_signs f_demands f_bounds f_isSolved f_kinds f_solutionCount f_leastSum f_found a_sizes a_hasEmpty a_firstSet a_lastSet a_takes a_behind a_sign a_demandSigns a_demandSign a_demandPattern a_demandKept a_factor a_limit a_lengthOf a_lettersOf a_action a_kindWord a_kindCount a_kindOf a_kindAction a_countOfSum a_lengthSet a_kindSet a_firstWord a_foundSet a_numberOf a_stepTo a_group a_nextGroup a_counts a_isPair a_pairQueue a_chosen g_depth g_termLength g_demands g_boundCount g_known g_found g_least b_sizes b_empties b_firsts b_lasts b_letters b_behinds b_steps b_term b_patterns b_kepts b_signs b_signCounts b_bounds b_firstWords b_sums b_met b_tried b_seen b_apart b_counts b_next RP RT RD RB RL RC
  have R : i_Rel (k + 5) (f_height, f_signs, f_demands, f_bounds, f_isSolved, f_kinds, f_solutionCount, f_leastSum, f_found, a_sizes, a_hasEmpty, a_firstSet, a_lastSet, a_takes, a_behind, a_sign, a_demandSigns, a_demandSign, a_demandPattern, a_demandKept, a_factor, a_limit, a_lengthOf, a_lettersOf, a_action, a_kindWord, a_kindCount, a_kindOf, a_kindAction, a_countOfSum, a_lengthSet, a_kindSet, a_firstWord, a_foundSet, a_numberOf, a_stepTo, a_group, a_nextGroup, a_counts, a_isPair, a_pairQueue, a_chosen) (g_depth, g_termLength, g_demands, g_boundCount, g_known, g_found, g_least, b_sizes, b_empties, b_firsts, b_lasts, b_letters, b_behinds, b_steps, b_term, b_patterns, b_kepts, b_signs, b_signCounts, b_bounds, b_firstWords, b_sums, b_met, b_tried, b_seen, b_apart, b_counts, b_next) := zz_in RP RT RD RB RL RC
  rcases zz_3 v1 with hv | ⟨i, hi, rfl⟩
  · unfold wpX_different
    try dsimp only
    refine zx_bad hv (br_f zb_10 ?_)
    unfold wpY_different
    try dsimp only
    exact zy_bad hv (br_t rfl ⟨rfl, R⟩)
  · have RP' := RP
    obtain ⟨_, ip, hI⟩ := RP'
    obtain ⟨rfl, rfl, rfl, rfl, rfl, nd, rfl, D⟩ := RD
    obtain ⟨rfl, nb, hnb, rfl, B⟩ := RB
    unfold wpX_different
    try dsimp only
    refine zx_ok3 hi (br_t rfl (zz_xs hnb D (fun j hj => ⟨(hI j hj).1, (hI j hj).2.2.1⟩) B RL RC (fun kn sc le ac kwA kcA kof kaA cs ls ks fw ch M => ?_)))
    try dsimp only
    obtain ⟨K, c, k1, rfl, k3, k4⟩ := zM_k M
    obtain ⟨S, s1, s2⟩ := k4 i hi
    refine ⟨K + 1, zx_d18 hi k1 s1 s2 k3 ?_ (K + 1) 0 (by omega) (by omega)⟩
    unfold wpY_different
    try dsimp only
    refine zy_ok3 hi (br_f zb_10 (zz_ys hnb D (fun j hj => ⟨(hI j hj).1, (hI j hj).2.2.2.1, (hI j hj).2.2.2.2⟩) M (fun fo ly fy su mt tr hC => ?_)))
    try dsimp only
    obtain ⟨K', c', h1, h2, h3, h4⟩ := hC.2.2.2.2
    obtain ⟨S', Mm, q1, q2, q3, q4, q5, q6⟩ := h4 i hi
    have eK : K' = K := ((nI_eq (by omega) (by omega)).mp h2).symm
    subst eK
    have eS : S' = S := by rw [s2] at q3; exact ((nI_eq (by omega) (by omega)).mp q3).symm
    subst eS
    refine ⟨16, zy_d18 hi q2 q4 ⟨?_, ?_⟩ 16 0 (by omega) (by omega)⟩
    · rw [← q6, zb_zn, zb_zn]
      apply zs_congr
      intro j hj
      by_cases z : S'.testBit j = true
      · rw [if_pos z, if_pos z, ← h3 j hj, ← k3 j hj]
      · rw [if_neg z, if_neg z]
    · exact zz_in RP RT ⟨rfl, rfl, rfl, rfl, rfl, nd, rfl, D⟩ ⟨rfl, nb, hnb, rfl, B⟩ RL (Or.inr ⟨rfl, rfl, hC⟩)
end
