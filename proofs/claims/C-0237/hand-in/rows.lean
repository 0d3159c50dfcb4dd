section
/-! rows of kit/rows (a starting text) -/
theorem pk_us {f : Nat → Int32} {k : Nat} {x : Int32} : upd f k x k = x := if_pos rfl
theorem pk_un {f : Nat → Int32} {k j : Nat} {x : Int32} (h : j ≠ k) : upd f k x j = f j := if_neg h
theorem pk_sub {a b : Nat} (h : b ≤ a) : nI a - nI b = nI (a - b) := by
  obtain ⟨c, rfl⟩ : ∃ c, a = c + b := ⟨a - b, by omega⟩
  rw [← nI_add, Int32.add_sub_cancel, Nat.add_sub_cancel]
theorem pk_m1 (n : Nat) : nI (n + 1) + (-1) = nI n := by
  rw [← nI_1, Int32.add_assoc, show (1 : Int32) + (-1) = 0 from rfl, Int32.add_zero]
theorem pk_mul (a b : Nat) : nI a * nI b = nI (a * b) := (Int32.ofNat_mul a b).symm
theorem pk_div {a d : Nat} (ha : a < 2 ^ 31) (h0 : 0 < d) (hd : d < 2 ^ 31) : nI a / nI d = nI (a / d) := by
  apply Int32.toInt_inj.mp
  rw [lg_idiv_nonneg (by rw [nI_toInt ha]; omega) (by rw [nI_toInt hd]; omega), nI_toInt ha, nI_toInt hd, nI_toInt (Nat.lt_of_le_of_lt (Nat.div_le_self a d) ha)]
  first | rfl | exact (Int.natCast_ediv _ _).symm
theorem pk_rem {a d : Nat} (ha : a < 2 ^ 31) (h0 : 0 < d) (hd : d < 2 ^ 31) : nI a - nI a / nI d * nI d = nI (a % d) := by
  rw [pk_div ha h0 hd, pk_mul, pk_sub (Nat.div_mul_le_self a d)]
  exact congrArg nI (by have := Nat.div_add_mod' a d; omega)
theorem pk_le {x y : Int32} {A B : Prop} (a b : Nat) (f : a ≤ b → A) (g : b < a → B) (hx : x = nI a := by rfl) (hy : y = nI b := by rfl) (ha : a < 2 ^ 31 := by omega) (hb : b < 2 ^ 31 := by omega) : (x ≤ y → A) ∧ (¬ x ≤ y → B) := by
  subst hx hy
  rw [nI_leI ha hb]
  exact ⟨f, fun z => g (by omega)⟩
theorem pk_lt {x y : Int32} {A B : Prop} (a b : Nat) (f : a < b → A) (g : b ≤ a → B) (hx : x = nI a := by rfl) (hy : y = nI b := by rfl) (ha : a < 2 ^ 31 := by omega) (hb : b < 2 ^ 31 := by omega) : (x < y → A) ∧ (¬ x < y → B) := by
  subst hx hy
  rw [nI_ltI ha hb]
  exact ⟨f, fun z => g (by omega)⟩
theorem pk_eq {x y : Int32} {A B : Prop} (a b : Nat) (f : a = b → A) (g : a ≠ b → B) (hx : x = nI a := by rfl) (hy : y = nI b := by rfl) (ha : a < 2 ^ 31 := by omega) (hb : b < 2 ^ 31 := by omega) : (x = y → A) ∧ (¬ x = y → B) := by
  subst hx hy
  rw [nI_eq ha hb]
  exact ⟨f, g⟩
theorem pk_in {x : Int32} (n N : Nat) (h : n < N) (hx : x = nI n := by rfl) (hN : N < 2 ^ 31 := by omega) : vp_in x N := by
  subst hx
  exact vp_in_nI h hN
theorem pk_cl {x : Int32} (n : Nat) (hx : x = nI n := by rfl) (h : n < 2 ^ 31 := by omega) : x.toNatClampNeg = n := by
  subst hx
  exact nI_clamp h
theorem pk_tn {n : Nat} (h : n < 2 ^ 32) : (nI n).toBitVec.toNat = n := Nat.mod_eq_of_lt h
theorem pk_and (x : Int32) {m : Int32} (k : Nat) (hm : m.toBitVec.toNat = 2 ^ k - 1) : x &&& m = nI (x.toBitVec.toNat % 2 ^ k) := by
  apply Int32.toBitVec_inj.mp
  apply BitVec.eq_of_toNat_eq
  rw [Int32.toBitVec_and, BitVec.toNat_and, hm, Nat.and_two_pow_sub_one_eq_mod]
  show _ = (BitVec.ofNat 32 _).toNat
  rw [BitVec.toNat_ofNat]
  exact (Nat.mod_eq_of_lt (Nat.lt_of_le_of_lt (Nat.mod_le _ _) x.toBitVec.isLt)).symm
theorem pk_andN {n : Nat} (h : n < 2 ^ 32) {m : Int32} (k : Nat) (hm : m.toBitVec.toNat = 2 ^ k - 1) : nI n &&& m = nI (n % 2 ^ k) := by
  rw [pk_and _ k hm, pk_tn h]
theorem pk_andE (x : Int32) {m : Int32} (k : Nat) (hm : m.toBitVec.toNat = 2 ^ k - 1) : ∃ j : Nat, j < 2 ^ k ∧ x &&& m = nI j := ⟨_, Nat.mod_lt _ (Nat.two_pow_pos k), pk_and x k hm⟩
theorem pk_shr (a s : Int32) (k : Nat) (hs : (s.toBitVec.smod 32).toNat = k) : (a >>> s).toInt = a.toInt >>> k := by
  show (a.toBitVec.sshiftRight (s.toBitVec.smod 32).toNat).toInt = _
  rw [hs, BitVec.toInt_sshiftRight]
  rfl
theorem pk_shrN {n : Nat} (h : n < 2 ^ 31) (s : Int32) (k : Nat) (hs : (s.toBitVec.smod 32).toNat = k) : nI n >>> s = nI (n / 2 ^ k) := by
  apply Int32.toInt_inj.mp
  have h2 : n / 2 ^ k ≤ n := Nat.div_le_self _ _
  rw [pk_shr _ _ k hs, nI_toInt h, nI_toInt (by omega), Int.shiftRight_eq_div_pow]
  rfl
theorem s_l : ∀ n, n < 32 → ((nI n &&& 31).toBitVec.smod 32).toNat = n := by decide +kernel
theorem ts_nf {x : Bool} (h : ¬ x = false) : x = true := by cases x <;> first | rfl | exact absurd rfl h
theorem ts_nt {x : Bool} (h : ¬ x = true) : x = false := by cases x <;> first | rfl | exact absurd rfl h
theorem ts_bit {w : Int64} {s : UInt64} {j : Nat} (hj : j < 64) (hs : s.toNat = j) : ((w.toUInt64 >>> s).toInt64 &&& 1) = 0 ↔ w.toBitVec.getLsbD j = false := by
  have e : (w.toUInt64 >>> s).toInt64.toBitVec = w.toBitVec >>> j := by
    apply BitVec.eq_of_toNat_eq
    show (w.toUInt64 >>> s).toNat = _
    rw [UInt64.toNat_shiftRight, hs, Nat.mod_eq_of_lt hj, BitVec.toNat_ushiftRight]
    rfl
  rw [← Int64.toBitVec_inj, Int64.toBitVec_and, e]
  show w.toBitVec >>> j &&& 1#64 = 0#64 ↔ _
  constructor
  · intro h
    have t := congrArg (fun x => x.getLsbD 0) h
    simpa using t
  · intro h
    apply BitVec.eq_of_getLsbD_eq
    intro i hi
    cases i with
    | zero => simp [h]
    | succ i => simp
theorem wb_tb (n : Nat) : (lN n).toBitVec = BitVec.ofNat 64 n := rfl
theorem wb_inj {a b : Int64} (h : a.toBitVec = b.toBitVec) : a = b := Int64.toBitVec_inj.mp h
theorem wb_tn {n : Nat} (h : n < 2 ^ 64) : (lN n).toBitVec.toNat = n := by rw [wb_tb, BitVec.toNat_ofNat, Nat.mod_eq_of_lt h]
theorem wb_of (x : Int64) : ∃ n, n < 2 ^ 64 ∧ x = lN n := ⟨x.toBitVec.toNat, x.toBitVec.isLt, wb_inj (by rw [wb_tb]; simp)⟩
theorem wb_cu : ∀ k, k < 64 → ((nI k).toInt64.toUInt64 &&& Int64.toUInt64 63) = UInt64.ofNat k := by decide +kernel
theorem wb_lt2 {a b : Nat} (h : a < b) : 2 ^ a < 2 ^ b := Nat.pow_lt_pow_right (by decide) h
theorem wb_and {a b : Nat} (ha : a < 2 ^ 64) (hb : b < 2 ^ 64) : lN a &&& lN b = lN (a &&& b) := by
  apply wb_inj
  rw [Int64.toBitVec_and, wb_tb, wb_tb, wb_tb]
  apply BitVec.eq_of_toNat_eq
  rw [BitVec.toNat_and, BitVec.toNat_ofNat, BitVec.toNat_ofNat, BitVec.toNat_ofNat, Nat.mod_eq_of_lt ha, Nat.mod_eq_of_lt hb, Nat.mod_eq_of_lt (Nat.and_lt_two_pow _ hb)]
theorem wb_mask {n k : Nat} (hn : n < 2 ^ 64) (hk : k < 64) : lN n &&& lN (2 ^ k - 1) = lN (n % 2 ^ k) := by
  rw [wb_and hn (by have := wb_lt2 hk; omega), Nat.and_two_pow_sub_one_eq_mod]
theorem wb_a1 {n : Nat} (hn : n < 2 ^ 64) : lN n &&& 1 = lN (n % 2) := wb_mask (k := 1) hn (by decide)
end
section
/-! ===== sums of ints, counts, the sorted list against the table ===== -/
def ic_sm (g : Nat → Int32) : Nat → Int32
  | 0 => 0
  | n + 1 => ic_sm g n + g n
theorem ic_sS (g : Nat → Int32) (n : Nat) : ic_sm g (n + 1) = ic_sm g n + g n := rfl
theorem ic_s0 {g : Nat → Int32} {n : Nat} (h : g n = 0) : ic_sm g n = ic_sm g (n + 1) := by
  rw [ic_sS, h, Int32.add_zero]
theorem ic_s1 {g : Nat → Int32} {n : Nat} {c : Int32} (h : g n = c) : ic_sm g n + c = ic_sm g (n + 1) := by
  rw [ic_sS, h]
theorem ic_smc {g h : Nat → Int32} : ∀ n, (∀ j, j < n → g j = h j) → ic_sm g n = ic_sm h n := by
  intro n
  induction n with
  | zero => intro _; rfl
  | succ n ih =>
    intro H
    rw [ic_sS, ic_sS, ih (fun j hj => H j (by omega)), H n (by omega)]
theorem ic_one (n : Nat) : ic_sm (fun _ => 1) n = nI n := by
  induction n with
  | zero => rfl
  | succ n ih => rw [ic_sS, ih, nI_1]
def ic_ct (P : Nat → Bool) : Nat → Nat
  | 0 => 0
  | n + 1 => ic_ct P n + (if P n = true then 1 else 0)
theorem ic_cS (P : Nat → Bool) (n : Nat) : ic_ct P (n + 1) = ic_ct P n + (if P n = true then 1 else 0) := rfl
theorem ic_c1 {P : Nat → Bool} {n : Nat} (h : P n = true) : ic_ct P (n + 1) = ic_ct P n + 1 := by
  rw [ic_cS, if_pos h]
theorem ic_c0 {P : Nat → Bool} {n : Nat} (h : P n = false) : ic_ct P (n + 1) = ic_ct P n := by
  rw [ic_cS, if_neg (by rw [h]; decide), Nat.add_zero]
theorem ic_cle (P : Nat → Bool) (n : Nat) : ic_ct P n ≤ n := by
  induction n with
  | zero => exact Nat.le_refl _
  | succ n ih => rw [ic_cS]; split <;> omega
theorem ic_cmono (P : Nat → Bool) (n : Nat) : ∀ d, ic_ct P n ≤ ic_ct P (n + d) := by
  intro d
  induction d with
  | zero => exact Nat.le_refl _
  | succ d ih =>
    have e : n + (d + 1) = (n + d) + 1 := by omega
    rw [e, ic_cS]; omega
theorem ic_cc {P Q : Nat → Bool} : ∀ n, (∀ j, j < n → P j = Q j) → ic_ct P n = ic_ct Q n := by
  intro n
  induction n with
  | zero => intro _; rfl
  | succ n ih =>
    intro H
    rw [ic_cS, ic_cS, ih (fun j hj => H j (by omega)), H n (by omega)]
theorem ic_cset {P Q : Nat → Bool} {j : Nat} (hp : P j = false) (hq : Q j = true) : ∀ n, j < n → (∀ i, i < n → i ≠ j → Q i = P i) → ic_ct Q n = ic_ct P n + 1 := by
  intro n
  induction n with
  | zero => intro h; omega
  | succ n ih =>
    intro hj H
    by_cases e : n = j
    · subst e
      rw [ic_c1 hq, ic_c0 hp, ic_cc n (fun i hi => H i (by omega) (by omega))]
    · rw [ic_cS, ic_cS, ih (by omega) (fun i hi => H i (by omega)), H n (by omega) e]
      omega
/-- the list f(0) < .. < f(n-1), all below m, is what h holds below m: a sum over the one is a sum over the other -/
theorem ic_br (h g : Nat → Int32) (f : Nat → Nat) : ∀ (m n : Nat), (∀ k, k < n → f k < m) → (∀ i j, i < j → j < n → f i < f j) → (∀ x, x < m → (¬ h x = 0 ↔ ∃ k, k < n ∧ f k = x)) → ic_sm (fun k => g (f k)) n = ic_sm (fun x => if h x = 0 then 0 else g x) m := by
  intro m
  induction m with
  | zero =>
    intro n hf _ _
    cases n with
    | zero => rfl
    | succ n => exact absurd (hf 0 (by omega)) (by omega)
  | succ m ih =>
    intro n hf hi hb
    by_cases z : h m = 0
    · have hf' : ∀ k, k < n → f k < m := fun k hk => by
        have h1 := hf k hk
        rcases Nat.lt_or_ge (f k) m with q | q
        · exact q
        · exact absurd z ((hb m (by omega)).mpr ⟨k, hk, by omega⟩)
      have e := ih n hf' hi (fun x hx => hb x (by omega))
      rw [e, ic_sS]
      rw [if_pos z, Int32.add_zero]
    · obtain ⟨k, hk, ek⟩ := (hb m (by omega)).mp z
      have hn : n = k + 1 := by
        rcases Nat.lt_or_ge (k + 1) n with q | q
        · have h1 := hi k (k + 1) (by omega) q
          have h2 := hf (k + 1) q
          omega
        · omega
      subst hn
      have e := ih k (fun j hj => by have h1 := hi j k hj (by omega); omega) (fun i j a b => hi i j a (by omega)) (fun x hx => by
        constructor
        · intro y
          obtain ⟨j, hj, ej⟩ := (hb x (by omega)).mp y
          refine ⟨j, ?_, ej⟩
          rcases Nat.lt_or_ge j k with q | q
          · exact q
          · have : j = k := by omega
            subst this
            omega
        · intro ⟨j, hj, ej⟩
          exact (hb x (by omega)).mpr ⟨j, by omega, ej⟩)
      rw [ic_sS, ic_sS, e, ek, if_neg z]
/-- the same up to the list's place k -/
theorem ic_brp (h g : Nat → Int32) (f : Nat → Nat) {m n : Nat} (hf : ∀ k, k < n → f k < m) (hi : ∀ i j, i < j → j < n → f i < f j) (hb : ∀ x, x < m → (¬ h x = 0 ↔ ∃ k, k < n ∧ f k = x)) {k : Nat} (hk : k < n) : ic_sm (fun k => g (f k)) k = ic_sm (fun x => if h x = 0 then 0 else g x) (f k) := by
  have hfk := hf k hk
  refine ic_br h g f (f k) k (fun j hj => hi j k hj hk) (fun i j a b => hi i j a (by omega)) (fun x hx => ?_)
  constructor
  · intro y
    obtain ⟨j, hj, ej⟩ := (hb x (by omega)).mp y
    refine ⟨j, ?_, ej⟩
    rcases Nat.lt_or_ge j k with q | q
    · exact q
    · rcases Nat.lt_or_ge k j with q2 | q2
      · have h1 := hi k j q2 hj
        omega
      · have : j = k := by omega
        subst this
        omega
  · intro ⟨j, hj, ej⟩
    exact (hb x (by omega)).mpr ⟨j, by omega, ej⟩
/-! fill, shift -/
def ic_fi (g : Nat → Int32) (lo hi : Nat) (h : Nat → Int32) : Nat → Int32 := fun j => if lo ≤ j ∧ j < hi then h j else g j
theorem ic_fi0 (g h : Nat → Int32) (lo : Nat) : ic_fi g lo lo h = g := by
  funext j
  exact if_neg (by omega)
theorem ic_fiS {g h : Nat → Int32} {lo hi : Nat} {x : Int32} (hl : lo ≤ hi) (hx : x = h hi) : upd (ic_fi g lo hi h) hi x = ic_fi g lo (hi + 1) h := by
  subst hx
  funext j
  unfold upd ic_fi
  by_cases e : j = hi
  · subst e
    rw [if_pos rfl, if_pos (by omega)]
  · rw [if_neg e]
    by_cases c : lo ≤ j ∧ j < hi
    · rw [if_pos c, if_pos (by omega)]
    · rw [if_neg c, if_neg (by omega)]
theorem ic_fi_in {g h : Nat → Int32} {lo hi j : Nat} (h1 : lo ≤ j) (h2 : j < hi) : ic_fi g lo hi h j = h j := if_pos ⟨h1, h2⟩
theorem ic_fi_out {g h : Nat → Int32} {lo hi j : Nat} (h1 : j < lo ∨ hi ≤ j) : ic_fi g lo hi h j = g j := if_neg (by omega)
def ic_sR (g : Nat → Int32) (lo hi : Nat) : Nat → Int32 := fun j => if lo < j ∧ j ≤ hi then g (j - 1) else g j
theorem ic_sR0 (g : Nat → Int32) (lo : Nat) : ic_sR g lo lo = g := by
  funext j
  exact if_neg (by omega)
theorem ic_sRS {g : Nat → Int32} {lo hi : Nat} (hl : lo < hi) : upd (ic_sR g (lo + 1) hi) (lo + 1) (ic_sR g (lo + 1) hi lo) = ic_sR g lo hi := by
  funext j
  unfold upd ic_sR
  by_cases e : j = lo + 1
  · subst e
    rw [if_pos rfl, if_neg (by omega), if_pos (by omega)]
    rfl
  · rw [if_neg e]
    by_cases c : lo + 1 < j ∧ j ≤ hi
    · rw [if_pos c, if_pos (by omega)]
    · rw [if_neg c, if_neg (by omega)]
theorem ic_sR_in {g : Nat → Int32} {lo hi j : Nat} (h1 : lo < j) (h2 : j ≤ hi) : ic_sR g lo hi j = g (j - 1) := if_pos ⟨h1, h2⟩
theorem ic_sR_out {g : Nat → Int32} {lo hi j : Nat} (h1 : j ≤ lo ∨ hi < j) : ic_sR g lo hi j = g j := if_neg (by omega)
def ic_sL (g : Nat → Int32) (lo hi : Nat) : Nat → Int32 := fun j => if lo ≤ j ∧ j + 1 < hi then g (j + 1) else g j
theorem ic_sL0 (g : Nat → Int32) (lo : Nat) : ic_sL g lo (lo + 1) = g := by
  funext j
  exact if_neg (by omega)
theorem ic_sLS {g : Nat → Int32} {lo hi : Nat} (hl : lo ≤ hi) : upd (ic_sL g lo (hi + 1)) hi (ic_sL g lo (hi + 1) (hi + 1)) = ic_sL g lo (hi + 2) := by
  funext j
  unfold upd ic_sL
  by_cases e : j = hi
  · subst e
    rw [if_pos rfl, if_neg (by omega), if_pos (by omega)]
  · rw [if_neg e]
    by_cases c : lo ≤ j ∧ j + 1 < hi + 1
    · rw [if_pos c, if_pos (by omega)]
    · rw [if_neg c, if_neg (by omega)]
theorem ic_sL_in {g : Nat → Int32} {lo hi j : Nat} (h1 : lo ≤ j) (h2 : j + 1 < hi) : ic_sL g lo hi j = g (j + 1) := if_pos ⟨h1, h2⟩
theorem ic_sL_out {g : Nat → Int32} {lo hi j : Nat} (h1 : j < lo ∨ hi ≤ j + 1) : ic_sL g lo hi j = g j := if_neg (by omega)
/-! ===== powers modulo 2039 ===== -/
def ic_sq (x : Nat) : Nat := (x + 1) * (x + 1) % 2039
theorem ic_ord : ∀ x, x < 64 → ic_sq x ^ 1019 % 2039 = 1 := by decide +kernel
theorem ic_sqi : ∀ x, x < 64 → ∀ y, y < 64 → ic_sq x = ic_sq y → x = y := by decide +kernel
theorem ic_inv0 : ∀ a, a < 32 → ∀ b, b < 32 → (32 * a + b = 0 ∨ 1019 ≤ 32 * a + b ∨ (32 * a + b) * ((32 * a + b) ^ 1017 % 1019) % 1019 = 1) := by decide +kernel
theorem ic_inv {e : Nat} (h0 : 1 ≤ e) (h1 : e ≤ 1018) : ∃ d m, e * d = 1019 * m + 1 := by
  have h := ic_inv0 (e / 32) (by omega) (e % 32) (by omega)
  have ee : 32 * (e / 32) + e % 32 = e := by omega
  rw [ee] at h
  rcases h with h | h | h
  · exact absurd h (by omega)
  · exact absurd h (by omega)
  · generalize e ^ 1017 % 1019 = d at h
    refine ⟨d, e * d / 1019, ?_⟩
    generalize e * d = q at h ⊢
    omega
def ic_gd (K : Nat) : Prop := ∀ u v : Nat, u ^ 1019 % 2039 = 1 → v ^ 1019 % 2039 = 1 → u ^ K % 2039 = v ^ K % 2039 → u % 2039 = v % 2039
theorem ic_p1 {w : Nat} (h : w ^ 1019 % 2039 = 1) (m : Nat) : (w ^ 1019) ^ m % 2039 = 1 := by
  have t := Nat.pow_mod (w ^ 1019) m 2039
  rw [h, Nat.one_pow] at t
  exact t
theorem ic_gd1 {e : Nat} (h0 : 1 ≤ e) (h1 : e ≤ 1018) : ic_gd e := by
  obtain ⟨d, m, hd⟩ := ic_inv h0 h1
  have key : ∀ w : Nat, w ^ 1019 % 2039 = 1 → (w ^ e % 2039) ^ d % 2039 = w % 2039 := by
    intro w hw
    rw [← Nat.pow_mod, ← Nat.pow_mul, hd, Nat.pow_succ, Nat.pow_mul, Nat.mul_mod, ic_p1 hw, Nat.one_mul, Nat.mod_mod]
  intro u v hu hv h
  rw [← key u hu, ← key v hv, h]
theorem ic_gdm {a b : Nat} (ha : ic_gd a) (hb : ic_gd b) : ic_gd (a * b) := by
  intro u v hu hv h
  have t : ∀ w : Nat, w ^ 1019 % 2039 = 1 → (w ^ a) ^ 1019 % 2039 = 1 := by
    intro w hw
    rw [← Nat.pow_mul, Nat.mul_comm, Nat.pow_mul]
    exact ic_p1 hw a
  rw [Nat.pow_mul, Nat.pow_mul] at h
  exact ha u v hu hv (hb _ _ (t u hu) (t v hv) h)
theorem ic_sqlt (x : Nat) : ic_sq x < 2039 := Nat.mod_lt _ (by decide)
theorem ic_key {K x y : Nat} (hK : ic_gd K) (hx : x < 64) (hy : y < 64) (h : ic_sq x ^ K % 2039 = ic_sq y ^ K % 2039) : x = y := by
  have t := hK _ _ (ic_ord x hx) (ic_ord y hy) h
  rw [Nat.mod_eq_of_lt (ic_sqlt x), Nat.mod_eq_of_lt (ic_sqlt y)] at t
  exact ic_sqi x hx y hy t
theorem ic_pp (s K e : Nat) : (s ^ K % 2039) ^ e % 2039 = s ^ (K * e) % 2039 := by
  rw [← Nat.pow_mod, ← Nat.pow_mul]
theorem ic_st0 {r s m : Nat} (hm : m % 2 = 0) : r * (s * s % 2039) ^ (m / 2) % 2039 = r * s ^ m % 2039 := by
  have e : s ^ m = (s * s) ^ (m / 2) := by
    have h : m = 2 * (m / 2) := by omega
    rw [← Nat.pow_two s, ← Nat.pow_mul, ← h]
  rw [e, Nat.mul_mod, ← Nat.pow_mod, ← Nat.mul_mod]
theorem ic_st1 {r s m : Nat} (hm : m % 2 = 1) : (r * s % 2039) * (s * s % 2039) ^ (m / 2) % 2039 = r * s ^ m % 2039 := by
  have e : s ^ m = s * (s * s) ^ (m / 2) := by
    have h : m = 2 * (m / 2) + 1 := by omega
    rw [← Nat.pow_two s, ← Nat.pow_mul, Nat.mul_comm s, ← Nat.pow_succ]
    exact congrArg (fun t => s ^ t) h
  rw [e, Nat.mul_mod, Nat.mod_mod, ← Nat.pow_mod, ← Nat.mul_mod, Nat.mul_assoc]
end
section
/-! ===== the party's list, the relation's pieces ===== -/
/-- party p's sorted list: n items f(0) < .. < f(n-1) -/
def ic_D (p n : Nat) (f : Nat → Nat) (it sz : Nat → Int32) : Prop :=
  n ≤ 16 ∧ sz p = nI n ∧ (∀ k, k < n → f k < 64 ∧ it (16 * p + k) = nI (f k)) ∧ (∀ i j, i < j → j < n → f i < f j)
/-- the reference's table of party p holds the same items -/
def ic_H (p n : Nat) (f : Nat → Nat) (hs : Nat → Int32) : Prop :=
  ∀ x, x < 64 → (¬ hs (64 * p + x) = 0 ↔ ∃ k, k < n ∧ f k = x)
def ic_W (p n : Nat) (f : Nat → Nat) (wt wg : Nat → Int32) : Prop :=
  ∀ k, k < n → wt (16 * p + k) = wg (64 * p + f k)
def ic_L (p : Nat) (it wt sz hs wg : Nat → Int32) : Prop :=
  ∃ (n : Nat) (f : Nat → Nat), ic_D p n f it sz ∧ ic_H p n f hs ∧ ic_W p n f wt wg
def ic_R (it wt sz hs wg : Nat → Int32) : Prop := ∀ l, l < 3 → ic_L l it wt sz hs wg
def ic_E (ex : Nat → Int32) : Prop := ∀ l, l < 3 → ∃ e : Nat, 1 ≤ e ∧ e ≤ 1018 ∧ ex l = nI e
/-- the relation at the head of a turn -/
def i_Rel (_ : Nat) (u : SX) (v : SY) : Prop :=
  match u, v with
  | (_, lt, it, wt, sz, ex, _, _, _), (ys, hs, wg) => lt = ys ∧ ic_R it wt sz hs wg ∧ ic_E ex
theorem i_up {k : Nat} {u : SX} {v : SY} (h : i_Rel k u v) : i_Rel (k + 4) u v := h
theorem ic_Lc {p : Nat} {it wt sz hs wg it' wt' sz' hs' wg' : Nat → Int32} (h : ic_L p it wt sz hs wg) (e1 : ∀ j, 16 * p ≤ j → j < 16 * p + 16 → it' j = it j ∧ wt' j = wt j) (e2 : sz' p = sz p) (e3 : ∀ j, 64 * p ≤ j → j < 64 * p + 64 → hs' j = hs j ∧ wg' j = wg j) : ic_L p it' wt' sz' hs' wg' := by
  obtain ⟨n, f, ⟨hn, hz, hf, hi⟩, hh, hw⟩ := h
  refine ⟨n, f, ⟨hn, by rw [e2, hz], fun k hk => ⟨(hf k hk).1, ?_⟩, hi⟩, fun x hx => ?_, fun k hk => ?_⟩
  · rw [(e1 (16 * p + k) (by omega) (by omega)).1, (hf k hk).2]
  · rw [(e3 (64 * p + x) (by omega) (by omega)).1]
    exact hh x hx
  · have := (hf k hk).1
    rw [(e1 (16 * p + k) (by omega) (by omega)).2, (e3 (64 * p + f k) (by omega) (by omega)).2]
    exact hw k hk
/-! numbers -/
theorem ic_n16 (p : Nat) : (16 : Int32) * nI p = nI (16 * p) := pk_mul 16 p
theorem ic_n64 (p i : Nat) : (64 : Int32) * nI p + nI i = nI (64 * p + i) := by
  have h : (64 : Int32) * nI p = nI (64 * p) := pk_mul 64 p
  rw [h, nI_add]
theorem ic_c64 {p i : Nat} (hp : p < 3) (hi : i < 64) : ((64 : Int32) * nI p + nI i).toNatClampNeg = 64 * p + i := by
  rw [ic_n64, nI_clamp (by omega)]
theorem ic_i64 {p i : Nat} (hp : p < 3) (hi : i < 64) : vp_in ((64 : Int32) * nI p + nI i) 192 := by
  rw [ic_n64]; exact vp_in_nI (by omega) (by decide)
theorem ic_in3 {p : Nat} (hp : p < 3) : vp_in (nI p) 3 := vp_in_nI hp (by decide)
theorem ic_cl3 {p : Nat} (hp : p < 3) : (nI p).toNatClampNeg = p := nI_clamp (by omega)
theorem ic_ge64 {i : Nat} (h : i < 64) : ¬ (64 : Int32) ≤ nI i := nI_ge (b := 64) h (by decide)
theorem ic_le64 : (64 : Int32) ≤ nI 64 := nI_le (a := 64) (by decide) (by decide)
theorem ic_ge3 {i : Nat} (h : i < 3) : ¬ (3 : Int32) ≤ nI i := nI_ge (b := 3) h (by decide)
theorem ic_ge16 {i : Nat} (h : i < 16) : ¬ (16 : Int32) ≤ nI i := nI_ge (b := 16) h (by decide)
/-- a party or not -/
theorem ic_pc (v : Int32) : (∃ p, p < 3 ∧ v = nI p) ∨ (v < 0 ∨ 2 < v) := by
  by_cases h : v < 0
  · exact Or.inr (Or.inl h)
  · by_cases h2 : 2 < v
    · exact Or.inr (Or.inr h2)
    · obtain ⟨j, hj, e⟩ := nI_of2 (M := 2) (n := 2) (by decide) h (Int32.not_lt.mp h2)
      exact Or.inl ⟨j, by omega, e⟩
theorem ic_xc (v : Int32) : (∃ x, x < 64 ∧ v = nI x) ∨ (v < 0 ∨ 63 < v) := by
  by_cases h : v < 0
  · exact Or.inr (Or.inl h)
  · by_cases h2 : 63 < v
    · exact Or.inr (Or.inr h2)
    · obtain ⟨j, hj, e⟩ := nI_of2 (M := 63) (n := 63) (by decide) h (Int32.not_lt.mp h2)
      exact Or.inl ⟨j, by omega, e⟩
/-! ===== isParty, bad, isItem, badItem with the branch behind them ===== -/
theorem ix_pt {A B : Prop} {p : Nat} (hp : p < 3) (h : B) : wpX_isParty (fun r => (r = 0 → A) ∧ (¬ r = 0 → B)) (nI p) :=
  br_f (nI_pos (by omega)) (br_f (nI_nlt (b := p) (a := 2) (by omega) (by decide)) (br_f (by decide) h))
theorem ix_pf {A B : Prop} {v : Int32} (hv : v < 0 ∨ 2 < v) (h : A) : wpX_isParty (fun r => (r = 0 → A) ∧ (¬ r = 0 → B)) v := by
  by_cases h0 : v < 0
  · exact br_t h0 (br_t rfl h)
  · exact br_f h0 (br_t (hv.resolve_left h0) (br_t rfl h))
theorem iy_pt {A B : Prop} {p : Nat} {u : SY} (hp : p < 3) (h : A) : wpY_bad (fun r => (r = 0 → A) ∧ (¬ r = 0 → B)) u (nI p) := by
  obtain ⟨ys, hs, wg⟩ := u
  exact br_f (nI_pos (by omega)) (br_t (nI_le (a := p) (b := 2) (by omega) (by decide)) (br_t rfl h))
theorem iy_pf {A B : Prop} {v : Int32} {u : SY} (hv : v < 0 ∨ 2 < v) (h : B) : wpY_bad (fun r => (r = 0 → A) ∧ (¬ r = 0 → B)) u v := by
  obtain ⟨ys, hs, wg⟩ := u
  by_cases h0 : v < 0
  · exact br_t h0 (br_f (by decide) h)
  · exact br_f h0 (br_f (Int32.not_le.mpr (hv.resolve_left h0)) (br_f (by decide) h))
theorem ix_it {A B : Prop} {x : Nat} (hx : x < 64) (h : B) : wpX_isItem (fun r => (r = 0 → A) ∧ (¬ r = 0 → B)) (nI x) :=
  br_f (nI_pos (by omega)) (br_f (ic_ge64 hx) (br_f (by decide) h))
theorem ic_63 {v : Int32} (h : 63 < v) : (64 : Int32) ≤ v := by
  rw [Int32.lt_iff_toInt_lt] at h
  rw [Int32.le_iff_toInt_le]
  have h1 : (63 : Int32).toInt = 63 := by decide
  have h2 : (64 : Int32).toInt = 64 := by decide
  omega
theorem ix_if {A B : Prop} {v : Int32} (hv : v < 0 ∨ 63 < v) (h : A) : wpX_isItem (fun r => (r = 0 → A) ∧ (¬ r = 0 → B)) v := by
  by_cases h0 : v < 0
  · exact br_t h0 (br_t rfl h)
  · exact br_f h0 (br_t (ic_63 (hv.resolve_left h0)) (br_t rfl h))
theorem iy_it {A B : Prop} {x : Nat} {u : SY} (hx : x < 64) (h : A) : wpY_badItem (fun r => (r = 0 → A) ∧ (¬ r = 0 → B)) u (nI x) := by
  obtain ⟨ys, hs, wg⟩ := u
  exact br_f (nI_pos (by omega)) (br_t (nI_le (a := x) (b := 63) (by omega) (by decide)) (br_t rfl h))
theorem iy_if {A B : Prop} {v : Int32} {u : SY} (hv : v < 0 ∨ 63 < v) (h : B) : wpY_badItem (fun r => (r = 0 → A) ∧ (¬ r = 0 → B)) u v := by
  obtain ⟨ys, hs, wg⟩ := u
  by_cases h0 : v < 0
  · exact br_t h0 (br_f (by decide) h)
  · exact br_f h0 (br_f (Int32.not_le.mpr (hv.resolve_left h0)) (br_f (by decide) h))
/-! ===== loop laws ===== -/
/-- a loop that sums: fuel, sum, counter -/
theorem ic_lp (W : Nat → Int32 → Int32 → Prop) (g : Nat → Int32) (N : Nat) (hx : ∀ n, W (n + 1) (ic_sm g N) (nI N)) (hs : ∀ n i, i < N → W n (ic_sm g (i + 1)) (nI (i + 1)) → W (n + 1) (ic_sm g i) (nI i)) : ∃ n, W n 0 0 := by
  have key : ∀ d i, i + d = N → W (d + 1) (ic_sm g i) (nI i) := by
    intro d
    induction d with
    | zero =>
      intro i hi
      have e : i = N := by omega
      subst e
      exact hx 0
    | succ d ih =>
      intro i hi
      exact hs (d + 1) i (by omega) (ih (i + 1) (by omega))
  exact ⟨N + 1, key N 0 (by omega)⟩
/-! ===== the reference's own helpers ===== -/
/-- whether party p holds x, as 0 or 1 -/
def ic_b (hs : Nat → Int32) (p x : Nat) : Int32 := if hs (64 * p + x) = 0 then 0 else 1
def ic_b2 (hs : Nat → Int32) (p q x : Nat) : Int32 := if hs (64 * p + x) = 0 then 0 else ic_b hs q x
section
variable {post : Int32 → Prop} {ys : Int32} {hs wg : Nat → Int32} {p q : Nat}
theorem iy_size (hp : p < 3) (H : post (ic_sm (ic_b hs p) 64)) : wpY_size post (ys, hs, wg) (nI p) := by
  refine ic_lp (fun n a c => wY_size_4 post (nI p) ys hs wg n a c) (ic_b hs p) 64 (fun n => br_t ic_le64 H) (fun n i hi ih => ?_)
  refine br_f (ic_ge64 hi) ⟨ic_i64 hp hi, ?_⟩
  rw [ic_c64 hp hi]
  refine br_c (fun z => nm_r (nI_1 i) ?_) (fun z => nm_r (ic_s1 (g := ic_b hs p) (n := i) (if_neg z)) (nm_r (nI_1 i) ih))
  have e : ic_b hs p i = 0 := if_pos z
  rw [ic_s0 (n := i) e]
  exact ih
theorem iy_shared (hp : p < 3) (hq : q < 3) (H : post (ic_sm (ic_b2 hs p q) 64)) : wpY_shared post (ys, hs, wg) (nI p) (nI q) := by
  refine ic_lp (fun n a c => wY_shared_5 post (nI p) (nI q) ys hs wg n a c) (ic_b2 hs p q) 64 (fun n => br_t ic_le64 H) (fun n i hi ih => ?_)
  refine br_f (ic_ge64 hi) ⟨ic_i64 hp hi, ?_⟩
  rw [ic_c64 hp hi]
  refine br_c (fun z => nm_r (nI_1 i) ?_) (fun z => ⟨ic_i64 hq hi, ?_⟩)
  · have e : ic_b2 hs p q i = 0 := if_pos z
    rw [ic_s0 (n := i) e]
    exact ih
  · rw [ic_c64 hq hi]
    refine br_c (fun z2 => nm_r (nI_1 i) ?_) (fun z2 => nm_r (ic_s1 (g := ic_b2 hs p q) (n := i) ?_) (nm_r (nI_1 i) ih))
    · have e : ic_b2 hs p q i = 0 := by rw [ic_b2, if_neg z, ic_b, if_pos z2]
      rw [ic_s0 (n := i) e]
      exact ih
    · rw [ic_b2, if_neg z, ic_b, if_neg z2]
def ic_ho (hs : Nat → Int32) (x : Nat) : Int32 := ic_sm (fun l => ic_b hs l x) 3
theorem iy_holders {x : Nat} (hx : x < 64) (H : post (ic_ho hs x)) : wpY_holders post (ys, hs, wg) (nI x) := by
  refine ic_lp (fun n a c => wY_holders_4 post (nI x) ys hs wg n a c) (fun l => ic_b hs l x) 3 (fun n => br_t (nI_le (a := 3) (b := 3) (by decide) (by decide)) H) (fun n i hi ih => ?_)
  refine br_f (ic_ge3 hi) ⟨ic_i64 hi hx, ?_⟩
  rw [ic_c64 hi hx]
  refine br_c (fun z => nm_r (nI_1 i) ?_) (fun z => nm_r (ic_s1 (g := fun l => ic_b hs l x) (n := i) (if_neg z)) (nm_r (nI_1 i) ih))
  have e : (fun l => ic_b hs l x) i = 0 := if_pos z
  rw [ic_s0 (g := fun l => ic_b hs l x) (n := i) e]
  exact ih
def ic_hb (hs : Nat → Int32) (k : Int32) (x : Nat) : Int32 := if ic_ho hs x = k then 1 else 0
theorem iy_heldBy {k : Int32} (H : post (ic_sm (ic_hb hs k) 64)) : wpY_heldBy post (ys, hs, wg) k := by
  refine ic_lp (fun n a c => wY_heldBy_4 post k ys hs wg n a c) (ic_hb hs k) 64 (fun n => br_t ic_le64 H) (fun n i hi ih => ?_)
  refine br_f (ic_ge64 hi) (iy_holders hi ?_)
  refine br_c (fun z => nm_r (ic_s1 (g := ic_hb hs k) (n := i) (if_pos z)) (nm_r (nI_1 i) ih)) (fun z => nm_r (nI_1 i) ?_)
  have e : ic_hb hs k i = 0 := if_neg z
  rw [ic_s0 (n := i) e]
  exact ih
end
end
section
/-! ===== the component's lists: find, insert, take ===== -/
section
variable {rd lt : Int32} {it wt sz ex sn og ht : Nat → Int32} {p n : Nat} {f : Nat → Nat}
theorem ic_end (hp : p < 3) (es : sz p = nI n) : (16 : Int32) * nI p + sz (nI p).toNatClampNeg = nI (16 * p + n) := by
  rw [ic_cl3 hp, es, ic_n16, nI_add]
theorem ix_find {post : Int32 → Prop} {x : Nat} (hp : p < 3) (hx : x < 64) (D : ic_D p n f it sz) (h1 : ∀ k, k < n → f k = x → post (nI (16 * p + k))) (h0 : (∀ k, k < n → f k ≠ x) → post (-1)) : wpX_find post (rd, lt, it, wt, sz, ex, sn, og, ht) (nI p) (nI x) := by
  obtain ⟨hn, es, hf, hi⟩ := D
  have key : ∀ d i, i + d = n → (∀ k, k < i → f k ≠ x) → wX_find_5 post (nI p) (nI x) rd lt it wt sz ex sn og ht (d + 1) (nI (16 * p + i)) := by
    intro d
    induction d with
    | zero =>
      intro i e hne
      have e2 : i = n := by omega
      subst e2
      refine ⟨ic_in3 hp, ?_⟩
      rw [ic_end hp es]
      exact br_t (nI_le (Nat.le_refl _) (by omega)) (h0 hne)
    | succ d ih =>
      intro i e hne
      refine ⟨ic_in3 hp, ?_⟩
      rw [ic_end hp es]
      refine br_f (nI_ge (by omega) (by omega)) ⟨vp_in_nI (by omega) (by decide), ?_⟩
      rw [nI_clamp (n := 16 * p + i) (by omega), (hf i (by omega)).2]
      have hfi := (hf i (by omega)).1
      refine pk_eq (f i) x (fun z => h1 i (by omega) z) (fun z => nm_r (nI_1 (16 * p + i)) (ih (i + 1) (by omega) (fun k hk => ?_))) rfl rfl (by omega) (by omega)
      by_cases c : k = i
      · subst c; exact z
      · exact hne k (by omega)
  exact nm_r (ic_n16 p) ⟨n + 1, key n 0 (by omega) (fun k hk => absurd hk (by omega))⟩
/-- the place where x belongs -/
theorem ic_place (x : Nat) : ∀ n, (∀ i j, i < j → j < n → f i < f j) → (∀ k, k < n → f k ≠ x) → ∃ a, a ≤ n ∧ (∀ k, k < a → f k < x) ∧ (∀ k, a ≤ k → k < n → x < f k) := by
  intro n
  induction n with
  | zero => intro _ _; exact ⟨0, Nat.le_refl _, fun k hk => absurd hk (by omega), fun k _ hk => absurd hk (by omega)⟩
  | succ n ih =>
    intro hi hne
    obtain ⟨a, ha, h1, h2⟩ := ih (fun i j a b => hi i j a (by omega)) (fun k hk => hne k (by omega))
    have hn := hne n (by omega)
    by_cases c : f n < x
    · refine ⟨n + 1, Nat.le_refl _, fun k hk => ?_, fun k h3 h4 => absurd h4 (by omega)⟩
      by_cases e : k = n
      · subst e; exact c
      · have := hi k n (by omega) (by omega)
        omega
    · refine ⟨a, by omega, h1, fun k h3 h4 => ?_⟩
      by_cases e : k = n
      · subst e; omega
      · exact h2 k h3 (by omega)
theorem ix_insert {post : Int32 → SX → Prop} {x a : Nat} (hp : p < 3) (hx : x < 64) (D : ic_D p n f it sz) (hn : n < 16) (ha : a ≤ n) (hl : ∀ k, k < a → f k < x) (hg : ∀ k, a ≤ k → k < n → x < f k)
    (H : post (nI (16 * p + a)) (rd, lt, upd (ic_sR it (16 * p + a) (16 * p + n)) (16 * p + a) (nI x), ic_sR wt (16 * p + a) (16 * p + n), upd sz p (nI (n + 1)), ex, sn, og, ht)) :
    wpX_insert post (rd, lt, it, wt, sz, ex, sn, og, ht) (nI p) (nI x) := by
  obtain ⟨_, es, hf, hi⟩ := D
  have last : wX_insert_66 post (nI p) (nI x) (nI (16 * p + a)) rd lt (ic_sR it (16 * p + a) (16 * p + n)) (ic_sR wt (16 * p + a) (16 * p + n)) sz ex sn og ht := by
    refine ⟨vp_in_nI (by omega) (by decide), ?_⟩
    rw [nI_clamp (n := 16 * p + a) (by omega), ic_cl3 hp, es, nI_1]
    exact nm_e ⟨ic_in3 hp, ic_in3 hp, nm_e H⟩
  have key : ∀ d i, i = a + d → i ≤ n → wX_insert_12 post (nI p) (nI x) rd lt (d + 1) (nI (16 * p + i)) (ic_sR it (16 * p + i) (16 * p + n)) (ic_sR wt (16 * p + i) (16 * p + n)) sz ex sn og ht := by
    intro d
    induction d with
    | zero =>
      intro i e hin
      have e2 : i = a := by omega
      subst e2
      by_cases c : i = 0
      · refine br_t ?_ last
        rw [ic_n16]
        exact nI_le (by omega) (by omega)
      · have em : nI (16 * p + i) - 1 = nI (16 * p + (i - 1)) := by
          have : 16 * p + i = (16 * p + (i - 1)) + 1 := by omega
          rw [this, nI_pred]
        refine br_f ?_ ⟨?_, ?_⟩
        · rw [ic_n16]
          exact nI_ge (by omega) (by omega)
        · rw [em]; exact vp_in_nI (by omega) (by decide)
        · have hfi := hl (i - 1) (by omega)
          refine br_t ?_ last
          rw [em, nI_clamp (by omega), ic_sR_out (by omega), (hf (i - 1) (by omega)).2]
          exact nI_le (by omega) (by omega)
    | succ d ih =>
      intro i e hin
      obtain ⟨j, rfl⟩ : ∃ j, i = j + 1 := ⟨i - 1, by omega⟩
      have em : nI (16 * p + (j + 1)) - 1 = nI (16 * p + j) := nI_pred (16 * p + j)
      have vj : vp_in (nI (16 * p + (j + 1)) - 1) 48 := by rw [em]; exact vp_in_nI (by omega) (by decide)
      have vi : vp_in (nI (16 * p + (j + 1))) 48 := vp_in_nI (by omega) (by decide)
      have ci : (nI (16 * p + (j + 1))).toNatClampNeg = 16 * p + j + 1 := nI_clamp (by omega)
      have cj : (nI (16 * p + (j + 1)) - 1).toNatClampNeg = 16 * p + j := by rw [em]; exact nI_clamp (by omega)
      have hfj := hg j (by omega) (by omega)
      have hfj2 := (hf j (by omega)).1
      refine br_f ?_ ⟨vj, br_f ?_ ⟨vj, vi, ?_⟩⟩
      · rw [ic_n16]
        exact nI_ge (by omega) (by omega)
      · rw [cj, ic_sR_out (by omega), (hf j (by omega)).2]
        exact nI_ge (by omega) (by omega)
      · rw [ci, cj]
        refine nm_r (ic_sRS (lo := 16 * p + j) (hi := 16 * p + n) (by omega)) ⟨vj, vi, nm_r (ic_sRS (lo := 16 * p + j) (hi := 16 * p + n) (by omega)) (nm_r (pk_m1 (16 * p + j)) (ih j (by omega) (by omega)))⟩
  have k0 := key (n - a) n (by omega) (Nat.le_refl _)
  rw [ic_sR0, ic_sR0] at k0
  exact ⟨ic_in3 hp, nm_r (ic_end hp es) ⟨n - a + 1, k0⟩⟩
theorem ix_take_51 {post : Int32 → SX → Prop} {a : Nat} (hp : p < 3) (es : sz p = nI n) (hn : n ≤ 16) (ha : a < n)
    (H : post (nI (n - 1)) (rd, lt, ic_sL it (16 * p + a) (16 * p + n), ic_sL wt (16 * p + a) (16 * p + n), upd sz p (nI (n - 1)), ex, sn, og, ht)) :
    ∃ m, wX_take_51 post (nI p) (nI (16 * p + n)) rd lt m (nI (16 * p + a) + 1) it wt sz ex sn og ht := by
  have key : ∀ d i, i + 1 + d = n → a ≤ i → wX_take_51 post (nI p) (nI (16 * p + n)) rd lt (d + 1) (nI (16 * p + i + 1)) (ic_sL it (16 * p + a) (16 * p + i + 1)) (ic_sL wt (16 * p + a) (16 * p + i + 1)) sz ex sn og ht := by
    intro d
    induction d with
    | zero =>
      intro i e hai
      have e2 : 16 * p + i + 1 = 16 * p + n := by omega
      rw [e2]
      refine br_t (nI_le (Nat.le_refl _) (by omega)) ⟨ic_in3 hp, ic_in3 hp, ?_⟩
      have e3 : nI n - 1 = nI (n - 1) := pk_sub (b := 1) (by omega)
      rw [ic_cl3 hp, es, e3]
      refine nm_e ⟨ic_in3 hp, ?_⟩
      rw [pk_us]
      exact H
    | succ d ih =>
      intro i e hai
      have em : nI (16 * p + i + 1) - 1 = nI (16 * p + i) := nI_pred (16 * p + i)
      have vj : vp_in (nI (16 * p + i + 1) - 1) 48 := by rw [em]; exact vp_in_nI (by omega) (by decide)
      have vi : vp_in (nI (16 * p + i + 1)) 48 := vp_in_nI (by omega) (by decide)
      have ci : (nI (16 * p + i + 1)).toNatClampNeg = 16 * p + i + 1 := nI_clamp (by omega)
      have cj : (nI (16 * p + i + 1) - 1).toNatClampNeg = 16 * p + i := by rw [em]; exact nI_clamp (by omega)
      refine br_f (nI_ge (by omega) (by omega)) ⟨vi, vj, ?_⟩
      rw [ci, cj]
      exact nm_r (ic_sLS (by omega)) ⟨vi, vj, nm_r (ic_sLS (by omega)) (nm_r (nI_1 (16 * p + i + 1)) (ih (i + 1) (by omega) (by omega)))⟩
  have k0 := key (n - a - 1) a (by omega) (Nat.le_refl _)
  rw [ic_sL0, ic_sL0] at k0
  rw [nI_1]
  exact ⟨_, k0⟩
end
end
section
/-! ===== power, next, send, raise, isSent, hits ===== -/
theorem ic_prd {a b : Nat} (ha : a < 2039) (hb : b < 2039) : nI a * nI b - nI a * nI b / 2039 * 2039 = nI (a * b % 2039) := by
  have h : a * b ≤ 2038 * 2038 := Nat.mul_le_mul (by omega) (by omega)
  rw [pk_mul]
  exact pk_rem (d := 2039) (by omega) (by decide) (by decide)
theorem ic_tst {e i : Nat} (he : e < 1024) (hi : i < 10) : (nI e >>> (nI i &&& 31)) &&& 1 = nI (e / 2 ^ i % 2) := by
  have h1 : e / 2 ^ i ≤ e := Nat.div_le_self _ _
  rw [pk_shrN (by omega) (nI i &&& 31) i (s_l i (by omega))]
  exact pk_andN (by omega) 1 (by decide)
theorem ix_power {post : Int32 → Prop} {b e : Nat} (hb : b < 2 ^ 31) (he : e < 1024) (H : post (nI (b ^ e % 2039))) : wpX_power post (nI b) (nI e) := by
  have key : ∀ d i r s, i + d = 10 → r < 2039 → s < 2039 → r * s ^ (e / 2 ^ i) % 2039 = b ^ e % 2039 → wX_power_11 post (nI e) (d + 1) (nI r) (nI s) (nI i) := by
    intro d
    induction d with
    | zero =>
      intro i r s hi hr hs hq
      have e2 : i = 10 := by omega
      subst e2
      have e3 : e / 2 ^ 10 = 0 := Nat.div_eq_of_lt he
      rw [e3, Nat.pow_zero, Nat.mul_one, Nat.mod_eq_of_lt hr] at hq
      refine br_t (nI_le (a := 10) (b := 10) (by decide) (by decide)) ?_
      rw [hq]
      exact H
    | succ d ih =>
      intro i r s hi hr hs hq
      have e3 : e / 2 ^ (i + 1) = e / 2 ^ i / 2 := by rw [Nat.pow_succ, Nat.div_div_eq_div_mul]
      refine br_f (nI_ge (b := 10) (by omega) (by decide)) ?_
      rw [ic_tst he (by omega)]
      have hm : e / 2 ^ i % 2 < 2 := Nat.mod_lt _ (by decide)
      refine pk_eq (e / 2 ^ i % 2) 1 (fun z => ?_) (fun z => ?_) rfl rfl (by omega) (by decide)
      · refine ⟨by decide, nm_r (ic_prd hr hs) ⟨by decide, nm_r (ic_prd hs hs) (nm_r (nI_1 i) (ih (i + 1) _ _ (by omega) (Nat.mod_lt _ (by decide)) (Nat.mod_lt _ (by decide)) ?_))⟩⟩
        rw [e3, ic_st1 z]
        exact hq
      · refine ⟨by decide, nm_r (ic_prd hs hs) (nm_r (nI_1 i) (ih (i + 1) _ _ (by omega) hr (Nat.mod_lt _ (by decide)) ?_))⟩
        rw [e3, ic_st0 (by omega)]
        exact hq
  refine ⟨by decide, nm_r (pk_rem (d := 2039) hb (by decide) (by decide)) ⟨11, key 10 0 1 (b % 2039) rfl (by decide) (Nat.mod_lt _ (by decide)) ?_⟩⟩
  rw [Nat.pow_zero, Nat.div_one, Nat.one_mul, ← Nat.pow_mod]
section
variable {rd lt : Int32} {it wt sz ex sn og ht : Nat → Int32}
theorem ix_next {post : Int32 → SX → Prop} {m : Nat} (h0 : 0 < m) (hm : m < 2 ^ 31) (H : ∀ rd' r, r < m → post (nI r) (rd', lt, it, wt, sz, ex, sn, og, ht)) : wpX_next post (rd, lt, it, wt, sz, ex, sn, og, ht) (nI m) := by
  intro rd' _ x2 ex2
  obtain ⟨j, hj, ej⟩ := pk_andE ((rd'.toUInt32 >>> ((16 : Int32).toUInt32 &&& Int32.toUInt32 31)).toInt32) (m := 32767) 15 (by decide)
  rw [ej] at ex2
  subst ex2
  refine br_f (nI_nle h0 hm) ⟨nI_ne0 h0 hm, ?_⟩
  rw [pk_rem (by omega) h0 hm]
  exact H rd' _ (Nat.mod_lt _ h0)
/-- a party's list as it is sent: places b .. b+n-1 hold V(s) with origin s, each s once or more -/
def ic_S (b n : Nat) (V : Nat → Nat) (sn og : Nat → Int32) : Prop :=
  (∀ k, k < n → ∃ s, s < n ∧ og (b + k) = nI s ∧ sn (b + k) = nI (V s)) ∧ (∀ s, s < n → ∃ k, k < n ∧ og (b + k) = nI s ∧ sn (b + k) = nI (V s))
theorem ic_Sc {b n : Nat} {V : Nat → Nat} {sn og sn' og' : Nat → Int32} (h : ic_S b n V sn og) (e : ∀ j, b ≤ j → j < b + n → sn' j = sn j ∧ og' j = og j) : ic_S b n V sn' og' := by
  refine ⟨fun k hk => ?_, fun s hs => ?_⟩
  · obtain ⟨s, a1, a2, a3⟩ := h.1 k hk
    have t := e (b + k) (by omega) (by omega)
    exact ⟨s, a1, by rw [t.2, a2], by rw [t.1, a3]⟩
  · obtain ⟨k, a1, a2, a3⟩ := h.2 s hs
    have t := e (b + k) (by omega) (by omega)
    exact ⟨k, a1, by rw [t.2, a2], by rw [t.1, a3]⟩
def ic_tr (i j k : Nat) : Nat := if k = j then i else if k = i then j else k
theorem ic_tr_lt {i j k n : Nat} (hi : i < n) (hj : j < n) (hk : k < n) : ic_tr i j k < n := by
  unfold ic_tr
  split
  · exact hi
  · split
    · exact hj
    · exact hk
theorem ic_tr2 (i j k : Nat) : ic_tr i j (ic_tr i j k) = k := by
  unfold ic_tr
  by_cases h1 : k = j
  · subst h1
    rw [if_pos rfl]
    by_cases h2 : i = k
    · rw [if_pos h2]; exact h2
    · rw [if_neg h2, if_pos rfl]
  · rw [if_neg h1]
    by_cases h2 : k = i
    · subst h2
      rw [if_pos rfl, if_pos rfl]
    · rw [if_neg h2, if_neg h1, if_neg h2]
theorem ic_sw (a : Nat → Int32) (b i j k : Nat) : upd (upd a (b + i) (a (b + j))) (b + j) (a (b + i)) (b + k) = a (b + ic_tr i j k) := by
  unfold upd ic_tr
  by_cases h1 : k = j
  · subst h1
    rw [if_pos rfl, if_pos rfl]
  · rw [if_neg (by omega), if_neg h1]
    by_cases h2 : k = i
    · subst h2
      rw [if_pos rfl, if_pos rfl]
    · rw [if_neg (by omega), if_neg h2]
theorem ic_Sw {b n i j : Nat} {V : Nat → Nat} (h : ic_S b n V sn og) (hi : i < n) (hj : j < n) : ic_S b n V (upd (upd sn (b + i) (sn (b + j))) (b + j) (sn (b + i))) (upd (upd og (b + i) (og (b + j))) (b + j) (og (b + i))) := by
  refine ⟨fun k hk => ?_, fun s hs => ?_⟩
  · obtain ⟨s, a1, a2, a3⟩ := h.1 (ic_tr i j k) (ic_tr_lt hi hj hk)
    exact ⟨s, a1, by rw [ic_sw, a2], by rw [ic_sw, a3]⟩
  · obtain ⟨k, a1, a2, a3⟩ := h.2 s hs
    exact ⟨ic_tr i j k, ic_tr_lt hi hj a1, by rw [ic_sw, ic_tr2, a2], by rw [ic_sw, ic_tr2, a3]⟩
theorem ix_send_87 {post : SX → Prop} {b n : Nat} {V : Nat → Nat} (hb : b + 16 ≤ 48) (hn : n ≤ 16) (sn0 og0 : Nat → Int32)
    (H : ∀ rd' sn' og', ic_S b n V sn' og' → (∀ j, j < b ∨ b + n ≤ j → sn' j = sn0 j ∧ og' j = og0 j) → post (rd', lt, it, wt, sz, ex, sn', og', ht)) :
    ∀ (i : Nat) (rd : Int32) (sn og : Nat → Int32), i < n → ic_S b n V sn og → (∀ j, j < b ∨ b + n ≤ j → sn j = sn0 j ∧ og j = og0 j) → wX_send_87 post (nI b) (i + 1) (nI i) rd lt it wt sz ex sn og ht := by
  intro i
  induction i with
  | zero =>
    intro rd sn og _ hS hO
    exact br_t (by decide) (H rd sn og hS hO)
  | succ i ih =>
    intro rd sn og hi hS hO
    refine br_f (nI_nle (by omega) (by omega)) ?_
    rw [nI_1 (i + 1)]
    refine ix_next (by omega) (by omega) (fun rd' r hr => ?_)
    have v1 : vp_in (nI b + nI (i + 1)) 48 := by rw [nI_add]; exact vp_in_nI (by omega) (by decide)
    have v2 : vp_in (nI (b + r)) 48 := vp_in_nI (by omega) (by decide)
    have c1 : (nI b + nI (i + 1)).toNatClampNeg = b + (i + 1) := by rw [nI_add]; exact nI_clamp (by omega)
    have c2 : (nI (b + r)).toNatClampNeg = b + r := nI_clamp (by omega)
    refine nm_r (nI_add b r) ⟨v1, ?_⟩
    rw [c1, c2]
    refine nm_e ⟨v1, nm_e ⟨v2, v1, nm_e ⟨v2, v1, nm_e ⟨v2, nm_e ⟨v2, nm_e (nm_r (pk_m1 i) (ih rd' _ _ (by omega) (ic_Sw hS hi (by omega)) (fun j hj => ?_)))⟩⟩⟩⟩⟩
    have t := hO j hj
    refine ⟨?_, ?_⟩
    · rw [pk_un (by omega), pk_un (by omega), t.1]
    · rw [pk_un (by omega), pk_un (by omega), t.2]
theorem ix_send {post : SX → Prop} {l n : Nat} {f : Nat → Nat} {e : Nat} (hl : l < 3) (D : ic_D l n f it sz) (he : e ≤ 1018) (ee : ex l = nI e)
    (H : ∀ rd' sn' og', ic_S (16 * l) n (fun s => ic_sq (f s) ^ e % 2039) sn' og' → (∀ j, j < 16 * l ∨ 16 * l + 16 ≤ j → sn' j = sn j ∧ og' j = og j) → post (rd', lt, it, wt, sz, ex, sn', og', ht)) :
    wpX_send post (rd, lt, it, wt, sz, ex, sn, og, ht) (nI l) := by
  obtain ⟨hn, es, hf, hi⟩ := D
  have key : ∀ d i, i + d = n → wX_send_7 post (nI l) (nI (16 * l)) rd lt (d + 1) (nI i) it wt sz ex (ic_fi sn (16 * l) (16 * l + i) (fun j => nI (ic_sq (f (j - 16 * l)) ^ e % 2039))) (ic_fi og (16 * l) (16 * l + i) (fun j => nI (j - 16 * l))) ht := by
    intro d
    induction d with
    | zero =>
      intro i hid
      have e2 : i = n := by omega
      subst e2
      refine ⟨ic_in3 hl, ?_⟩
      rw [ic_cl3 hl, es]
      refine br_t (nI_le (Nat.le_refl _) (by omega)) ⟨ic_in3 hl, ?_⟩
      have hS : ic_S (16 * l) i (fun s => ic_sq (f s) ^ e % 2039) (ic_fi sn (16 * l) (16 * l + i) (fun j => nI (ic_sq (f (j - 16 * l)) ^ e % 2039))) (ic_fi og (16 * l) (16 * l + i) (fun j => nI (j - 16 * l))) := by
        have t : ∀ k, k < i → ic_fi og (16 * l) (16 * l + i) (fun j => nI (j - 16 * l)) (16 * l + k) = nI k ∧ ic_fi sn (16 * l) (16 * l + i) (fun j => nI (ic_sq (f (j - 16 * l)) ^ e % 2039)) (16 * l + k) = nI (ic_sq (f k) ^ e % 2039) := by
          intro k hk
          rw [ic_fi_in (by omega) (by omega), ic_fi_in (by omega) (by omega), Nat.add_sub_cancel_left]
          exact ⟨rfl, rfl⟩
        exact ⟨fun k hk => ⟨k, hk, t k hk⟩, fun s hs => ⟨s, hs, t s hs⟩⟩
      have hO : ∀ j, j < 16 * l ∨ 16 * l + i ≤ j → ic_fi sn (16 * l) (16 * l + i) (fun j => nI (ic_sq (f (j - 16 * l)) ^ e % 2039)) j = sn j ∧ ic_fi og (16 * l) (16 * l + i) (fun j => nI (j - 16 * l)) j = og j := by
        intro j hj
        exact ⟨ic_fi_out hj, ic_fi_out hj⟩
      by_cases c : i = 0
      · subst c
        have e3 : nI 0 - 1 = (-1 : Int32) := by decide
        exact nm_r e3 ⟨1, br_t (by decide) (H rd _ _ hS (fun j hj => hO j (by omega)))⟩
      · obtain ⟨m, rfl⟩ : ∃ m, i = m + 1 := ⟨i - 1, by omega⟩
        exact nm_r (nI_pred m) ⟨m + 1, ix_send_87 (by omega) hn sn og (fun rd' sn' og' a1 a2 => H rd' sn' og' a1 (fun j hj => a2 j (by omega))) m rd _ _ (by omega) hS hO⟩
    | succ d ih =>
      intro i hid
      have v1 : vp_in (nI (16 * l) + nI i) 48 := by rw [nI_add]; exact vp_in_nI (by omega) (by decide)
      have c1 : (nI (16 * l) + nI i).toNatClampNeg = 16 * l + i := by rw [nI_add]; exact nI_clamp (by omega)
      have hfi := hf i (by omega)
      have hq : (nI (f i) + 1) * (nI (f i) + 1) - (nI (f i) + 1) * (nI (f i) + 1) / 2039 * 2039 = nI (ic_sq (f i)) := by
        rw [nI_1]
        exact ic_prd (by omega) (by omega)
      have hsl := ic_sqlt (f i)
      refine ⟨ic_in3 hl, ?_⟩
      rw [ic_cl3 hl, es]
      refine br_f (nI_ge (by omega) (by omega)) ⟨v1, v1, by decide, ?_⟩
      rw [c1, hfi.2, ee]
      refine nm_r hq ⟨ic_in3 hl, ix_power (by omega) (by omega) ⟨v1, nm_r (ic_fiS (by omega) ?_) ⟨v1, nm_r (ic_fiS (by omega) ?_) (nm_r (nI_1 i) (ih (i + 1) (by omega)))⟩⟩⟩
      · rw [Nat.add_sub_cancel_left]
      · rw [Nat.add_sub_cancel_left]
  have k0 := key n 0 (by omega)
  rw [Nat.add_zero (16 * l), ic_fi0, ic_fi0] at k0
  exact nm_r (ic_n16 l) ⟨n + 1, k0⟩
theorem ix_raise {post : SX → Prop} {l b n : Nat} {V : Nat → Nat} {e : Nat} (hl : l < 3) (hb : b < 3) (hn : n ≤ 16) (es : sz l = nI n) (he : e ≤ 1018) (ee : ex b = nI e) (hV : ∀ s, V s < 2039) (hS : ic_S (16 * l) n V sn og)
    (H : ∀ sn', ic_S (16 * l) n (fun s => V s ^ e % 2039) sn' og → (∀ j, j < 16 * l ∨ 16 * l + 16 ≤ j → sn' j = sn j) → post (rd, lt, it, wt, sz, ex, sn', og, ht)) :
    wpX_raise post (rd, lt, it, wt, sz, ex, sn, og, ht) (nI l) (nI b) := by
  have key : ∀ d i, i + d = n → wX_raise_5 post (nI l) (nI b) rd lt (d + 1) (nI (16 * l + i)) it wt sz ex (ic_fi sn (16 * l) (16 * l + i) (fun j => nI ((sn j).toNatClampNeg ^ e % 2039))) og ht := by
    intro d
    induction d with
    | zero =>
      intro i hid
      have e2 : i = n := by omega
      subst e2
      refine ⟨ic_in3 hl, ?_⟩
      rw [ic_end hl es]
      refine br_t (nI_le (Nat.le_refl _) (by omega)) (H _ ⟨fun k hk => ?_, fun s hs => ?_⟩ (fun j hj => ic_fi_out (by omega)))
      · obtain ⟨s, a1, a2, a3⟩ := hS.1 k hk
        have hv := hV s
        refine ⟨s, a1, a2, ?_⟩
        rw [ic_fi_in (by omega) (by omega), a3, nI_clamp (by omega)]
      · obtain ⟨k, a1, a2, a3⟩ := hS.2 s hs
        have hv := hV s
        refine ⟨k, a1, a2, ?_⟩
        rw [ic_fi_in (by omega) (by omega), a3, nI_clamp (by omega)]
    | succ d ih =>
      intro i hid
      obtain ⟨s, a1, a2, a3⟩ := hS.1 i (by omega)
      have hv := hV s
      have v1 : vp_in (nI (16 * l + i)) 48 := vp_in_nI (by omega) (by decide)
      refine ⟨ic_in3 hl, ?_⟩
      rw [ic_end hl es]
      refine br_f (nI_ge (by omega) (by omega)) ⟨v1, ic_in3 hb, ?_⟩
      rw [nI_clamp (n := 16 * l + i) (by omega), ic_cl3 hb, ee, ic_fi_out (by omega), a3]
      refine ix_power (by omega) (by omega) ⟨v1, nm_r (ic_fiS (by omega) ?_) (nm_r (nI_1 (16 * l + i)) (ih (i + 1) (by omega)))⟩
      rw [a3, nI_clamp (by omega)]
  have k0 := key n 0 (by omega)
  rw [Nat.add_zero (16 * l), ic_fi0] at k0
  exact nm_r (ic_n16 l) ⟨n + 1, k0⟩
theorem ix_isSent {post : Int32 → Prop} {l n : Nat} {v : Int32} (hl : l < 3) (hn : n ≤ 16) (es : sz l = nI n) (h1 : (∃ k, k < n ∧ sn (16 * l + k) = v) → post 1) (h0 : (¬ ∃ k, k < n ∧ sn (16 * l + k) = v) → post 0) :
    wpX_isSent post (rd, lt, it, wt, sz, ex, sn, og, ht) (nI l) v := by
  have key : ∀ d i, i + d = n → (∀ k, k < i → ¬ sn (16 * l + k) = v) → wX_isSent_5 post (nI l) v rd lt it wt sz ex sn og ht (d + 1) (nI (16 * l + i)) := by
    intro d
    induction d with
    | zero =>
      intro i hid hne
      have e2 : i = n := by omega
      subst e2
      refine ⟨ic_in3 hl, ?_⟩
      rw [ic_end hl es]
      exact br_t (nI_le (Nat.le_refl _) (by omega)) (h0 (fun ⟨k, a, b⟩ => hne k a b))
    | succ d ih =>
      intro i hid hne
      refine ⟨ic_in3 hl, ?_⟩
      rw [ic_end hl es]
      refine br_f (nI_ge (by omega) (by omega)) ⟨vp_in_nI (by omega) (by decide), ?_⟩
      rw [nI_clamp (n := 16 * l + i) (by omega)]
      refine br_c (fun z => h1 ⟨i, by omega, z⟩) (fun z => nm_r (nI_1 (16 * l + i)) (ih (i + 1) (by omega) (fun k hk => ?_)))
      by_cases c : k = i
      · subst c; exact z
      · exact hne k (by omega)
  exact nm_r (ic_n16 l) ⟨n + 1, key n 0 (by omega) (fun k hk => absurd hk (by omega))⟩
/-- a mark as 0 or 1 -/
def ic_m (ht : Nat → Int32) (k : Nat) : Int32 := if ht k = 0 then 0 else 1
theorem ix_hits {post : Int32 → Prop} {l n : Nat} (hl : l < 3) (hn : n ≤ 16) (es : sz l = nI n) (H : post (ic_sm (ic_m ht) n)) : wpX_hits post (rd, lt, it, wt, sz, ex, sn, og, ht) (nI l) := by
  refine ic_lp (fun n a c => wX_hits_4 post (nI l) rd lt it wt sz ex sn og ht n a c) (ic_m ht) n (fun m => ?_) (fun m i hi ih => ?_)
  · refine ⟨ic_in3 hl, ?_⟩
    rw [ic_cl3 hl, es]
    exact br_t (nI_le (Nat.le_refl _) (by omega)) H
  · refine ⟨ic_in3 hl, ?_⟩
    rw [ic_cl3 hl, es]
    refine br_f (nI_ge (by omega) (by omega)) ⟨vp_in_nI (by omega) (by decide), ?_⟩
    rw [nI_clamp (n := i) (by omega)]
    exact br_c (fun z => nm_r (ic_s1 (g := ic_m ht) (n := i) (if_pos z)) (nm_r (nI_1 i) ih)) (fun z => nm_r (ic_s1 (g := ic_m ht) (n := i) (if_neg z)) (nm_r (nI_1 i) ih))
end
end
section
/-! ===== compareTwo, compareThree ===== -/
theorem ic_nb1 : vp_nar .boolean 1 = 1 := rfl
theorem ic_nb0 : vp_nar .boolean 0 = 0 := rfl
/-- a value is in q's sent list if and only if q holds the item -/
theorem ic_mem {b n K x : Nat} {f : Nat → Nat} {sn og : Nat → Int32} (hK : ic_gd K) (hS : ic_S b n (fun s => ic_sq (f s) ^ K % 2039) sn og) (hx : x < 64) (hf : ∀ s, s < n → f s < 64) : (∃ k, k < n ∧ sn (b + k) = nI (ic_sq x ^ K % 2039)) ↔ ∃ j, j < n ∧ f j = x := by
  constructor
  · intro ⟨k, hk, ek⟩
    obtain ⟨s, a1, a2, a3⟩ := hS.1 k hk
    rw [a3, nI_eq (Nat.lt_trans (Nat.mod_lt _ (by decide)) (by decide)) (Nat.lt_trans (Nat.mod_lt _ (by decide)) (by decide))] at ek
    exact ⟨s, a1, ic_key hK (hf s a1) hx ek⟩
  · intro ⟨j, hj, ej⟩
    obtain ⟨k, a1, a2, a3⟩ := hS.2 j hj
    refine ⟨k, a1, ?_⟩
    rw [a3]
    show nI (ic_sq (f j) ^ K % 2039) = _
    rw [ej]
section
variable {rd lt : Int32} {it wt sz ex sn og ht : Nat → Int32}
theorem ix_raiseK {post : SX → Prop} {l b n K : Nat} {f : Nat → Nat} {e : Nat} (hl : l < 3) (hb : b < 3) (hn : n ≤ 16) (es : sz l = nI n) (he : e ≤ 1018) (ee : ex b = nI e) (hS : ic_S (16 * l) n (fun s => ic_sq (f s) ^ K % 2039) sn og)
    (H : ∀ sn', ic_S (16 * l) n (fun s => ic_sq (f s) ^ (K * e) % 2039) sn' og → (∀ j, j < 16 * l ∨ 16 * l + 16 ≤ j → sn' j = sn j) → post (rd, lt, it, wt, sz, ex, sn', og, ht)) :
    wpX_raise post (rd, lt, it, wt, sz, ex, sn, og, ht) (nI l) (nI b) := by
  refine ix_raise hl hb hn es he ee (fun s => Nat.mod_lt _ (by decide)) hS (fun sn' h1 h2 => H sn' ?_ h2)
  have t : (fun s => (fun s => ic_sq (f s) ^ K % 2039) s ^ e % 2039) = (fun s => ic_sq (f s) ^ (K * e) % 2039) := funext (fun s => ic_pp _ _ _)
  rw [← t]
  exact h1
/-- the marks after one more store -/
theorem ic_mark {i n s : Nat} {og : Nat → Int32} {b : Nat} {z : Int32} {T : Nat → Prop} (hn : n ≤ 16) (hs : s < n) (es : og (b + i) = nI s) (hz : ¬ z = 0 ↔ T s) (h : ∀ s, s < n → (∃ k, k < i ∧ og (b + k) = nI s) → (¬ ht s = 0 ↔ T s)) : ∀ t, t < n → (∃ k, k < i + 1 ∧ og (b + k) = nI t) → (¬ upd ht s z t = 0 ↔ T t) := by
  intro t htn ⟨k, hk, ek⟩
  by_cases c : t = s
  · subst c
    rw [pk_us]
    exact hz
  · rw [pk_un c]
    refine h t htn ⟨k, ?_, ek⟩
    rcases Nat.lt_or_ge k i with q | q
    · exact q
    · have : k = i := by omega
      subst this
      rw [es, nI_eq (by omega) (by omega)] at ek
      exact absurd ek.symm c
theorem ic_fil {l i : Nat} : (16 : Int32) * nI l + nI i = nI (16 * l + i) := by rw [ic_n16, nI_add]
theorem ix_c2_60 {post : SX → Prop} {p q np nq : Nat} {V : Nat → Nat} {T : Nat → Prop} (hp : p < 3) (hq : q < 3) (hnp : np ≤ 16) (hnq : nq ≤ 16) (ep : sz p = nI np) (eq : sz q = nI nq) (hS : ic_S (16 * p) np V sn og)
    (M : ∀ s, s < np → ((∃ k, k < nq ∧ sn (16 * q + k) = nI (V s)) ↔ T s))
    (H : ∀ ht', (∀ s, s < np → (¬ ht' s = 0 ↔ T s)) → post (rd, nI np + nI nq - ic_sm (ic_m ht') np, it, wt, sz, ex, sn, og, ht')) :
    ∃ m, wX_compareTwo_60 post (nI p) (nI q) rd lt m 0 it wt sz ex sn og ht := by
  have key : ∀ (d i : Nat) (ht : Nat → Int32), i + d = np → (∀ s, s < np → (∃ k, k < i ∧ og (16 * p + k) = nI s) → (¬ ht s = 0 ↔ T s)) → wX_compareTwo_60 post (nI p) (nI q) rd lt (d + 1) (nI i) it wt sz ex sn og ht := by
    intro d
    induction d with
    | zero =>
      intro i ht hid hm
      have e2 : i = np := by omega
      subst e2
      refine ⟨ic_in3 hp, ?_⟩
      rw [ic_cl3 hp, ic_cl3 hq, ep, eq]
      refine br_t (nI_le (Nat.le_refl _) (by omega)) ⟨ic_in3 hp, ic_in3 hq, ix_hits hp hnp ep (nm_e (H ht (fun s hs => ?_)))⟩
      obtain ⟨k, a1, a2, a3⟩ := hS.2 s hs
      exact hm s hs ⟨k, a1, a2⟩
    | succ d ih =>
      intro i ht hid hm
      obtain ⟨s, a1, a2, a3⟩ := hS.1 i (by omega)
      have v1 : vp_in (nI (16 * p + i)) 48 := vp_in_nI (by omega) (by decide)
      have v2 : vp_in (nI s) 16 := vp_in_nI (by omega) (by decide)
      refine ⟨ic_in3 hp, ?_⟩
      rw [ic_cl3 hp, ep, ic_fil, nI_clamp (n := 16 * p + i) (by omega), a2, a3, nI_clamp (n := s) (by omega)]
      refine br_f (nI_ge (by omega) (by omega)) ⟨v1, ix_isSent hq hnq eq (fun z => ⟨v1, v2, nm_e (nm_r (nI_1 i) (ih (i + 1) _ (by omega) (ic_mark hnp a1 a2 ?_ hm)))⟩) (fun z => ⟨v1, v2, nm_e (nm_r (nI_1 i) (ih (i + 1) _ (by omega) (ic_mark hnp a1 a2 ?_ hm)))⟩)⟩
      · rw [ic_nb1]
        exact ⟨fun _ => (M s a1).mp z, fun _ => by decide⟩
      · rw [ic_nb0]
        exact ⟨fun c => absurd rfl c, fun c => absurd ((M s a1).mpr c) z⟩
  exact ⟨np + 1, key np 0 ht (by omega) (fun s _ ⟨k, hk, _⟩ => absurd hk (by omega))⟩
variable {n : Nat → Nat} {f : Nat → Nat → Nat} {e : Nat → Nat}
theorem ix_compareTwo {post : SX → Prop} {p q : Nat} (hp : p < 3) (hq : q < 3) (D : ∀ l, l < 3 → ic_D l (n l) (f l) it sz) (E : ∀ l, l < 3 → 1 ≤ e l ∧ e l ≤ 1018 ∧ ex l = nI (e l))
    (H : ∀ rd' lt' sn' og' ht', (∀ s, s < n p → (¬ ht' s = 0 ↔ ∃ j, j < n q ∧ f q j = f p s)) → lt' = (if p = q then lt else nI (n p) + nI (n q) - ic_sm (ic_m ht') (n p)) → post (rd', lt', it, wt, sz, ex, sn', og', ht')) :
    wpX_compareTwo post (rd, lt, it, wt, sz, ex, sn, og, ht) (nI p) (nI q) := by
  have Dp := D p hp
  have Dq := D q hq
  have Ep := E p hp
  have Eq := E q hq
  have hpq : nI p = nI q ↔ p = q := nI_eq (by omega) (by omega)
  by_cases c : p = q
  · subst c
    have key : ∀ d i, i + d = 16 → wX_compareTwo_2 post (nI p) (nI p) rd lt (d + 1) (nI i) it wt sz ex sn og (ic_fi ht 0 i (fun _ => 1)) := by
      intro d
      induction d with
      | zero =>
        intro i hid
        have e2 : i = 16 := by omega
        subst e2
        refine br_t (nI_le (a := 16) (b := 16) (by decide) (by decide)) (br_t rfl (H _ _ _ _ _ (fun s hs => ⟨fun _ => ⟨s, hs, rfl⟩, fun _ => ?_⟩) (if_pos rfl).symm))
        have := Dp.1
        rw [ic_fi_in (by omega) (by omega)]
        decide
      | succ d ih =>
        intro i hid
        refine br_f (ic_ge16 (by omega)) (br_t rfl ⟨vp_in_nI (by omega) (by decide), ?_⟩)
        rw [nI_clamp (n := i) (by omega)]
        exact nm_r (ic_fiS (by omega) rfl) (nm_r (nI_1 i) (ih (i + 1) (by omega)))
    have k0 := key 16 0 rfl
    rw [ic_fi0] at k0
    exact ⟨17, k0⟩
  · have key : ∀ d i, i + d = 16 → wX_compareTwo_2 post (nI p) (nI q) rd lt (d + 1) (nI i) it wt sz ex sn og (ic_fi ht 0 i (fun _ => 0)) := by
      intro d
      induction d with
      | zero =>
        intro i hid
        have e2 : i = 16 := by omega
        subst e2
        refine br_t (nI_le (a := 16) (b := 16) (by decide) (by decide)) (br_f (fun z => c (hpq.mp z)) ?_)
        refine ix_send hp Dp Ep.2.1 Ep.2.2 (fun rd1 sn1 og1 S1 O1 => ?_)
        refine ix_send hq Dq Eq.2.1 Eq.2.2 (fun rd2 sn2 og2 S2 O2 => ?_)
        have S1' := ic_Sc S1 (fun j h1 h2 => O2 j (by have := Dp.1; omega))
        refine ix_raiseK hp hq Dp.1 Dp.2.1 Eq.2.1 Eq.2.2 S1' (fun sn3 S3 O3 => ?_)
        have S2' := ic_Sc (sn' := sn3) (og' := og2) S2 (fun j h1 h2 => ⟨O3 j (by have := Dq.1; omega), rfl⟩)
        refine ix_raiseK hq hp Dq.1 Dq.2.1 Ep.2.1 Ep.2.2 S2' (fun sn4 S4 O4 => ?_)
        have S3' := ic_Sc (sn' := sn4) (og' := og2) S3 (fun j h1 h2 => ⟨O4 j (by have := Dp.1; omega), rfl⟩)
        rw [Nat.mul_comm (e q) (e p)] at S4
        have G : ic_gd (e p * e q) := ic_gdm (ic_gd1 Ep.1 Ep.2.1) (ic_gd1 Eq.1 Eq.2.1)
        exact ix_c2_60 hp hq Dp.1 Dq.1 Dp.2.1 Dq.2.1 S3' (fun s hs => ic_mem G S4 (Dp.2.2.1 s hs).1 (fun t h => (Dq.2.2.1 t h).1)) (fun ht' h1 => H _ _ _ _ _ h1 (if_neg c).symm)
      | succ d ih =>
        intro i hid
        refine br_f (ic_ge16 (by omega)) (br_f (fun z => c (hpq.mp z)) ⟨vp_in_nI (by omega) (by decide), ?_⟩)
        rw [nI_clamp (n := i) (by omega)]
        exact nm_r (ic_fiS (by omega) rfl) (nm_r (nI_1 i) (ih (i + 1) (by omega)))
    have k0 := key 16 0 rfl
    rw [ic_fi0] at k0
    exact ⟨17, k0⟩
/-! three -/
def ic_K (e : Nat → Nat) (l : Nat) : Nat → Nat
  | 0 => e l
  | b + 1 => if b = l then ic_K e l b else ic_K e l b * e b
theorem ic_K3 {l : Nat} (hl : l < 3) : ic_K e l 3 = e 0 * e 1 * e 2 := by
  have h : l = 0 ∨ l = 1 ∨ l = 2 := by omega
  rcases h with h | h | h
  · subst h
    show e 0 * e 1 * e 2 = _
    rfl
  · subst h
    show e 1 * e 0 * e 2 = _
    rw [Nat.mul_comm (e 1) (e 0)]
  · subst h
    show e 2 * e 0 * e 1 = _
    rw [Nat.mul_assoc, Nat.mul_comm (e 2)]
theorem ix_c3_14 {post : SX → Prop} {J : Int32 → Int32 → Int32 → (Nat → Int32) → (Nat → Int32) → (Nat → Int32) → (Nat → Int32) → (Nat → Int32) → (Nat → Int32) → (Nat → Int32) → Prop} {x1 : Int32} {l : Nat} (hl : l < 3) (D : ∀ l, l < 3 → ic_D l (n l) (f l) it sz) (E : ∀ l, l < 3 → 1 ≤ e l ∧ e l ≤ 1018 ∧ ex l = nI (e l)) (hS : ic_S (16 * l) (n l) (fun s => ic_sq (f l s) ^ e l % 2039) sn og)
    (H : ∀ sn', ic_S (16 * l) (n l) (fun s => ic_sq (f l s) ^ (e 0 * e 1 * e 2) % 2039) sn' og → (∀ j, j < 16 * l ∨ 16 * l + 16 ≤ j → sn' j = sn j) → J (nI (l + 1)) rd lt it wt sz ex sn' og ht) :
    ∃ m, wX_compareThree_14 post J x1 (nI l) m 0 rd lt it wt sz ex sn og ht := by
  have Dl := D l hl
  have key : ∀ (d i : Nat) (sn1 : Nat → Int32), i + d = 3 → ic_S (16 * l) (n l) (fun s => ic_sq (f l s) ^ ic_K e l i % 2039) sn1 og → (∀ j, j < 16 * l ∨ 16 * l + 16 ≤ j → sn1 j = sn j) → wX_compareThree_14 post J x1 (nI l) (d + 1) (nI i) rd lt it wt sz ex sn1 og ht := by
    intro d
    induction d with
    | zero =>
      intro i sn1 hid S1 O1
      have e2 : i = 3 := by omega
      subst e2
      rw [ic_K3 hl] at S1
      exact br_t (nI_le (a := 3) (b := 3) (by decide) (by decide)) (nm_r (nI_1 l) (H sn1 S1 O1))
    | succ d ih =>
      intro i sn1 hid S1 O1
      have Ei := E i (by omega)
      refine br_f (ic_ge3 (by omega)) (pk_eq i l (fun z => nm_r (nI_1 i) (ih (i + 1) sn1 (by omega) ?_ O1)) (fun z => ?_) rfl rfl (by omega) (by omega))
      · have t : ic_K e l (i + 1) = ic_K e l i := if_pos z
        rw [t]
        exact S1
      · refine ix_raiseK hl (by omega) Dl.1 Dl.2.1 Ei.2.1 Ei.2.2 S1 (fun sn2 S2 O2 => nm_r (nI_1 i) (ih (i + 1) sn2 (by omega) ?_ (fun j hj => by rw [O2 j hj, O1 j hj])))
        have t : ic_K e l (i + 1) = ic_K e l i * e i := if_neg z
        rw [t]
        exact S2
  exact ⟨4, key 3 0 sn rfl hS (fun j _ => rfl)⟩
theorem ix_c3_85 {post : SX → Prop} {p q r np nq nr : Nat} {V : Nat → Nat} {A B : Nat → Prop} (hp : p < 3) (hq : q < 3) (hr : r < 3) (hnp : np ≤ 16) (hnq : nq ≤ 16) (hnr : nr ≤ 16) (ep : sz p = nI np) (eq : sz q = nI nq) (er : sz r = nI nr) (hS : ic_S (16 * p) np V sn og)
    (MA : ∀ s, s < np → ((∃ k, k < nq ∧ sn (16 * q + k) = nI (V s)) ↔ A s))
    (MB : ∀ s, s < np → ((∃ k, k < nr ∧ sn (16 * r + k) = nI (V s)) ↔ B s))
    (H : ∀ ht', (∀ s, s < np → (¬ ht' s = 0 ↔ (A s ∧ B s))) → post (rd, lt, it, wt, sz, ex, sn, og, ht')) :
    ∃ m, wX_compareThree_85 post (nI p) (nI q) (nI r) rd lt m 0 it wt sz ex sn og ht := by
  have key : ∀ (d i : Nat) (ht : Nat → Int32), i + d = np → (∀ s, s < np → (∃ k, k < i ∧ og (16 * p + k) = nI s) → (¬ ht s = 0 ↔ (A s ∧ B s))) → wX_compareThree_85 post (nI p) (nI q) (nI r) rd lt (d + 1) (nI i) it wt sz ex sn og ht := by
    intro d
    induction d with
    | zero =>
      intro i ht hid hm
      have e2 : i = np := by omega
      subst e2
      refine ⟨ic_in3 hp, ?_⟩
      rw [ic_cl3 hp, ep]
      refine br_t (nI_le (Nat.le_refl _) (by omega)) (H ht (fun s hs => ?_))
      obtain ⟨k, a1, a2, a3⟩ := hS.2 s hs
      exact hm s hs ⟨k, a1, a2⟩
    | succ d ih =>
      intro i ht hid hm
      obtain ⟨s, a1, a2, a3⟩ := hS.1 i (by omega)
      have v1 : vp_in ((16 : Int32) * nI p + nI i) 48 := by rw [ic_fil]; exact vp_in_nI (by omega) (by decide)
      have c1 : ((16 : Int32) * nI p + nI i).toNatClampNeg = 16 * p + i := by rw [ic_fil]; exact nI_clamp (by omega)
      have v2 : vp_in (nI s) 16 := vp_in_nI (by omega) (by decide)
      have fin : ∀ z : Int32, (¬ vp_nar .boolean z = 0 ↔ (A s ∧ B s)) → wX_compareThree_135 post (wX_compareThree_85 post (nI p) (nI q) (nI r) rd lt (d + 1)) (nI p) (nI q) (nI r) (nI i) z rd lt it wt sz ex sn og ht := by
        intro z hz
        refine ⟨v1, ?_⟩
        rw [c1, a2, nI_clamp (n := s) (by omega)]
        exact ⟨v2, nm_e (nm_r (nI_1 i) (ih (i + 1) _ (by omega) (ic_mark hnp a1 a2 hz hm)))⟩
      have fin0 : ¬ (A s ∧ B s) → wX_compareThree_134 post (wX_compareThree_85 post (nI p) (nI q) (nI r) rd lt (d + 1)) (nI p) (nI q) (nI r) (nI i) rd lt it wt sz ex sn og ht := by
        intro hn
        refine fin 0 ?_
        rw [ic_nb0]
        exact ⟨fun c => absurd rfl c, fun c => absurd c hn⟩
      refine ⟨ic_in3 hp, ?_⟩
      rw [ic_cl3 hp, ep, c1, a3]
      refine br_f (nI_ge (by omega) (by omega)) ⟨v1, nm_e (ix_isSent hq hnq eq (fun z => br_f (by decide) (ix_isSent hr hnr er (fun z2 => br_f (by decide) (fin 1 ?_)) (fun z2 => br_t rfl (fin0 (fun c => z2 ((MB s a1).mpr c.2)))))) (fun z => br_t rfl (fin0 (fun c => z ((MA s a1).mpr c.1)))))⟩
      rw [ic_nb1]
      exact ⟨fun _ => ⟨(MA s a1).mp z, (MB s a1).mp z2⟩, fun _ => by decide⟩
  exact ⟨np + 1, key np 0 ht (by omega) (fun s _ ⟨k, hk, _⟩ => absurd hk (by omega))⟩
/-- the two others -/
def ic_q (p : Nat) : Nat := if p = 0 then 1 else 0
def ic_r (p : Nat) : Nat := 3 - p - ic_q p
theorem ix_compareThree {post : SX → Prop} {p : Nat} (hp : p < 3) (D : ∀ l, l < 3 → ic_D l (n l) (f l) it sz) (E : ∀ l, l < 3 → 1 ≤ e l ∧ e l ≤ 1018 ∧ ex l = nI (e l))
    (H : ∀ rd' sn' og' ht', (∀ s, s < n p → (¬ ht' s = 0 ↔ ((∃ j, j < n (ic_q p) ∧ f (ic_q p) j = f p s) ∧ (∃ j, j < n (ic_r p) ∧ f (ic_r p) j = f p s)))) → post (rd', lt, it, wt, sz, ex, sn', og', ht')) :
    wpX_compareThree post (rd, lt, it, wt, sz, ex, sn, og, ht) (nI p) := by
  have hq : ic_q p < 3 := by unfold ic_q; split <;> omega
  have hr : ic_r p < 3 := by unfold ic_r ic_q; split <;> omega
  have Dp := D p hp
  have Dq := D _ hq
  have Dr := D _ hr
  have G : ic_gd (e 0 * e 1 * e 2) := ic_gdm (ic_gdm (ic_gd1 (E 0 (by decide)).1 (E 0 (by decide)).2.1) (ic_gd1 (E 1 (by decide)).1 (E 1 (by decide)).2.1)) (ic_gd1 (E 2 (by decide)).1 (E 2 (by decide)).2.1)
  have tail : ∀ (rd : Int32) (sn og : Nat → Int32), (∀ l, l < 3 → ic_S (16 * l) (n l) (fun s => ic_sq (f l s) ^ (e 0 * e 1 * e 2) % 2039) sn og) → wX_compareThree_51 post (nI p) (nI (ic_q p)) rd lt it wt sz ex sn og ht := by
    intro rd sn og hS
    have er : (3 : Int32) - nI p - nI (ic_q p) = nI (ic_r p) := by
      have h : p = 0 ∨ p = 1 ∨ p = 2 := by omega
      rcases h with h | h | h <;> subst h <;> decide
    have key : ∀ d i, i + d = 16 → wX_compareThree_61 post (nI p) (nI (ic_q p)) (nI (ic_r p)) rd lt (d + 1) (nI i) it wt sz ex sn og (ic_fi ht 0 i (fun _ => 0)) := by
      intro d
      induction d with
      | zero =>
        intro i hid
        have e2 : i = 16 := by omega
        subst e2
        exact br_t (nI_le (a := 16) (b := 16) (by decide) (by decide)) (ix_c3_85 hp hq hr Dp.1 Dq.1 Dr.1 Dp.2.1 Dq.2.1 Dr.2.1 (hS p hp) (fun s hs => ic_mem G (hS _ hq) (Dp.2.2.1 s hs).1 (fun t h => (Dq.2.2.1 t h).1)) (fun s hs => ic_mem G (hS _ hr) (Dp.2.2.1 s hs).1 (fun t h => (Dr.2.2.1 t h).1)) (fun ht' h1 => H _ _ _ _ h1))
      | succ d ih =>
        intro i hid
        refine br_f (ic_ge16 (by omega)) ⟨vp_in_nI (by omega) (by decide), ?_⟩
        rw [nI_clamp (n := i) (by omega)]
        exact nm_r (ic_fiS (by omega) rfl) (nm_r (nI_1 i) (ih (i + 1) (by omega)))
    have k0 := key 16 0 rfl
    rw [ic_fi0] at k0
    exact nm_r er ⟨17, k0⟩
  have key : ∀ (d l : Nat) (rd : Int32) (sn og : Nat → Int32), l + d = 3 → (∀ m, m < l → ic_S (16 * m) (n m) (fun s => ic_sq (f m s) ^ (e 0 * e 1 * e 2) % 2039) sn og) → wX_compareThree_2 post (nI p) (d + 1) (nI l) rd lt it wt sz ex sn og ht := by
    intro d
    induction d with
    | zero =>
      intro l rd sn og hid hS
      have e2 : l = 3 := by omega
      subst e2
      have t := tail rd sn og hS
      refine br_t (nI_le (a := 3) (b := 3) (by decide) (by decide)) (pk_eq p 0 (fun z => ?_) (fun z => ?_) rfl rfl (by omega) (by decide))
      · have q1 : ic_q p = 1 := if_pos z
        rw [q1] at t
        exact t
      · have q1 : ic_q p = 0 := if_neg z
        rw [q1] at t
        exact t
    | succ d ih =>
      intro l rd sn og hid hS
      have hl : l < 3 := by omega
      have El := E l hl
      refine br_f (ic_ge3 hl) (ix_send hl (D l hl) El.2.1 El.2.2 (fun rd1 sn1 og1 S1 O1 => ?_))
      refine ix_c3_14 hl D E S1 (fun sn2 S2 O2 => ih (l + 1) rd1 sn2 og1 (by omega) (fun m hm => ?_))
      by_cases c : m = l
      · subst c; exact S2
      · have hnm := (D m (by omega)).1
        exact ic_Sc (hS m (by omega)) (fun j h1 h2 => ⟨by rw [O2 j (by omega), (O1 j (by omega)).1], (O1 j (by omega)).2⟩)
  exact ⟨4, key 3 0 rd sn og rfl (fun m hm => absurd hm (by omega))⟩
end
end
section
/-! ===== what a store does to the lists ===== -/
section
variable {it wt sz hs wg : Nat → Int32} {p n : Nat} {f : Nat → Nat}
theorem ic_size (D : ic_D p n f it sz) (Hh : ic_H p n f hs) : ic_sm (ic_b hs p) 64 = nI n := by
  have t := ic_br (fun x => hs (64 * p + x)) (fun _ => 1) f 64 n (fun k hk => (D.2.2.1 k hk).1) D.2.2.2 Hh
  rw [← ic_one n]
  exact t.symm
/-- f with x put in at place a -/
def ic_fa (f : Nat → Nat) (a x : Nat) : Nat → Nat := fun k => if k < a then f k else if k = a then x else f (k - 1)
theorem ic_fa_lt {a x k : Nat} (h : k < a) : ic_fa f a x k = f k := if_pos h
theorem ic_fa_eq (f : Nat → Nat) (a x : Nat) : ic_fa f a x a = x := by
  unfold ic_fa
  rw [if_neg (by omega), if_pos rfl]
theorem ic_fa_gt {a x k : Nat} (h : a < k) : ic_fa f a x k = f (k - 1) := by
  unfold ic_fa
  rw [if_neg (by omega), if_neg (by omega)]
theorem ic_insD {x a : Nat} (hx : x < 64) (D : ic_D p n f it sz) (hn : n < 16) (ha : a ≤ n) (hl : ∀ k, k < a → f k < x) (hg : ∀ k, a ≤ k → k < n → x < f k) :
    ic_D p (n + 1) (ic_fa f a x) (upd (ic_sR it (16 * p + a) (16 * p + n)) (16 * p + a) (nI x)) (upd sz p (nI (n + 1))) := by
  obtain ⟨_, es, hf, hi⟩ := D
  refine ⟨by omega, pk_us, fun k hk => ?_, fun i j hij hj => ?_⟩
  · rcases Nat.lt_trichotomy k a with c | c | c
    · rw [ic_fa_lt c, pk_un (by omega), ic_sR_out (by omega)]
      exact hf k (by omega)
    · subst c
      rw [ic_fa_eq, pk_us]
      exact ⟨hx, rfl⟩
    · have e : 16 * p + k - 1 = 16 * p + (k - 1) := by omega
      rw [ic_fa_gt c, pk_un (by omega), ic_sR_in (by omega) (by omega), e]
      exact hf (k - 1) (by omega)
  · rcases Nat.lt_trichotomy j a with c | c | c
    · rw [ic_fa_lt (by omega), ic_fa_lt c]
      exact hi i j hij (by omega)
    · subst c
      rw [ic_fa_lt hij, ic_fa_eq]
      exact hl i hij
    · rw [ic_fa_gt c]
      rcases Nat.lt_trichotomy i a with d | d | d
      · rw [ic_fa_lt d]
        exact hi i (j - 1) (by omega) (by omega)
      · subst d
        rw [ic_fa_eq]
        exact hg (j - 1) (by omega) (by omega)
      · rw [ic_fa_gt d]
        exact hi (i - 1) (j - 1) (by omega) (by omega)
theorem ic_insH {x a : Nat} {c : Int32} (hc : ¬ c = 0) (Hh : ic_H p n f hs) (ha : a ≤ n) : ic_H p (n + 1) (ic_fa f a x) (upd hs (64 * p + x) c) := by
  intro y hy
  by_cases e : y = x
  · subst e
    rw [pk_us]
    exact ⟨fun _ => ⟨a, by omega, ic_fa_eq f a y⟩, fun _ => hc⟩
  · rw [pk_un (by omega)]
    refine (Hh y hy).trans ⟨fun ⟨k, hk, ek⟩ => ?_, fun ⟨k, hk, ek⟩ => ?_⟩
    · by_cases d : k < a
      · exact ⟨k, by omega, by rw [ic_fa_lt d, ek]⟩
      · exact ⟨k + 1, by omega, by rw [ic_fa_gt (by omega), Nat.add_sub_cancel, ek]⟩
    · rcases Nat.lt_trichotomy k a with d | d | d
      · rw [ic_fa_lt d] at ek
        exact ⟨k, by omega, ek⟩
      · subst d
        rw [ic_fa_eq] at ek
        exact absurd ek.symm e
      · rw [ic_fa_gt d] at ek
        exact ⟨k - 1, by omega, ek⟩
theorem ic_insW {x a : Nat} {w : Int32} (Ww : ic_W p n f wt wg) (ha : a ≤ n) (hl : ∀ k, k < a → f k < x) (hg : ∀ k, a ≤ k → k < n → x < f k) : ic_W p (n + 1) (ic_fa f a x) (upd (ic_sR wt (16 * p + a) (16 * p + n)) (16 * p + a) w) (upd wg (64 * p + x) w) := by
  intro k hk
  rcases Nat.lt_trichotomy k a with c | c | c
  · have := hl k c
    rw [ic_fa_lt c, pk_un (by omega), ic_sR_out (by omega), pk_un (by omega)]
    exact Ww k (by omega)
  · subst c
    rw [ic_fa_eq, pk_us, pk_us]
  · have := hg (k - 1) (by omega) (by omega)
    have e : 16 * p + k - 1 = 16 * p + (k - 1) := by omega
    rw [ic_fa_gt c, pk_un (by omega), ic_sR_in (by omega) (by omega), pk_un (by omega), e]
    exact Ww (k - 1) (by omega)
/-- the other parties don't see it -/
theorem ic_Ro {it' wt' sz' hs' wg' : Nat → Int32} (R : ic_R it wt sz hs wg) (e1 : ∀ j, j < 16 * p ∨ 16 * p + 16 ≤ j → it' j = it j ∧ wt' j = wt j) (e2 : ∀ l, l ≠ p → sz' l = sz l) (e3 : ∀ j, j < 64 * p ∨ 64 * p + 64 ≤ j → hs' j = hs j ∧ wg' j = wg j) (h : ic_L p it' wt' sz' hs' wg') : ic_R it' wt' sz' hs' wg' := by
  intro l hl
  by_cases c : l = p
  · subst c; exact h
  · exact ic_Lc (R l hl) (fun j h1 h2 => e1 j (by omega)) (e2 l c) (fun j h1 h2 => e3 j (by omega))
theorem ic_insR {x a : Nat} {c w : Int32} (R : ic_R it wt sz hs wg) (hc : ¬ c = 0) (hx : x < 64) (D : ic_D p n f it sz) (Hh : ic_H p n f hs) (Ww : ic_W p n f wt wg) (hn : n < 16) (ha : a ≤ n) (hl : ∀ k, k < a → f k < x) (hg : ∀ k, a ≤ k → k < n → x < f k) :
    ic_R (upd (ic_sR it (16 * p + a) (16 * p + n)) (16 * p + a) (nI x)) (upd (ic_sR wt (16 * p + a) (16 * p + n)) (16 * p + a) w) (upd sz p (nI (n + 1))) (upd hs (64 * p + x) c) (upd wg (64 * p + x) w) := by
  refine ic_Ro (p := p) R (fun j hj => ⟨?_, ?_⟩) (fun l hl => pk_un hl) (fun j hj => ⟨pk_un (by omega), pk_un (by omega)⟩) ⟨n + 1, ic_fa f a x, ic_insD hx D hn ha hl hg, ic_insH hc Hh ha, ic_insW Ww ha hl hg⟩
  · rw [pk_un (by omega), ic_sR_out (by omega)]
  · rw [pk_un (by omega), ic_sR_out (by omega)]
/-- a new weight for an item that is there -/
theorem ic_setR {k : Nat} {c w : Int32} (R : ic_R it wt sz hs wg) (hc : ¬ c = 0) (D : ic_D p n f it sz) (Hh : ic_H p n f hs) (Ww : ic_W p n f wt wg) (hk : k < n) :
    ic_D p n f it sz ∧ ic_H p n f (upd hs (64 * p + f k) c) ∧ ic_R it (upd wt (16 * p + k) w) sz (upd hs (64 * p + f k) c) (upd wg (64 * p + f k) w) := by
  have hn := D.1
  have hfk := (D.2.2.1 k hk).1
  have h2 : ic_H p n f (upd hs (64 * p + f k) c) := by
    intro y hy
    by_cases e : y = f k
    · subst e
      rw [pk_us]
      exact ⟨fun _ => ⟨k, hk, rfl⟩, fun _ => hc⟩
    · rw [pk_un (by omega)]
      exact Hh y hy
  refine ⟨D, h2, ic_Ro (p := p) R (fun j hj => ⟨rfl, pk_un (by omega)⟩) (fun l hl => rfl) (fun j hj => ⟨pk_un (by omega), pk_un (by omega)⟩) ⟨n, f, D, h2, fun i hi => ?_⟩⟩
  have hii := D.2.2.2
  by_cases e : i = k
  · subst e
    rw [pk_us, pk_us]
  · have hne : f i ≠ f k := by
      rcases Nat.lt_or_gt_of_ne e with d | d
      · have := hii i k d hk
        omega
      · have := hii k i d hi
        omega
    rw [pk_un (by omega), pk_un (by omega)]
    exact Ww i hi
/-- f without its place a -/
def ic_fd (f : Nat → Nat) (a : Nat) : Nat → Nat := fun k => if k < a then f k else f (k + 1)
theorem ic_delR {a : Nat} (R : ic_R it wt sz hs wg) (D : ic_D p n f it sz) (Hh : ic_H p n f hs) (Ww : ic_W p n f wt wg) (ha : a < n) :
    ic_D p (n - 1) (ic_fd f a) (ic_sL it (16 * p + a) (16 * p + n)) (upd sz p (nI (n - 1))) ∧ ic_H p (n - 1) (ic_fd f a) (upd hs (64 * p + f a) 0) ∧ ic_R (ic_sL it (16 * p + a) (16 * p + n)) (ic_sL wt (16 * p + a) (16 * p + n)) (upd sz p (nI (n - 1))) (upd hs (64 * p + f a) 0) wg := by
  obtain ⟨hn, es, hf, hi⟩ := D
  have hfa := (hf a ha).1
  have lo : ∀ k, k < a → ic_fd f a k = f k := fun k h => if_pos h
  have up : ∀ k, a ≤ k → ic_fd f a k = f (k + 1) := fun k h => if_neg (by omega)
  have h1 : ic_D p (n - 1) (ic_fd f a) (ic_sL it (16 * p + a) (16 * p + n)) (upd sz p (nI (n - 1))) := by
    refine ⟨by omega, pk_us, fun k hk => ?_, fun i j hij hj => ?_⟩
    · by_cases c : k < a
      · rw [lo k c, ic_sL_out (by omega)]
        exact hf k (by omega)
      · rw [up k (by omega), ic_sL_in (by omega) (by omega)]
        exact hf (k + 1) (by omega)
    · by_cases c : j < a
      · rw [lo i (by omega), lo j c]
        exact hi i j hij (by omega)
      · rw [up j (by omega)]
        by_cases d : i < a
        · rw [lo i d]
          exact hi i (j + 1) (by omega) (by omega)
        · rw [up i (by omega)]
          exact hi (i + 1) (j + 1) (by omega) (by omega)
  have inj : ∀ k, k < n → k ≠ a → f k ≠ f a := by
    intro k hk e
    rcases Nat.lt_or_gt_of_ne e with d | d
    · have := hi k a d ha
      omega
    · have := hi a k d hk
      omega
  have h2 : ic_H p (n - 1) (ic_fd f a) (upd hs (64 * p + f a) 0) := by
    intro y hy
    by_cases e : y = f a
    · subst e
      rw [pk_us]
      refine ⟨fun c => absurd rfl c, fun ⟨k, hk, ek⟩ => ?_⟩
      by_cases c : k < a
      · rw [lo k c] at ek
        exact absurd ek (inj k (by omega) (by omega))
      · rw [up k (by omega)] at ek
        exact absurd ek (inj (k + 1) (by omega) (by omega))
    · rw [pk_un (by omega)]
      refine (Hh y hy).trans ⟨fun ⟨k, hk, ek⟩ => ?_, fun ⟨k, hk, ek⟩ => ?_⟩
      · rcases Nat.lt_trichotomy k a with d | d | d
        · exact ⟨k, by omega, by rw [lo k d, ek]⟩
        · subst d
          exact absurd ek.symm e
        · refine ⟨k - 1, by omega, ?_⟩
          have e2 : k - 1 + 1 = k := by omega
          rw [up (k - 1) (by omega), e2, ek]
      · by_cases d : k < a
        · rw [lo k d] at ek
          exact ⟨k, by omega, ek⟩
        · rw [up k (by omega)] at ek
          exact ⟨k + 1, by omega, ek⟩
  refine ⟨h1, h2, ic_Ro (p := p) R (fun j hj => ⟨ic_sL_out (by omega), ic_sL_out (by omega)⟩) (fun l hl => pk_un hl) (fun j hj => ⟨pk_un (by omega), rfl⟩) ⟨n - 1, ic_fd f a, h1, h2, fun k hk => ?_⟩⟩
  by_cases c : k < a
  · rw [lo k c, ic_sL_out (by omega)]
    exact Ww k (by omega)
  · rw [up k (by omega), ic_sL_in (by omega) (by omega)]
    exact Ww (k + 1) (by omega)
end
end
section
/-! ===== secret, the constructor, held, holds, traffic, clear, take, give ===== -/
theorem ic_rem (v : Int32) : (v - v / 1018 * 1018).toInt = v.toInt.tmod 1018 := by
  have h8 : (1018 : Int32).toInt = 1018 := by decide
  have h1 := Int.mul_tdiv_add_tmod v.toInt 1018
  have h2 := Int.tmod_lt_of_pos v.toInt (b := 1018) (by decide)
  have h3 := Int.lt_tmod_of_pos v.toInt (b := 1018) (by decide)
  rw [Int32.toInt_sub, Int32.toInt_mul, Int32.toInt_div_of_ne_right _ _ (by decide), h8, Int.sub_bmod_bmod]
  have h4 : v.toInt - v.toInt.tdiv 1018 * 1018 = v.toInt.tmod 1018 := by omega
  rw [h4]
  exact Int.bmod_eq_of_le (by omega) (by omega)
theorem ic_exp (v : Int32) : (0 ≤ v - v / 1018 * 1018 → ∃ e : Nat, 1 ≤ e ∧ e ≤ 1018 ∧ v - v / 1018 * 1018 + 1 = nI e) ∧ (¬ 0 ≤ v - v / 1018 * 1018 → ∃ e : Nat, 1 ≤ e ∧ e ≤ 1018 ∧ v - v / 1018 * 1018 + 1019 = nI e) := by
  have h0 := ic_rem v
  have h2 := Int.tmod_lt_of_pos v.toInt (b := 1018) (by decide)
  have h3 := Int.lt_tmod_of_pos v.toInt (b := 1018) (by decide)
  rw [← h0] at h2 h3
  generalize v - v / 1018 * 1018 = x at h2 h3
  have z0 : (0 : Int32).toInt = 0 := by decide
  have z1 : (1 : Int32).toInt = 1 := by decide
  have z2 : (1019 : Int32).toInt = 1019 := by decide
  rw [Int32.le_iff_toInt_le, z0]
  refine ⟨fun c => ⟨(x.toInt + 1).toNat, by omega, by omega, Int32.toInt_inj.mp ?_⟩, fun c => ⟨(x.toInt + 1019).toNat, by omega, by omega, Int32.toInt_inj.mp ?_⟩⟩
  · rw [Int32.toInt_add, z1, nI_toInt (by omega), Int.bmod_eq_of_le (by omega) (by omega)]
    omega
  · rw [Int32.toInt_add, z2, nI_toInt (by omega), Int.bmod_eq_of_le (by omega) (by omega)]
    omega
theorem ix_secret {rd lt : Int32} {it wt sz ex sn og ht : Nat → Int32} {post : Int32 → SX → Prop} {p : Nat} (hp : p < 3) (v : Int32) (H : ∀ (rd' : Int32) (e : Nat), 1 ≤ e → e ≤ 1018 → post 0 (rd', lt, it, wt, sz, upd ex p (nI e), sn, og, ht)) : wpX_secret post (rd, lt, it, wt, sz, ex, sn, og, ht) (nI p) v := by
  have t := ic_exp v
  refine ix_pt hp ⟨by decide, nm_e ⟨fun c => ?_, fun c => ?_⟩⟩
  · obtain ⟨e, a1, a2, a3⟩ := t.1 c
    rw [a3]
    refine ⟨ic_in3 hp, ?_⟩
    rw [ic_cl3 hp]
    exact nm_e (nm_e (H _ e a1 a2))
  · obtain ⟨e, a1, a2, a3⟩ := t.2 c
    rw [a3]
    refine ⟨ic_in3 hp, ?_⟩
    rw [ic_cl3 hp]
    exact nm_e (nm_e (H _ e a1 a2))
theorem ic_Eu {ex : Nat → Int32} {p e : Nat} (E : ic_E ex) (h1 : 1 ≤ e) (h2 : e ≤ 1018) : ic_E (upd ex p (nI e)) := by
  intro l hl
  by_cases c : l = p
  · subst c
    exact ⟨e, h1, h2, pk_us⟩
  · rw [pk_un c]
    exact E l hl
theorem i_vc0 (k0 : Int32) (k1 : Int32) (k2 : Int32) : wpX_init (fun u => wpY_init (fun v => i_Rel 3 u v) k0 k1 k2) k0 k1 k2 := by
  unfold wpX_init
  refine ix_secret (p := 0) (by decide) k0 (fun r0 e0 a0 b0 => ?_)
  refine ix_secret (p := 1) (by decide) k1 (fun r1 e1 a1 b1 => ?_)
  refine ix_secret (p := 2) (by decide) k2 (fun r2 e2 a2 b2 => ?_)
  refine ⟨rfl, fun l hl => ⟨0, fun _ => 0, ⟨by decide, rfl, fun k hk => absurd hk (by omega), fun i j _ hj => absurd hj (by omega)⟩, fun x hx => ⟨fun c => absurd rfl c, fun ⟨k, hk, _⟩ => absurd hk (by omega)⟩, fun k hk => absurd hk (by omega)⟩, ?_⟩
  intro l hl
  have h : l = 0 ∨ l = 1 ∨ l = 2 := by omega
  rcases h with h | h | h
  · subst h; exact ⟨e0, a0, b0, rfl⟩
  · subst h; exact ⟨e1, a1, b1, rfl⟩
  · subst h; exact ⟨e2, a2, b2, rfl⟩
theorem i_vc_secret {k : Nat} {u : SX} {v : SY} (I : i_Rel k u v) (hk : k + 4 ≤ 2051) (v1 : Int32) (v2 : Int32) : wpX_secret (fun r u' => wpY_secret (fun r' => r' = r ∧ i_Rel (k + 4) u' v) v v1 v2) u v1 v2 := by
  obtain ⟨rd, lt, it, wt, sz, ex, sn, og, ht⟩ := u
  obtain ⟨ys, hs, wg⟩ := v
  obtain ⟨I1, I2, I3⟩ := I
  rcases ic_pc v1 with ⟨p, hp, rfl⟩ | hb
  · exact ix_secret hp v2 (fun rd' e a b => iy_pt (u := (ys, hs, wg)) hp ⟨rfl, I1, I2, ic_Eu I3 a b⟩)
  · exact ix_pf hb (iy_pf (u := (ys, hs, wg)) hb ⟨rfl, I1, I2, I3⟩)
theorem i_vc_held {k : Nat} {u : SX} {v : SY} (I : i_Rel k u v) (hk : k + 4 ≤ 2051) (v1 : Int32) : wpX_held (fun r => wpY_held (fun r' => r' = r ∧ i_Rel (k + 4) u v) v v1) u v1 := by
  obtain ⟨rd, lt, it, wt, sz, ex, sn, og, ht⟩ := u
  obtain ⟨ys, hs, wg⟩ := v
  obtain ⟨I1, I2, I3⟩ := I
  rcases ic_pc v1 with ⟨p, hp, rfl⟩ | hb
  · obtain ⟨n, f, D, Hh, Ww⟩ := I2 p hp
    refine ix_pt hp ⟨ic_in3 hp, iy_pt (u := (ys, hs, wg)) hp (iy_size hp ⟨?_, I1, I2, I3⟩)⟩
    rw [ic_size D Hh, ic_cl3 hp, D.2.1]
  · exact ix_pf hb (iy_pf (u := (ys, hs, wg)) hb ⟨rfl, I1, I2, I3⟩)
theorem i_vc_traffic {k : Nat} {u : SX} {v : SY} (I : i_Rel k u v) (hk : k + 4 ≤ 2051) : wpX_traffic (fun r => wpY_traffic (fun r' => r' = r ∧ i_Rel (k + 4) u v) v) u := by
  obtain ⟨rd, lt, it, wt, sz, ex, sn, og, ht⟩ := u
  obtain ⟨ys, hs, wg⟩ := v
  obtain ⟨I1, I2, I3⟩ := I
  exact ⟨I1.symm, I1, I2, I3⟩
theorem i_vc_holds {k : Nat} {u : SX} {v : SY} (I : i_Rel k u v) (hk : k + 4 ≤ 2051) (v1 : Int32) (v2 : Int32) : wpX_holds (fun r => wpY_holds (fun r' => r' = r ∧ i_Rel (k + 4) u v) v v1 v2) u v1 v2 := by
  obtain ⟨rd, lt, it, wt, sz, ex, sn, og, ht⟩ := u
  obtain ⟨ys, hs, wg⟩ := v
  obtain ⟨I1, I2, I3⟩ := I
  rcases ic_pc v1 with ⟨p, hp, rfl⟩ | hb
  · rcases ic_xc v2 with ⟨x, hx, rfl⟩ | hb2
    · obtain ⟨n, f, D, Hh, Ww⟩ := I2 p hp
      have hn := D.1
      refine ix_pt hp (ix_it hx (ix_find hp hx D (fun j hj ej => br_t (nI_pos' (by omega)) (iy_pt (u := (ys, hs, wg)) hp (iy_it (u := (ys, hs, wg)) hx ⟨ic_i64 hp hx, ?_⟩))) (fun hne => br_f (by decide) (iy_pt (u := (ys, hs, wg)) hp (iy_it (u := (ys, hs, wg)) hx ⟨ic_i64 hp hx, ?_⟩)))))
      · rw [ic_c64 hp hx]
        exact br_f ((Hh x hx).mpr ⟨j, hj, ej⟩) ⟨rfl, I1, I2, I3⟩
      · rw [ic_c64 hp hx]
        refine br_c (fun z => ⟨rfl, I1, I2, I3⟩) (fun z => ?_)
        obtain ⟨j, hj, ej⟩ := (Hh x hx).mp z
        exact absurd ej (hne j hj)
    · exact ix_pt hp (ix_if hb2 (iy_pt (u := (ys, hs, wg)) hp (iy_if (u := (ys, hs, wg)) hb2 ⟨rfl, I1, I2, I3⟩)))
  · exact ix_pf hb (iy_pf (u := (ys, hs, wg)) hb ⟨rfl, I1, I2, I3⟩)
theorem iy_clear_18 {post : Int32 → SY → Prop} {ys x2 : Int32} {hs wg : Nat → Int32} {p : Nat} (hp : p < 3) (H : post x2 (ys, ic_fi hs (64 * p) (64 * p + 64) (fun _ => 0), wg)) : ∃ m, wY_clear_18 post (nI p) x2 ys m 0 hs wg := by
  have key : ∀ d i, i + d = 64 → wY_clear_18 post (nI p) x2 ys (d + 1) (nI i) (ic_fi hs (64 * p) (64 * p + i) (fun _ => 0)) wg := by
    intro d
    induction d with
    | zero =>
      intro i hid
      have e2 : i = 64 := by omega
      subst e2
      exact br_t ic_le64 H
    | succ d ih =>
      intro i hid
      refine br_f (ic_ge64 (by omega)) ⟨ic_i64 hp (by omega), ?_⟩
      rw [ic_c64 hp (by omega)]
      exact nm_r (ic_fiS (by omega) rfl) (nm_r (nI_1 i) (ih (i + 1) (by omega)))
  have k0 := key 64 0 rfl
  rw [Nat.add_zero (64 * p), ic_fi0] at k0
  exact ⟨65, k0⟩
theorem i_vc_clear {k : Nat} {u : SX} {v : SY} (I : i_Rel k u v) (hk : k + 4 ≤ 2051) (v1 : Int32) : wpX_clear (fun r u' => wpY_clear (fun r' v' => r' = r ∧ i_Rel (k + 4) u' v') v v1) u v1 := by
  obtain ⟨rd, lt, it, wt, sz, ex, sn, og, ht⟩ := u
  obtain ⟨ys, hs, wg⟩ := v
  obtain ⟨I1, I2, I3⟩ := I
  rcases ic_pc v1 with ⟨p, hp, rfl⟩ | hb
  · obtain ⟨n, f, D, Hh, Ww⟩ := I2 p hp
    refine ix_pt hp ⟨ic_in3 hp, ?_⟩
    rw [ic_cl3 hp, D.2.1]
    refine nm_e ⟨ic_in3 hp, nm_e (iy_pt (u := (ys, hs, wg)) hp (iy_size hp (iy_clear_18 hp ⟨ic_size D Hh, I1, ?_, I3⟩)))⟩
    refine ic_Ro (p := p) I2 (fun j hj => ⟨rfl, rfl⟩) (fun l hl => pk_un hl) (fun j hj => ⟨ic_fi_out hj, rfl⟩) ⟨0, f, ⟨by decide, pk_us, fun k hk => absurd hk (by omega), fun i j _ hj => absurd hj (by omega)⟩, fun x hx => ?_, fun k hk => absurd hk (by omega)⟩
    rw [ic_fi_in (by omega) (by omega)]
    exact ⟨fun c => absurd rfl c, fun ⟨k, hk, _⟩ => absurd hk (by omega)⟩
  · exact ix_pf hb (iy_pf (u := (ys, hs, wg)) hb ⟨rfl, I1, I2, I3⟩)
theorem i_vc_take {k : Nat} {u : SX} {v : SY} (I : i_Rel k u v) (hk : k + 4 ≤ 2051) (v1 : Int32) (v2 : Int32) : wpX_take (fun r u' => wpY_take (fun r' v' => r' = r ∧ i_Rel (k + 4) u' v') v v1 v2) u v1 v2 := by
  obtain ⟨rd, lt, it, wt, sz, ex, sn, og, ht⟩ := u
  obtain ⟨ys, hs, wg⟩ := v
  obtain ⟨I1, I2, I3⟩ := I
  rcases ic_pc v1 with ⟨p, hp, rfl⟩ | hb
  · rcases ic_xc v2 with ⟨x, hx, rfl⟩ | hb2
    · obtain ⟨n, f, D, Hh, Ww⟩ := I2 p hp
      have hn := D.1
      refine ix_pt hp (ix_it hx (ix_find hp hx D (fun j hj ej => br_t (nI_pos' (by omega)) ⟨ic_in3 hp, nm_r (ic_end hp D.2.1) (nm_e (ix_take_51 hp D.2.1 hn hj ?_))⟩) (fun hne => br_f (by decide) (iy_pt (u := (ys, hs, wg)) hp (iy_it (u := (ys, hs, wg)) hx ⟨ic_i64 hp hx, ?_⟩)))))
      · subst ej
        have t := ic_delR I2 D Hh Ww hj
        refine iy_pt (u := (ys, hs, wg)) hp (iy_it (u := (ys, hs, wg)) hx ⟨ic_i64 hp hx, ?_⟩)
        rw [ic_c64 hp hx]
        exact br_f ((Hh (f j) hx).mpr ⟨j, hj, rfl⟩) ⟨ic_i64 hp hx, nm_e (iy_size hp ⟨ic_size t.1 t.2.1, I1, t.2.2, I3⟩)⟩
      · rw [ic_c64 hp hx]
        refine br_c (fun z => ⟨rfl, I1, I2, I3⟩) (fun z => ?_)
        obtain ⟨j, hj, ej⟩ := (Hh x hx).mp z
        exact absurd ej (hne j hj)
    · exact ix_pt hp (ix_if hb2 (iy_pt (u := (ys, hs, wg)) hp (iy_if (u := (ys, hs, wg)) hb2 ⟨rfl, I1, I2, I3⟩)))
  · exact ix_pf hb (iy_pf (u := (ys, hs, wg)) hb ⟨rfl, I1, I2, I3⟩)
theorem i_vc_give {k : Nat} {u : SX} {v : SY} (I : i_Rel k u v) (hk : k + 4 ≤ 2051) (v1 : Int32) (v2 : Int32) (v3 : Int32) : wpX_give (fun r u' => wpY_give (fun r' v' => r' = r ∧ i_Rel (k + 4) u' v') v v1 v2 v3) u v1 v2 v3 := by
  obtain ⟨rd, lt, it, wt, sz, ex, sn, og, ht⟩ := u
  obtain ⟨ys, hs, wg⟩ := v
  obtain ⟨I1, I2, I3⟩ := I
  rcases ic_pc v1 with ⟨p, hp, rfl⟩ | hb
  · rcases ic_xc v2 with ⟨x, hx, rfl⟩ | hb2
    · obtain ⟨n, f, D, Hh, Ww⟩ := I2 p hp
      have hn := D.1
      refine ix_pt hp (ix_it hx (ix_find hp hx D (fun j hj ej => br_t (nI_pos' (by omega)) ⟨vp_in_nI (by omega) (by decide), ?_⟩) (fun hne => br_f (by decide) ⟨ic_in3 hp, ?_⟩)))
      · subst ej
        have t := ic_setR (w := v3) (c := vp_nar .boolean 1) I2 (by rw [ic_nb1]; decide) D Hh Ww hj
        have fin : wY_give_48 (fun r' v' => r' = nI n ∧ i_Rel (k + 4) (rd, lt, it, upd wt (16 * p + j) v3, sz, ex, sn, og, ht) v') (nI p) (nI (f j)) v3 ys hs wg := by
          refine ⟨ic_i64 hp hx, ?_⟩
          rw [ic_c64 hp hx]
          exact nm_e ⟨ic_i64 hp hx, nm_e (iy_size hp ⟨ic_size t.1 t.2.1, I1, t.2.2, I3⟩)⟩
        rw [nI_clamp (by omega), ic_cl3 hp, D.2.1]
        refine nm_e ⟨ic_in3 hp, iy_pt (u := (ys, hs, wg)) hp (iy_it (u := (ys, hs, wg)) hx (iy_size hp (br_c (fun _ => ⟨ic_i64 hp hx, ?_⟩) (fun _ => fin))))⟩
        rw [ic_c64 hp hx]
        exact br_f ((Hh (f j) hx).mpr ⟨j, hj, rfl⟩) fin
      · have h0 : hs (64 * p + x) = 0 := by
          by_cases z : hs (64 * p + x) = 0
          · exact z
          · obtain ⟨j, hj, ej⟩ := (Hh x hx).mp z
            exact absurd ej (hne j hj)
        have es := ic_size D Hh
        rw [ic_cl3 hp, D.2.1]
        refine pk_eq n 16 (fun c => ?_) (fun c => ?_) rfl rfl (by omega) (by decide)
        · refine iy_pt (u := (ys, hs, wg)) hp (iy_it (u := (ys, hs, wg)) hx (iy_size hp (br_t (by rw [es, c]; rfl) ⟨ic_i64 hp hx, ?_⟩)))
          rw [ic_c64 hp hx]
          exact br_t h0 ⟨rfl, I1, I2, I3⟩
        · obtain ⟨a, ha, hl, hg⟩ := ic_place x n D.2.2.2 hne
          have R := ic_insR (w := v3) (c := vp_nar .boolean 1) I2 (by rw [ic_nb1]; decide) hx D Hh Ww (by omega) ha hl hg
          refine ix_insert hp hx D (by omega) ha hl hg ⟨vp_in_nI (by omega) (by decide), ?_⟩
          rw [nI_clamp (by omega), ic_cl3 hp]
          refine nm_e ⟨ic_in3 hp, ?_⟩
          rw [pk_us]
          refine iy_pt (u := (ys, hs, wg)) hp (iy_it (u := (ys, hs, wg)) hx (iy_size hp (br_f ?_ ⟨ic_i64 hp hx, ?_⟩)))
          · rw [es]
            exact fun z => c ((nI_eq (a := n) (b := 16) (by omega) (by decide)).mp z)
          · rw [ic_c64 hp hx]
            exact nm_e ⟨ic_i64 hp hx, nm_e (iy_size hp ⟨ic_size (ic_insD hx D (by omega) ha hl hg) (ic_insH (by rw [ic_nb1]; decide) Hh ha), I1, R, I3⟩)⟩
    · exact ix_pt hp (ix_if hb2 (iy_pt (u := (ys, hs, wg)) hp (iy_if (u := (ys, hs, wg)) hb2 ⟨rfl, I1, I2, I3⟩)))
  · exact ix_pf hb (iy_pf (u := (ys, hs, wg)) hb ⟨rfl, I1, I2, I3⟩)
end
section
/-! ===== the queries: what the marks say, in sums over the table ===== -/
def ic_F (n : Nat → Nat) (f : Nat → Nat → Nat) (e : Nat → Nat) (it wt sz ex hs wg : Nat → Int32) : Prop :=
  ∀ l, l < 3 → (ic_D l (n l) (f l) it sz ∧ ic_H l (n l) (f l) hs ∧ ic_W l (n l) (f l) wt wg) ∧ 1 ≤ e l ∧ e l ≤ 1018 ∧ ex l = nI (e l)
theorem ic_fun {it wt sz ex hs wg : Nat → Int32} (R : ic_R it wt sz hs wg) (E : ic_E ex) : ∃ n f e, ic_F n f e it wt sz ex hs wg := by
  have h1 : ∀ l : Nat, ∃ n : Nat, ∃ f : Nat → Nat, l < 3 → (ic_D l n f it sz ∧ ic_H l n f hs ∧ ic_W l n f wt wg) := by
    intro l
    by_cases hl : l < 3
    · obtain ⟨n, f, h⟩ := R l hl
      exact ⟨n, f, fun _ => h⟩
    · exact ⟨0, fun _ => 0, fun c => absurd c hl⟩
  have h2 : ∀ l : Nat, ∃ e : Nat, l < 3 → (1 ≤ e ∧ e ≤ 1018 ∧ ex l = nI e) := by
    intro l
    by_cases hl : l < 3
    · obtain ⟨e, h⟩ := E l hl
      exact ⟨e, fun _ => h⟩
    · exact ⟨0, fun c => absurd c hl⟩
  obtain ⟨n, h3⟩ := Classical.skolem.mp h1
  obtain ⟨f, h4⟩ := Classical.skolem.mp h3
  obtain ⟨e, h5⟩ := Classical.skolem.mp h2
  exact ⟨n, f, e, fun l hl => ⟨h4 l hl, h5 l hl⟩⟩
section
variable {rd lt : Int32} {it wt sz ex sn og ht hs wg : Nat → Int32} {n : Nat → Nat} {f : Nat → Nat → Nat} {e : Nat → Nat} {p q : Nat}
theorem ic_FR (F : ic_F n f e it wt sz ex hs wg) : ic_R it wt sz hs wg := fun l hl => ⟨n l, f l, (F l hl).1⟩
theorem ic_FE (F : ic_F n f e it wt sz ex hs wg) : ic_E ex := fun l hl => ⟨e l, (F l hl).2⟩
theorem ic_Fz (F : ic_F n f e it wt sz ex hs wg) (hp : p < 3) : sz p = nI (n p) := (F p hp).1.1.2.1
theorem ic_Fn (F : ic_F n f e it wt sz ex hs wg) (hp : p < 3) : n p ≤ 16 := (F p hp).1.1.1
theorem ic_Fs (F : ic_F n f e it wt sz ex hs wg) (hp : p < 3) : ic_sm (ic_b hs p) 64 = nI (n p) := ic_size (F p hp).1.1 (F p hp).1.2.1
theorem ic_F64 (F : ic_F n f e it wt sz ex hs wg) (hp : p < 3) {s : Nat} (h : s < n p) : f p s < 64 := ((F p hp).1.1.2.2.1 s h).1
/-- a sum over the list of p is a sum over p's table -/
theorem ic_Fb (F : ic_F n f e it wt sz ex hs wg) (hp : p < 3) (a g : Nat → Int32) (h : ∀ s, s < n p → a s = g (f p s)) : ic_sm a (n p) = ic_sm (fun x => if hs (64 * p + x) = 0 then 0 else g x) 64 := by
  rw [ic_smc (n p) h]
  exact ic_br (fun x => hs (64 * p + x)) g (f p) 64 (n p) (fun k hk => ic_F64 F hp hk) (F p hp).1.1.2.2.2 (F p hp).1.2.1
theorem ic_Fbp (F : ic_F n f e it wt sz ex hs wg) (hp : p < 3) (a g : Nat → Int32) (h : ∀ s, s < n p → a s = g (f p s)) {k : Nat} (hk : k < n p) : ic_sm a k = ic_sm (fun x => if hs (64 * p + x) = 0 then 0 else g x) (f p k) := by
  rw [ic_smc k (fun j hj => h j (by omega))]
  exact ic_brp (fun x => hs (64 * p + x)) g (f p) (m := 64) (fun k hk => ic_F64 F hp hk) (F p hp).1.1.2.2.2 (F p hp).1.2.1 hk
theorem ic_Fm (F : ic_F n f e it wt sz ex hs wg) (hp : p < 3) (hq : q < 3) {s : Nat} (h : s < n p) : (∃ j, j < n q ∧ f q j = f p s) ↔ ¬ hs (64 * q + f p s) = 0 := ((F q hq).1.2.1 (f p s) (ic_F64 F hp h)).symm
/-! compareTwo and pairCount against the table -/
theorem ic_mb {k x : Nat} (h : ht k = 0 ↔ hs (64 * q + x) = 0) : ic_m ht k = ic_b hs q x := by
  unfold ic_m ic_b
  by_cases c : ht k = 0
  · rw [if_pos c, if_pos (h.mp c)]
  · rw [if_neg c, if_neg (fun d => c (h.mpr d))]
theorem ix_cmp2 {post : SX → Prop} (F : ic_F n f e it wt sz ex hs wg) (hp : p < 3) (hq : q < 3)
    (H : ∀ rd' sn' og' ht', (∀ s, s < n p → (ht' s = 0 ↔ hs (64 * q + f p s) = 0)) → post (rd', (if p = q then lt else nI (n p) + nI (n q) - ic_sm (ic_b2 hs p q) 64), it, wt, sz, ex, sn', og', ht')) :
    wpX_compareTwo post (rd, lt, it, wt, sz, ex, sn, og, ht) (nI p) (nI q) := by
  refine ix_compareTwo hp hq (fun l hl => (F l hl).1.1) (fun l hl => (F l hl).2) (fun rd' lt' sn' og' ht' h1 h2 => ?_)
  have h3 : ∀ s, s < n p → (ht' s = 0 ↔ hs (64 * q + f p s) = 0) := by
    intro s hs'
    have a := (h1 s hs').trans (ic_Fm F hp hq hs')
    exact Decidable.not_iff_not.mp a
  have h4 : ic_sm (ic_m ht') (n p) = ic_sm (ic_b2 hs p q) 64 := ic_Fb F hp (ic_m ht') (ic_b hs q) (fun s hs' => ic_mb (h3 s hs'))
  rw [h4] at h2
  subst h2
  exact H rd' sn' og' ht' h3
theorem ic_hit2 (F : ic_F n f e it wt sz ex hs wg) (hp : p < 3) (h3 : ∀ s, s < n p → (ht s = 0 ↔ hs (64 * q + f p s) = 0)) : ic_sm (ic_m ht) (n p) = ic_sm (ic_b2 hs p q) 64 :=
  ic_Fb F hp (ic_m ht) (ic_b hs q) (fun s hs' => ic_mb (h3 s hs'))
theorem ix_pair {post : Int32 → SX → Prop} (F : ic_F n f e it wt sz ex hs wg) (hp : p < 3) (hq : q < 3)
    (H : ∀ rd' sn' og' ht', post (ic_sm (ic_b2 hs p q) 64) (rd', lt, it, wt, sz, ex, sn', og', ht')) :
    wpX_pairCount post (rd, lt, it, wt, sz, ex, sn, og, ht) (nI p) (nI q) := by
  refine ix_cmp2 F hp hq (fun rd' sn' og' ht' h => ix_hits hp (ic_Fn F hp) (ic_Fz F hp) ?_)
  rw [ic_hit2 F hp h]
  exact H rd' sn' og' ht'
/-! compareThree against the table -/
def ic_b3 (hs : Nat → Int32) (p q r x : Nat) : Int32 := if hs (64 * p + x) = 0 then 0 else ic_b2 hs q r x
theorem ix_cmp3 {post : SX → Prop} (F : ic_F n f e it wt sz ex hs wg) (hp : p < 3)
    (H : ∀ rd' sn' og' ht', (∀ s, s < n p → ic_m ht' s = ic_b2 hs (ic_q p) (ic_r p) (f p s)) → post (rd', lt, it, wt, sz, ex, sn', og', ht')) :
    wpX_compareThree post (rd, lt, it, wt, sz, ex, sn, og, ht) (nI p) := by
  have hq : ic_q p < 3 := by unfold ic_q; split <;> omega
  have hr : ic_r p < 3 := by unfold ic_r ic_q; split <;> omega
  refine ix_compareThree hp (fun l hl => (F l hl).1.1) (fun l hl => (F l hl).2) (fun rd' sn' og' ht' h1 => H rd' sn' og' ht' (fun s hs' => ?_))
  have a := h1 s hs'
  rw [ic_Fm F hp hq hs', ic_Fm F hp hr hs'] at a
  unfold ic_m ic_b2 ic_b
  by_cases c1 : hs (64 * ic_q p + f p s) = 0
  · rw [if_pos c1]
    by_cases d : ht' s = 0
    · rw [if_pos d]
    · exact absurd c1 (a.mp d).1
  · rw [if_neg c1]
    by_cases c2 : hs (64 * ic_r p + f p s) = 0
    · rw [if_pos c2]
      by_cases d : ht' s = 0
      · rw [if_pos d]
      · exact absurd c2 (a.mp d).2
    · rw [if_neg c2, if_neg (a.mpr ⟨c1, c2⟩)]
theorem ic_hit3 (F : ic_F n f e it wt sz ex hs wg) (hp : p < 3) (h : ∀ s, s < n p → ic_m ht s = ic_b2 hs (ic_q p) (ic_r p) (f p s)) : ic_sm (ic_m ht) (n p) = ic_sm (ic_b3 hs p (ic_q p) (ic_r p)) 64 :=
  ic_Fb F hp (ic_m ht) (ic_b2 hs (ic_q p) (ic_r p)) h
end
/-! ===== identities of sums ===== -/
theorem ic_b01 (hs : Nat → Int32) (p x : Nat) : ic_b hs p x = 0 ∨ ic_b hs p x = 1 := by
  unfold ic_b
  split
  · exact Or.inl rfl
  · exact Or.inr rfl
theorem ic_b2m (hs : Nat → Int32) (p q x : Nat) : ic_b2 hs p q x = ic_b hs p x * ic_b hs q x := by
  unfold ic_b2
  by_cases c : hs (64 * p + x) = 0
  · have : ic_b hs p x = 0 := if_pos c
    rw [if_pos c, this, Int32.zero_mul]
  · have : ic_b hs p x = 1 := if_neg c
    rw [if_neg c, this, Int32.one_mul]
theorem ic_b3m (hs : Nat → Int32) (p q r x : Nat) : ic_b3 hs p q r x = ic_b hs p x * (ic_b hs q x * ic_b hs r x) := by
  unfold ic_b3
  rw [ic_b2m]
  by_cases c : hs (64 * p + x) = 0
  · have : ic_b hs p x = 0 := if_pos c
    rw [if_pos c, this, Int32.zero_mul]
  · have : ic_b hs p x = 1 := if_neg c
    rw [if_neg c, this, Int32.one_mul]
theorem ic_hom (hs : Nat → Int32) (x : Nat) : ic_ho hs x = 0 + ic_b hs 0 x + ic_b hs 1 x + ic_b hs 2 x := rfl
theorem ic_id2 (A B C T R : Nat → Int32) : ∀ N, (∀ j, j < N → R j = A j + B j + C j - 3 * T j) → ic_sm A N + ic_sm B N + ic_sm C N - 3 * ic_sm T N = ic_sm R N := by
  intro N
  induction N with
  | zero =>
    intro _
    show (0 : Int32) + 0 + 0 - 3 * 0 = 0
    decide
  | succ N ih =>
    intro h
    rw [ic_sS, ic_sS, ic_sS, ic_sS, ic_sS, ← ih (fun j hj => h j (by omega)), h N (by omega)]
    grind
theorem ic_id1 (A B C P Q S T R : Nat → Int32) : ∀ N, (∀ j, j < N → R j = A j + B j + C j - 2 * (P j + Q j + S j) + 3 * T j) → ic_sm A N + ic_sm B N + ic_sm C N - 2 * (ic_sm P N + ic_sm Q N + ic_sm S N) + 3 * ic_sm T N = ic_sm R N := by
  intro N
  induction N with
  | zero =>
    intro _
    show (0 : Int32) + 0 + 0 - 2 * (0 + 0 + 0) + 3 * 0 = 0
    decide
  | succ N ih =>
    intro h
    rw [ic_sS, ic_sS, ic_sS, ic_sS, ic_sS, ic_sS, ic_sS, ic_sS, ← ih (fun j hj => h j (by omega)), h N (by omega)]
    grind
theorem ic_id3 (A B C T R : Nat → Int32) : ∀ N, (∀ j, j < N → R j = A j - B j - C j + T j) → ic_sm A N - ic_sm B N - ic_sm C N + ic_sm T N = ic_sm R N := by
  intro N
  induction N with
  | zero =>
    intro _
    show (0 : Int32) - 0 - 0 + 0 = 0
    decide
  | succ N ih =>
    intro h
    rw [ic_sS, ic_sS, ic_sS, ic_sS, ic_sS, ← ih (fun j hj => h j (by omega)), h N (by omega)]
    grind
theorem ic_id4 (A B C T : Nat → Int32) : ∀ N, (∀ j, j < N → A j + B j + C j + T j = 1) → ic_sm A N + ic_sm B N + ic_sm C N = nI N - ic_sm T N := by
  intro N
  induction N with
  | zero =>
    intro _
    show (0 : Int32) + 0 + 0 = nI 0 - 0
    decide
  | succ N ih =>
    intro h
    have a := ih (fun j hj => h j (by omega))
    have b := h N (by omega)
    rw [ic_sS, ic_sS, ic_sS, ic_sS, ← nI_1]
    grind
theorem ic_w3 (hs : Nat → Int32) (x : Nat) : ic_b3 hs 0 1 2 x = ic_hb hs 3 x := by
  unfold ic_hb
  rw [ic_b3m, ic_hom]
  rcases ic_b01 hs 0 x with a | a <;> rcases ic_b01 hs 1 x with b | b <;> rcases ic_b01 hs 2 x with c | c <;> rw [a, b, c] <;> decide
theorem ic_w2 (hs : Nat → Int32) (x : Nat) : ic_hb hs 2 x = ic_b2 hs 0 1 x + ic_b2 hs 0 2 x + ic_b2 hs 1 2 x - 3 * ic_hb hs 3 x := by
  rw [← ic_w3]
  unfold ic_hb
  rw [ic_b3m, ic_hom, ic_b2m, ic_b2m, ic_b2m]
  rcases ic_b01 hs 0 x with a | a <;> rcases ic_b01 hs 1 x with b | b <;> rcases ic_b01 hs 2 x with c | c <;> rw [a, b, c] <;> decide
theorem ic_w1 (hs : Nat → Int32) (x : Nat) : ic_hb hs 1 x = ic_b hs 0 x + ic_b hs 1 x + ic_b hs 2 x - 2 * (ic_b2 hs 0 1 x + ic_b2 hs 0 2 x + ic_b2 hs 1 2 x) + 3 * ic_hb hs 3 x := by
  rw [← ic_w3]
  unfold ic_hb
  rw [ic_b3m, ic_hom, ic_b2m, ic_b2m, ic_b2m]
  rcases ic_b01 hs 0 x with a | a <;> rcases ic_b01 hs 1 x with b | b <;> rcases ic_b01 hs 2 x with c | c <;> rw [a, b, c] <;> decide
theorem ic_w0 (hs : Nat → Int32) (x : Nat) : ic_hb hs 1 x + ic_hb hs 2 x + ic_hb hs 3 x + ic_hb hs 0 x = 1 := by
  unfold ic_hb
  rw [ic_hom]
  rcases ic_b01 hs 0 x with a | a <;> rcases ic_b01 hs 1 x with b | b <;> rcases ic_b01 hs 2 x with c | c <;> rw [a, b, c] <;> decide
/-- alone -/
def ic_al (hs : Nat → Int32) (p x : Nat) : Int32 := if hs (64 * p + x) = 0 then 0 else if ic_ho hs x = 1 then 1 else 0
theorem ic_alm (hs : Nat → Int32) (p x : Nat) : ic_al hs p x = ic_b hs p x * (if ic_ho hs x = 1 then 1 else 0) := by
  unfold ic_al
  by_cases c : hs (64 * p + x) = 0
  · have : ic_b hs p x = 0 := if_pos c
    rw [if_pos c, this, Int32.zero_mul]
  · have : ic_b hs p x = 1 := if_neg c
    rw [if_neg c, this, Int32.one_mul]
theorem ic_wa (hs : Nat → Int32) {p : Nat} (hp : p < 3) (x : Nat) : ic_al hs p x = ic_b hs p x - ic_b2 hs p (ic_q p) x - ic_b2 hs p (ic_r p) x + ic_b3 hs p (ic_q p) (ic_r p) x := by
  rw [ic_alm, ic_b3m, ic_b2m, ic_b2m, ic_hom]
  have h : p = 0 ∨ p = 1 ∨ p = 2 := by omega
  have q0 : ic_q 0 = 1 := rfl
  have q1 : ic_q 1 = 0 := rfl
  have q2 : ic_q 2 = 0 := rfl
  have r0 : ic_r 0 = 2 := rfl
  have r1 : ic_r 1 = 2 := rfl
  have r2 : ic_r 2 = 1 := rfl
  rcases h with h | h | h
  · subst h
    rw [q0, r0]
    rcases ic_b01 hs 0 x with a | a <;> rcases ic_b01 hs 1 x with b | b <;> rcases ic_b01 hs 2 x with c | c <;> rw [a, b, c] <;> decide
  · subst h
    rw [q1, r1]
    rcases ic_b01 hs 0 x with a | a <;> rcases ic_b01 hs 1 x with b | b <;> rcases ic_b01 hs 2 x with c | c <;> rw [a, b, c] <;> decide
  · subst h
    rw [q2, r2]
    rcases ic_b01 hs 0 x with a | a <;> rcases ic_b01 hs 1 x with b | b <;> rcases ic_b01 hs 2 x with c | c <;> rw [a, b, c] <;> decide
end
section
/-! ===== hitNumber and the reference's search for the i-th ===== -/
/-- x is marked by g, and v marks stand ahead of it -/
def ic_C (g : Nat → Int32) (v : Int32) (x : Nat) : Prop := ¬ g x = 0 ∧ ic_sm g x = v
section
variable {rd lt : Int32} {it wt sz ex sn og ht hs wg : Nat → Int32} {n : Nat → Nat} {f : Nat → Nat → Nat} {e : Nat → Nat} {p q : Nat} {ys : Int32}
theorem ic_m0 {k : Nat} : ic_m ht k = 0 ↔ ht k = 0 := by
  unfold ic_m
  by_cases c : ht k = 0
  · rw [if_pos c]
    exact ⟨fun _ => c, fun _ => rfl⟩
  · rw [if_neg c]
    exact ⟨fun z => absurd z (by decide), fun z => absurd z c⟩
theorem ix_hitNumber {post : Int32 → Prop} {l m : Nat} {v : Int32} (hl : l < 3) (hm : m ≤ 16) (es : sz l = nI m)
    (h1 : ∀ k, k < m → ic_C (ic_m ht) v k → (∀ j, j < k → ¬ ic_C (ic_m ht) v j) → post (nI k))
    (h0 : (∀ j, j < m → ¬ ic_C (ic_m ht) v j) → post (-1)) : wpX_hitNumber post (rd, lt, it, wt, sz, ex, sn, og, ht) (nI l) v := by
  have key : ∀ (d i : Nat) (x3 : Int32), i + d = m → x3 = v - ic_sm (ic_m ht) i → (∀ j, j < i → ¬ ic_C (ic_m ht) v j) → wX_hitNumber_5 post (nI l) rd lt it wt sz ex sn og ht (d + 1) x3 (nI i) := by
    intro d
    induction d with
    | zero =>
      intro i x3 hid hx hne
      have e2 : i = m := by omega
      subst e2
      refine ⟨ic_in3 hl, ?_⟩
      rw [ic_cl3 hl, es]
      exact br_t (nI_le (Nat.le_refl _) (by omega)) (h0 hne)
    | succ d ih =>
      intro i x3 hid hx hne
      refine ⟨ic_in3 hl, ?_⟩
      rw [ic_cl3 hl, es]
      refine br_f (nI_ge (by omega) (by omega)) ⟨vp_in_nI (by omega) (by decide), ?_⟩
      rw [nI_clamp (n := i) (by omega)]
      have ext : ¬ ic_C (ic_m ht) v i → ∀ j, j < i + 1 → ¬ ic_C (ic_m ht) v j := by
        intro h j hj
        by_cases c : j = i
        · subst c; exact h
        · exact hne j (by omega)
      refine br_c (fun z => nm_r (nI_1 i) (ih (i + 1) x3 (by omega) ?_ (ext (fun c => c.1 (ic_m0.mpr z))))) (fun z => br_c (fun z2 => h1 i (by omega) ⟨fun c => z (ic_m0.mp c), ?_⟩ hne) (fun z2 => nm_e (nm_r (nI_1 i) (ih (i + 1) _ (by omega) ?_ (ext (fun c => z2 ?_))))))
      · rw [hx, ic_s0 (g := ic_m ht) (n := i) (ic_m0.mpr z)]
      · rw [hx] at z2
        grind
      · have e1 : ic_m ht i = 1 := if_neg z
        rw [hx, ic_sS, e1]
        grind
      · rw [hx, c.2]
        grind
  exact ⟨m + 1, key m 0 v (by omega) (by show v = v - 0; grind) (fun j hj => absurd hj (by omega))⟩
theorem iy_commonItem_30 {post : Int32 → SY → Prop} {v : Int32} (hp : p < 3) (hq : q < 3)
    (h1 : ∀ x, x < 64 → ic_C (ic_b2 hs p q) v x → (∀ j, j < x → ¬ ic_C (ic_b2 hs p q) v j) → post (nI x) (ys, hs, wg))
    (h0 : (∀ j, j < 64 → ¬ ic_C (ic_b2 hs p q) v j) → post (-2) (ys, hs, wg)) : ∃ m, wY_commonItem_30 post (nI p) (nI q) v ys hs wg m 0 0 := by
  have key : ∀ (d i : Nat), i + d = 64 → (∀ j, j < i → ¬ ic_C (ic_b2 hs p q) v j) → wY_commonItem_30 post (nI p) (nI q) v ys hs wg (d + 1) (ic_sm (ic_b2 hs p q) i) (nI i) := by
    intro d
    induction d with
    | zero =>
      intro i hid hne
      have e2 : i = 64 := by omega
      subst e2
      exact br_t ic_le64 (h0 hne)
    | succ d ih =>
      intro i hid hne
      have hi : i < 64 := by omega
      have ext : ¬ ic_C (ic_b2 hs p q) v i → ∀ j, j < i + 1 → ¬ ic_C (ic_b2 hs p q) v j := by
        intro h j hj
        by_cases c : j = i
        · subst c; exact h
        · exact hne j (by omega)
      have no : ic_b2 hs p q i = 0 → wY_commonItem_30 post (nI p) (nI q) v ys hs wg (d + 1) (ic_sm (ic_b2 hs p q) i) (nI (i + 1)) := by
        intro z
        rw [ic_s0 (g := ic_b2 hs p q) (n := i) z]
        exact ih (i + 1) (by omega) (ext (fun c => c.1 z))
      refine br_f (ic_ge64 hi) ⟨ic_i64 hp hi, ?_⟩
      rw [ic_c64 hp hi]
      refine br_c (fun z => nm_r (nI_1 i) (no (if_pos z))) (fun z => ⟨ic_i64 hq hi, ?_⟩)
      rw [ic_c64 hq hi]
      have eb : ic_b2 hs p q i = ic_b hs q i := if_neg z
      refine br_c (fun z2 => nm_r (nI_1 i) (no (by rw [eb]; exact if_pos z2))) (fun z2 => ?_)
      have e1 : ic_b2 hs p q i = 1 := by rw [eb]; exact if_neg z2
      refine br_c (fun z3 => h1 i hi ⟨by rw [e1]; decide, z3⟩ hne) (fun z3 => nm_r (ic_s1 (g := ic_b2 hs p q) (n := i) e1) (nm_r (nI_1 i) (ih (i + 1) (by omega) (ext (fun c => z3 c.2)))))
  exact ⟨65, key 64 0 rfl (fun j hj => absurd hj (by omega))⟩
theorem iy_itemOfAll_4 {post : Int32 → Prop} {v : Int32}
    (h1 : ∀ x, x < 64 → ic_C (ic_hb hs 3) v x → (∀ j, j < x → ¬ ic_C (ic_hb hs 3) v j) → post (nI x))
    (h0 : (∀ j, j < 64 → ¬ ic_C (ic_hb hs 3) v j) → post (-1)) : ∃ m, wY_itemOfAll_4 post v ys hs wg m 0 0 := by
  have key : ∀ (d i : Nat), i + d = 64 → (∀ j, j < i → ¬ ic_C (ic_hb hs 3) v j) → wY_itemOfAll_4 post v ys hs wg (d + 1) (ic_sm (ic_hb hs 3) i) (nI i) := by
    intro d
    induction d with
    | zero =>
      intro i hid hne
      have e2 : i = 64 := by omega
      subst e2
      exact br_t ic_le64 (h0 hne)
    | succ d ih =>
      intro i hid hne
      have hi : i < 64 := by omega
      have ext : ¬ ic_C (ic_hb hs 3) v i → ∀ j, j < i + 1 → ¬ ic_C (ic_hb hs 3) v j := by
        intro h j hj
        by_cases c : j = i
        · subst c; exact h
        · exact hne j (by omega)
      refine br_f (ic_ge64 hi) (iy_holders hi ?_)
      refine br_c (fun z => ?_) (fun z => nm_r (nI_1 i) ?_)
      · have e1 : ic_hb hs 3 i = 1 := if_pos z
        exact br_c (fun z3 => h1 i hi ⟨by rw [e1]; decide, z3⟩ hne) (fun z3 => nm_r (ic_s1 (g := ic_hb hs 3) (n := i) e1) (nm_r (nI_1 i) (ih (i + 1) (by omega) (ext (fun c => z3 c.2)))))
      · have e1 : ic_hb hs 3 i = 0 := if_neg z
        rw [ic_s0 (g := ic_hb hs 3) (n := i) e1]
        exact ih (i + 1) (by omega) (ext (fun c => c.1 e1))
  exact ⟨65, key 64 0 rfl (fun j hj => absurd hj (by omega))⟩
/-- the i-th mark of the list is the i-th of the table -/
theorem ic_Cc (F : ic_F n f e it wt sz ex hs wg) (hp : p < 3) (a g G : Nat → Int32) (hG : ∀ x, G x = if hs (64 * p + x) = 0 then 0 else g x) (h : ∀ s, s < n p → a s = g (f p s)) {v : Int32} {k : Nat} (hk : k < n p) : ic_C a v k ↔ ic_C G v (f p k) := by
  have e1 : G (f p k) = a k := by
    rw [hG, if_neg ((ic_Fm F hp hp hk).mp ⟨k, hk, rfl⟩), h k hk]
  have e2 : ic_sm a k = ic_sm G (f p k) := by
    rw [ic_Fbp F hp a g h hk]
    exact ic_smc _ (fun j _ => (hG j).symm)
  unfold ic_C
  rw [e1, e2]
theorem ic_Cx (F : ic_F n f e it wt sz ex hs wg) (hp : p < 3) (g G : Nat → Int32) (hG : ∀ x, G x = if hs (64 * p + x) = 0 then 0 else g x) {v : Int32} {x : Nat} (hx : x < 64) (c : ic_C G v x) : ∃ k, k < n p ∧ f p k = x := by
  refine ((F p hp).1.2.1 x hx).mp (fun z => c.1 ?_)
  rw [hG, if_pos z]
theorem ic_Cf (F : ic_F n f e it wt sz ex hs wg) (hp : p < 3) (a g G : Nat → Int32) (hG : ∀ x, G x = if hs (64 * p + x) = 0 then 0 else g x) (h : ∀ s, s < n p → a s = g (f p s)) {v : Int32} {k x : Nat} (hk : k < n p) (ck : ic_C a v k) (lk : ∀ j, j < k → ¬ ic_C a v j) (hx : x < 64) (cx : ic_C G v x) (lx : ∀ j, j < x → ¬ ic_C G v j) : x = f p k := by
  have h1 := (ic_Cc F hp a g G hG h hk).mp ck
  obtain ⟨k2, hk2, e2⟩ := ic_Cx F hp g G hG hx cx
  have h2 : ¬ f p k < x := fun c => lx _ c h1
  have h3 : ¬ k2 < k := fun c => lk k2 c ((ic_Cc F hp a g G hG h hk2).mpr (by rw [e2]; exact cx))
  by_cases c : k = k2
  · subst c; exact e2.symm
  · have := (F p hp).1.1.2.2.2 k k2 (by omega) hk2
    omega
end
end
section
/-! ===== the queries' statements ===== -/
section
variable {rd lt : Int32} {it wt sz ex sn og ht hs wg : Nat → Int32} {n : Nat → Nat} {f : Nat → Nat → Nat} {e : Nat → Nat} {p q : Nat} {ys : Int32}
theorem iy_note {post : SY → Prop} (F : ic_F n f e it wt sz ex hs wg) (hp : p < 3) (hq : q < 3) (H : post ((if p = q then ys else nI (n p) + nI (n q) - ic_sm (ic_b2 hs p q) 64), hs, wg)) : wpY_note post (ys, hs, wg) (nI p) (nI q) := by
  refine pk_eq p q (fun c => ?_) (fun c => iy_size hp (iy_size hq (iy_shared hp hq (nm_e ?_)))) rfl rfl (by omega) (by omega)
  · rw [if_pos c] at H
    exact H
  · rw [if_neg c] at H
    rw [ic_Fs F hp, ic_Fs F hq]
    exact H
theorem iy_alone_14 {post : Int32 → Prop} (hp : p < 3) (H : post (ic_sm (ic_al hs p) 64)) : ∃ m, wY_alone_14 post (nI p) ys hs wg m 0 0 := by
  refine ic_lp (fun n a c => wY_alone_14 post (nI p) ys hs wg n a c) (ic_al hs p) 64 (fun n => br_t ic_le64 H) (fun n i hi ih => ?_)
  refine br_f (ic_ge64 hi) ⟨ic_i64 hp hi, ?_⟩
  rw [ic_c64 hp hi]
  refine br_c (fun z => nm_r (nI_1 i) ?_) (fun z => iy_holders hi (br_c (fun z2 => nm_r (ic_s1 (g := ic_al hs p) (n := i) ?_) (nm_r (nI_1 i) ih)) (fun z2 => nm_r (nI_1 i) ?_)))
  · have e1 : ic_al hs p i = 0 := if_pos z
    rw [ic_s0 (n := i) e1]
    exact ih
  · rw [ic_al, if_neg z, if_pos z2]
  · have e1 : ic_al hs p i = 0 := by rw [ic_al, if_neg z, if_neg z2]
    rw [ic_s0 (n := i) e1]
    exact ih
def ic_cw (hs wg : Nat → Int32) (p q x : Nat) : Int32 := if hs (64 * q + x) = 0 then 0 else wg (64 * p + x)
theorem iy_commonWeight_29 {post : Int32 → SY → Prop} (hp : p < 3) (hq : q < 3) (H : post (ic_sm (fun x => if hs (64 * p + x) = 0 then 0 else ic_cw hs wg p q x) 64) (ys, hs, wg)) : ∃ m, wY_commonWeight_29 post (nI p) (nI q) ys hs wg m 0 0 := by
  refine ic_lp (fun n a c => wY_commonWeight_29 post (nI p) (nI q) ys hs wg n a c) (fun x => if hs (64 * p + x) = 0 then 0 else ic_cw hs wg p q x) 64 (fun n => br_t ic_le64 H) (fun n i hi ih => ?_)
  have no : (fun x => if hs (64 * p + x) = 0 then 0 else ic_cw hs wg p q x) i = 0 → wY_commonWeight_29 post (nI p) (nI q) ys hs wg n (ic_sm (fun x => if hs (64 * p + x) = 0 then 0 else ic_cw hs wg p q x) i) (nI (i + 1)) := by
    intro z
    rw [ic_s0 (g := fun x => if hs (64 * p + x) = 0 then 0 else ic_cw hs wg p q x) (n := i) z]
    exact ih
  refine br_f (ic_ge64 hi) ⟨ic_i64 hp hi, ?_⟩
  rw [ic_c64 hp hi]
  refine br_c (fun z => nm_r (nI_1 i) (no (if_pos z))) (fun z => ⟨ic_i64 hq hi, ?_⟩)
  rw [ic_c64 hq hi]
  refine br_c (fun z2 => nm_r (nI_1 i) (no ?_)) (fun z2 => ⟨ic_i64 hp hi, nm_r (ic_s1 (g := fun x => if hs (64 * p + x) = 0 then 0 else ic_cw hs wg p q x) (n := i) ?_) (nm_r (nI_1 i) ih)⟩)
  · show (if hs (64 * p + i) = 0 then 0 else ic_cw hs wg p q i) = 0
    rw [if_neg z]
    exact if_pos z2
  · show (if hs (64 * p + i) = 0 then 0 else ic_cw hs wg p q i) = _
    rw [if_neg z]
    exact if_neg z2
theorem ix_commonWeight_27 {post : Int32 → SX → Prop} {l m : Nat} (hl : l < 3) (hm : m ≤ 16) (es : sz l = nI m) (H : post (ic_sm (fun k => if ht k = 0 then 0 else wt (16 * l + k)) m) (rd, lt, it, wt, sz, ex, sn, og, ht)) : ∃ j, wX_commonWeight_27 post (nI l) rd lt it wt sz ex sn og ht j 0 0 := by
  refine ic_lp (fun n a c => wX_commonWeight_27 post (nI l) rd lt it wt sz ex sn og ht n a c) (fun k => if ht k = 0 then 0 else wt (16 * l + k)) m (fun j => ?_) (fun j i hi ih => ?_)
  · refine ⟨ic_in3 hl, ?_⟩
    rw [ic_cl3 hl, es]
    exact br_t (nI_le (Nat.le_refl _) (by omega)) H
  · refine ⟨ic_in3 hl, ?_⟩
    rw [ic_cl3 hl, es, ic_fil, nI_clamp (n := 16 * l + i) (by omega)]
    refine br_f (nI_ge (by omega) (by omega)) ⟨vp_in_nI (by omega) (by decide), ?_⟩
    rw [nI_clamp (n := i) (by omega)]
    exact br_c (fun z => nm_r (ic_s1 (g := fun k => if ht k = 0 then 0 else wt (16 * l + k)) (n := i) (if_pos z)) (nm_r (nI_1 i) ih)) (fun z => ⟨vp_in_nI (by omega) (by decide), nm_r (ic_s1 (g := fun k => if ht k = 0 then 0 else wt (16 * l + k)) (n := i) (if_neg z)) (nm_r (nI_1 i) ih)⟩)
/-- heldByJust for 1, 2, 3 -/
theorem ix_three {post : Int32 → SX → Prop} (F : ic_F n f e it wt sz ex hs wg) (H : ∀ rd' sn' og' ht', post (ic_sm (ic_hb hs 3) 64) (rd', lt, it, wt, sz, ex, sn', og', ht')) :
    wpX_compareThree (fun u => wpX_hits (fun r => post r u) u 0) (rd, lt, it, wt, sz, ex, sn, og, ht) 0 := by
  refine ix_cmp3 (p := 0) F (by decide) (fun rd' sn' og' ht' h => ix_hits (l := 0) (by decide) (ic_Fn F (by decide)) (ic_Fz F (by decide)) ?_)
  have a := ic_hit3 (p := 0) F (by decide) h
  have b : ic_sm (ic_b3 hs 0 (ic_q 0) (ic_r 0)) 64 = ic_sm (ic_hb hs 3) 64 := ic_smc 64 (fun j _ => ic_w3 hs j)
  rw [a, b]
  exact H rd' sn' og' ht'
theorem ix_hbj {post : Int32 → SX → Prop} {k : Nat} (F : ic_F n f e it wt sz ex hs wg) (h1 : 1 ≤ k) (h3 : k ≤ 3) (H : ∀ rd' sn' og' ht', post (ic_sm (ic_hb hs (nI k)) 64) (rd', lt, it, wt, sz, ex, sn', og', ht')) :
    wpX_heldByJust post (rd, lt, it, wt, sz, ex, sn, og, ht) (nI k) := by
  refine br_f (nI_nlt (a := k) (b := 1) (by omega) (by omega)) (br_t (nI_le (a := k) (b := 3) (by omega) (by decide)) ?_)
  refine ix_three (post := fun r_13 u => ((nI k = 3 → post r_13 u) ∧ (¬ nI k = 3 → wpX_pairCount (fun r_24 u => wpX_pairCount (fun r_34 u => wpX_pairCount (fun r_44 u => match u with | (f_random_45, f_lastTraffic_46, a_items_47, a_weights_48, a_sizes_49, a_exponents_50, a_sent_51, a_origin_52, a_hit_53) => (∀ x3_54 : Int32, x3_54 = (r_24 + r_34) + r_44 → (((nI k = 2 → (post (x3_54 - (3 * r_13)) (f_random_45, f_lastTraffic_46, a_items_47, a_weights_48, a_sizes_49, a_exponents_50, a_sent_51, a_origin_52, a_hit_53))) ∧ (¬ nI k = 2 → (post (((((a_sizes_49 0) + (a_sizes_49 1)) + (a_sizes_49 2)) - (2 * x3_54)) + (3 * r_13)) (f_random_45, f_lastTraffic_46, a_items_47, a_weights_48, a_sizes_49, a_exponents_50, a_sent_51, a_origin_52, a_hit_53))))))) u 1 2) u 0 2) u 0 1))) F (fun rd' sn' og' ht' => ?_)
  refine pk_eq k 3 (fun c => ?_) (fun c => ?_) rfl rfl (by omega) (by decide)
  · subst c
    exact H rd' sn' og' ht'
  · refine ix_pair (p := 0) (q := 1) F (by decide) (by decide) (fun rd1 sn1 og1 ht1 => ?_)
    refine ix_pair (p := 0) (q := 2) F (by decide) (by decide) (fun rd2 sn2 og2 ht2 => ?_)
    refine ix_pair (p := 1) (q := 2) F (by decide) (by decide) (fun rd3 sn3 og3 ht3 => ?_)
    refine nm_e (pk_eq k 2 (fun d => ?_) (fun d => ?_) rfl rfl (by omega) (by decide))
    · subst d
      rw [ic_id2 _ _ _ _ (ic_hb hs 2) 64 (fun j _ => ic_w2 hs j)]
      exact H rd3 sn3 og3 ht3
    · have k1 : k = 1 := by omega
      subst k1
      rw [ic_Fz F (p := 0) (by decide), ic_Fz F (p := 1) (by decide), ic_Fz F (p := 2) (by decide), ← ic_Fs F (p := 0) (by decide), ← ic_Fs F (p := 1) (by decide), ← ic_Fs F (p := 2) (by decide), ic_id1 _ _ _ _ _ _ _ (ic_hb hs 1) 64 (fun j _ => ic_w1 hs j)]
      exact H rd3 sn3 og3 ht3
end
theorem i_vc_commonToAll {k : Nat} {u : SX} {v : SY} (I : i_Rel k u v) (hk : k + 4 ≤ 2051) : wpX_commonToAll (fun r u' => wpY_commonToAll (fun r' => r' = r ∧ i_Rel (k + 4) u' v) v) u := by
  obtain ⟨rd, lt, it, wt, sz, ex, sn, og, ht⟩ := u
  obtain ⟨ys, hs, wg⟩ := v
  obtain ⟨I1, I2, I3⟩ := I
  obtain ⟨n, f, e, F⟩ := ic_fun I2 I3
  exact ix_three (post := fun r u' => wpY_commonToAll (fun r' => r' = r ∧ i_Rel (k + 4) u' (ys, hs, wg)) (ys, hs, wg)) F (fun rd' sn' og' ht' => iy_heldBy ⟨rfl, I1, I2, I3⟩)
theorem i_vc_heldByJust {k : Nat} {u : SX} {v : SY} (I : i_Rel k u v) (hk : k + 4 ≤ 2051) (v1 : Int32) : wpX_heldByJust (fun r u' => wpY_heldByJust (fun r' => r' = r ∧ i_Rel (k + 4) u' v) v v1) u v1 := by
  obtain ⟨rd, lt, it, wt, sz, ex, sn, og, ht⟩ := u
  obtain ⟨ys, hs, wg⟩ := v
  obtain ⟨I1, I2, I3⟩ := I
  by_cases h1 : v1 < 1
  · exact br_t h1 (br_t h1 ⟨rfl, I1, I2, I3⟩)
  · by_cases h3 : v1 ≤ 3
    · obtain ⟨n, f, e, F⟩ := ic_fun I2 I3
      have h0 : ¬ v1 < 0 := by
        rw [Int32.lt_iff_toInt_lt] at h1 ⊢
        have z1 : (1 : Int32).toInt = 1 := by decide
        have z0 : (0 : Int32).toInt = 0 := by decide
        omega
      obtain ⟨j, hj, rfl⟩ := nI_of2 (M := 3) (n := 3) (by decide) h0 h3
      have hj1 : 1 ≤ j := by
        rcases Nat.lt_or_ge j 1 with c | c
        · exact absurd (nI_lt (a := j) (b := 1) c (by decide)) h1
        · exact c
      exact ix_hbj F hj1 hj (fun rd' sn' og' ht' => br_f h1 (br_t h3 (iy_heldBy ⟨rfl, I1, I2, I3⟩)))
    · exact br_f h1 (br_f h3 (br_f h1 (br_f h3 ⟨rfl, I1, I2, I3⟩)))
theorem i_vc_any {k : Nat} {u : SX} {v : SY} (I : i_Rel k u v) (hk : k + 4 ≤ 2051) : wpX_any (fun r u' => wpY_any (fun r' => r' = r ∧ i_Rel (k + 4) u' v) v) u := by
  obtain ⟨rd, lt, it, wt, sz, ex, sn, og, ht⟩ := u
  obtain ⟨ys, hs, wg⟩ := v
  obtain ⟨I1, I2, I3⟩ := I
  obtain ⟨n, f, e, F⟩ := ic_fun I2 I3
  unfold wpX_any
  dsimp only
  refine ix_hbj (k := 1) F (by decide) (by decide) (fun rd1 sn1 og1 ht1 => ?_)
  refine ix_hbj (k := 2) F (by decide) (by decide) (fun rd2 sn2 og2 ht2 => ?_)
  refine ix_hbj (k := 3) F (by decide) (by decide) (fun rd3 sn3 og3 ht3 => ?_)
  refine iy_heldBy ⟨?_, I1, I2, I3⟩
  exact (ic_id4 (ic_hb hs 1) (ic_hb hs 2) (ic_hb hs 3) (ic_hb hs 0) 64 (fun j _ => ic_w0 hs j)).symm
theorem i_vc_itemOfAll {k : Nat} {u : SX} {v : SY} (I : i_Rel k u v) (hk : k + 4 ≤ 2051) (v1 : Int32) : wpX_itemOfAll (fun r u' => wpY_itemOfAll (fun r' => r' = r ∧ i_Rel (k + 4) u' v) v v1) u v1 := by
  obtain ⟨rd, lt, it, wt, sz, ex, sn, og, ht⟩ := u
  obtain ⟨ys, hs, wg⟩ := v
  obtain ⟨I1, I2, I3⟩ := I
  obtain ⟨n, f, e, F⟩ := ic_fun I2 I3
  refine ix_cmp3 (p := 0) F (by decide) (fun rd' sn' og' ht' h => ?_)
  have hG : ∀ x, ic_hb hs 3 x = if hs (64 * 0 + x) = 0 then 0 else ic_b2 hs (ic_q 0) (ic_r 0) x := fun x => (ic_w3 hs x).symm
  have hn := ic_Fn F (p := 0) (by decide)
  refine ix_hitNumber (l := 0) (by decide) hn (ic_Fz F (by decide)) (fun j hj cj lj => br_t (nI_pos' (by omega)) ⟨vp_in_nI (by omega) (by decide), ?_⟩) (fun none => br_f (by decide) ?_)
  · have ei := ((F 0 (by decide)).1.1.2.2.1 j hj).2
    rw [Nat.mul_zero, Nat.zero_add] at ei
    rw [nI_clamp (by omega), ei]
    refine iy_itemOfAll_4 (fun x hx cx lx => ⟨?_, I1, I2, I3⟩) (fun c => absurd ((ic_Cc F (by decide) _ _ _ hG h hj).mp cj) (c _ (ic_F64 F (by decide) hj)))
    rw [ic_Cf F (by decide) _ _ _ hG h hj cj lj hx cx lx]
  · refine iy_itemOfAll_4 (fun x hx cx lx => ?_) (fun _ => ⟨rfl, I1, I2, I3⟩)
    obtain ⟨j, hj, ej⟩ := ic_Cx F (p := 0) (by decide) _ _ hG hx cx
    subst ej
    exact absurd ((ic_Cc F (by decide) _ _ _ hG h hj).mpr cx) (none j hj)
theorem i_vc_common {k : Nat} {u : SX} {v : SY} (I : i_Rel k u v) (hk : k + 4 ≤ 2051) (v1 : Int32) (v2 : Int32) : wpX_common (fun r u' => wpY_common (fun r' v' => r' = r ∧ i_Rel (k + 4) u' v') v v1 v2) u v1 v2 := by
  obtain ⟨rd, lt, it, wt, sz, ex, sn, og, ht⟩ := u
  obtain ⟨ys, hs, wg⟩ := v
  obtain ⟨I1, I2, I3⟩ := I
  subst I1
  rcases ic_pc v1 with ⟨p, hp, rfl⟩ | hb
  · rcases ic_pc v2 with ⟨q, hq, rfl⟩ | hb2
    · obtain ⟨n, f, e, F⟩ := ic_fun I2 I3
      refine ix_pt hp (ix_pt hq (ix_cmp2 F hp hq (fun rd' sn' og' ht' h => ix_hits hp (ic_Fn F hp) (ic_Fz F hp) (iy_pt (u := (lt, hs, wg)) hp (iy_pt (u := (lt, hs, wg)) hq (iy_note F hp hq (iy_shared hp hq ⟨?_, rfl, I2, I3⟩)))))))
      exact (ic_hit2 F hp h).symm
    · exact ix_pt hp (ix_pf hb2 (iy_pt (u := (lt, hs, wg)) hp (iy_pf (u := (lt, hs, wg)) hb2 ⟨rfl, rfl, I2, I3⟩)))
  · exact ix_pf hb (iy_pf (u := (lt, hs, wg)) hb ⟨rfl, rfl, I2, I3⟩)
theorem i_vc_within {k : Nat} {u : SX} {v : SY} (I : i_Rel k u v) (hk : k + 4 ≤ 2051) (v1 : Int32) (v2 : Int32) : wpX_within (fun r u' => wpY_within (fun r' v' => r' = r ∧ i_Rel (k + 4) u' v') v v1 v2) u v1 v2 := by
  obtain ⟨rd, lt, it, wt, sz, ex, sn, og, ht⟩ := u
  obtain ⟨ys, hs, wg⟩ := v
  obtain ⟨I1, I2, I3⟩ := I
  subst I1
  rcases ic_pc v1 with ⟨p, hp, rfl⟩ | hb
  · rcases ic_pc v2 with ⟨q, hq, rfl⟩ | hb2
    · obtain ⟨n, f, e, F⟩ := ic_fun I2 I3
      refine ix_pt hp (ix_pt hq (ix_cmp2 F hp hq (fun rd' sn' og' ht' h => ix_hits hp (ic_Fn F hp) (ic_Fz F hp) ⟨ic_in3 hp, ?_⟩)))
      rw [ic_cl3 hp, ic_Fz F hp, ic_hit2 F hp h]
      refine br_c (fun z => iy_pt (u := (lt, hs, wg)) hp (iy_pt (u := (lt, hs, wg)) hq (iy_note F hp hq (iy_shared hp hq (iy_size hp (br_t ?_ ⟨rfl, rfl, I2, I3⟩)))))) (fun z => iy_pt (u := (lt, hs, wg)) hp (iy_pt (u := (lt, hs, wg)) hq (iy_note F hp hq (iy_shared hp hq (iy_size hp (br_f ?_ ⟨rfl, rfl, I2, I3⟩))))))
      · rw [ic_Fs F hp]
        exact z
      · rw [ic_Fs F hp]
        exact z
    · exact ix_pt hp (ix_pf hb2 (iy_pt (u := (lt, hs, wg)) hp (iy_pf (u := (lt, hs, wg)) hb2 ⟨rfl, rfl, I2, I3⟩)))
  · exact ix_pf hb (iy_pf (u := (lt, hs, wg)) hb ⟨rfl, rfl, I2, I3⟩)
theorem i_vc_commonWeight {k : Nat} {u : SX} {v : SY} (I : i_Rel k u v) (hk : k + 4 ≤ 2051) (v1 : Int32) (v2 : Int32) : wpX_commonWeight (fun r u' => wpY_commonWeight (fun r' v' => r' = r ∧ i_Rel (k + 4) u' v') v v1 v2) u v1 v2 := by
  obtain ⟨rd, lt, it, wt, sz, ex, sn, og, ht⟩ := u
  obtain ⟨ys, hs, wg⟩ := v
  obtain ⟨I1, I2, I3⟩ := I
  subst I1
  rcases ic_pc v1 with ⟨p, hp, rfl⟩ | hb
  · rcases ic_pc v2 with ⟨q, hq, rfl⟩ | hb2
    · obtain ⟨n, f, e, F⟩ := ic_fun I2 I3
      refine ix_pt hp (ix_pt hq (ix_cmp2 F hp hq (fun rd' sn' og' ht' h => ix_commonWeight_27 hp (ic_Fn F hp) (ic_Fz F hp) (iy_pt (u := (lt, hs, wg)) hp (iy_pt (u := (lt, hs, wg)) hq (iy_note F hp hq (iy_commonWeight_29 hp hq ⟨?_, rfl, I2, I3⟩)))))))
      refine (ic_Fb F hp _ (ic_cw hs wg p q) (fun s hs' => ?_)).symm
      show (if ht' s = 0 then 0 else wt (16 * p + s)) = if hs (64 * q + f p s) = 0 then 0 else wg (64 * p + f p s)
      by_cases c : ht' s = 0
      · rw [if_pos c, if_pos ((h s hs').mp c)]
      · rw [if_neg c, if_neg (fun d => c ((h s hs').mpr d))]
        exact (F p hp).1.2.2 s hs'
    · exact ix_pt hp (ix_pf hb2 (iy_pt (u := (lt, hs, wg)) hp (iy_pf (u := (lt, hs, wg)) hb2 ⟨rfl, rfl, I2, I3⟩)))
  · exact ix_pf hb (iy_pf (u := (lt, hs, wg)) hb ⟨rfl, rfl, I2, I3⟩)
theorem i_vc_commonItem {k : Nat} {u : SX} {v : SY} (I : i_Rel k u v) (hk : k + 4 ≤ 2051) (v1 : Int32) (v2 : Int32) (v3 : Int32) : wpX_commonItem (fun r u' => wpY_commonItem (fun r' v' => r' = r ∧ i_Rel (k + 4) u' v') v v1 v2 v3) u v1 v2 v3 := by
  obtain ⟨rd, lt, it, wt, sz, ex, sn, og, ht⟩ := u
  obtain ⟨ys, hs, wg⟩ := v
  obtain ⟨I1, I2, I3⟩ := I
  subst I1
  rcases ic_pc v1 with ⟨p, hp, rfl⟩ | hb
  · rcases ic_pc v2 with ⟨q, hq, rfl⟩ | hb2
    · obtain ⟨n, f, e, F⟩ := ic_fun I2 I3
      have hn := ic_Fn F hp
      have hG : ∀ x, ic_b2 hs p q x = if hs (64 * p + x) = 0 then 0 else ic_b hs q x := fun x => rfl
      refine ix_pt hp (ix_pt hq (ix_cmp2 F hp hq (fun rd' sn' og' ht' h => ?_)))
      have hm : ∀ s, s < n p → ic_m ht' s = ic_b hs q (f p s) := fun s hs' => ic_mb (h s hs')
      refine ix_hitNumber hp hn (ic_Fz F hp) (fun j0 hj0 cj0 lj0 => br_t (nI_pos' (by omega)) (ix_hitNumber hp hn (ic_Fz F hp) (fun j hj cj lj => ⟨?_, ?_⟩) (fun none => absurd cj0 (none j0 hj0)))) (fun none => br_f (by decide) (iy_pt (u := (lt, hs, wg)) hp (iy_pt (u := (lt, hs, wg)) hq (iy_note F hp hq (iy_commonItem_30 hp hq (fun x hx cx lx => ?_) (fun _ => ⟨rfl, rfl, I2, I3⟩))))))
      · rw [ic_fil]
        exact vp_in_nI (by omega) (by decide)
      · have ei := ((F p hp).1.1.2.2.1 j hj).2
        rw [ic_fil, nI_clamp (by omega), ei]
        refine iy_pt (u := (lt, hs, wg)) hp (iy_pt (u := (lt, hs, wg)) hq (iy_note F hp hq (iy_commonItem_30 hp hq (fun x hx cx lx => ⟨?_, rfl, I2, I3⟩) (fun c => absurd ((ic_Cc F hp _ _ _ hG hm hj).mp cj) (c _ (ic_F64 F hp hj))))))
        rw [ic_Cf F hp _ _ _ hG hm hj cj lj hx cx lx]
      · obtain ⟨j, hj, ej⟩ := ic_Cx F hp _ _ hG hx cx
        subst ej
        exact absurd ((ic_Cc F hp _ _ _ hG hm hj).mpr cx) (none j hj)
    · exact ix_pt hp (ix_pf hb2 (iy_pt (u := (lt, hs, wg)) hp (iy_pf (u := (lt, hs, wg)) hb2 ⟨rfl, rfl, I2, I3⟩)))
  · exact ix_pf hb (iy_pf (u := (lt, hs, wg)) hb ⟨rfl, rfl, I2, I3⟩)
theorem i_vc_alone {k : Nat} {u : SX} {v : SY} (I : i_Rel k u v) (hk : k + 4 ≤ 2051) (v1 : Int32) : wpX_alone (fun r u' => wpY_alone (fun r' => r' = r ∧ i_Rel (k + 4) u' v) v v1) u v1 := by
  obtain ⟨rd, lt, it, wt, sz, ex, sn, og, ht⟩ := u
  obtain ⟨ys, hs, wg⟩ := v
  obtain ⟨I1, I2, I3⟩ := I
  rcases ic_pc v1 with ⟨p, hp, rfl⟩ | hb
  · obtain ⟨n, f, e, F⟩ := ic_fun I2 I3
    have hq : ic_q p < 3 := by unfold ic_q; split <;> omega
    have hr : ic_r p < 3 := by unfold ic_r ic_q; split <;> omega
    have er : (3 : Int32) - nI p - nI (ic_q p) = nI (ic_r p) := by
      have h : p = 0 ∨ p = 1 ∨ p = 2 := by omega
      rcases h with h | h | h <;> subst h <;> decide
    have main : wX_alone_18 (fun r u' => wpY_alone (fun r' => r' = r ∧ i_Rel (k + 4) u' (ys, hs, wg)) (ys, hs, wg) (nI p)) (nI p) (nI (ic_q p)) rd lt it wt sz ex sn og ht := by
      refine nm_r er (ix_cmp3 F hp (fun rd1 sn1 og1 ht1 h => ix_hits hp (ic_Fn F hp) (ic_Fz F hp) ⟨ic_in3 hp, ix_pair F hp hq (fun rd2 sn2 og2 ht2 => ix_pair F hp hr (fun rd3 sn3 og3 ht3 => iy_pt (u := (ys, hs, wg)) hp (iy_alone_14 hp ⟨?_, I1, I2, I3⟩)))⟩))
      rw [ic_cl3 hp, ic_Fz F hp, ← ic_Fs F hp, ic_hit3 F hp h]
      exact (ic_id3 _ _ _ _ (ic_al hs p) 64 (fun j _ => ic_wa hs hp j)).symm
    refine ix_pt hp (pk_eq p 0 (fun z => ?_) (fun z => ?_) rfl rfl (by omega) (by decide))
    · have q1 : ic_q p = 1 := if_pos z
      rw [q1] at main
      exact main
    · have q1 : ic_q p = 0 := if_neg z
      rw [q1] at main
      exact main
  · exact ix_pf hb (iy_pf (u := (ys, hs, wg)) hb ⟨rfl, I1, I2, I3⟩)
end
section
/-! ===== giveMany ===== -/
def ic_bt (w : Int64) (j : Nat) : Bool := w.toBitVec.getLsbD j
theorem ic_bt0 {w : Int64} {j : Nat} (hj : j < 64) : ((w.toUInt64 >>> ((nI j).toInt64.toUInt64 &&& Int64.toUInt64 63)).toInt64 &&& 1) = 0 ↔ ic_bt w j = false := by
  rw [wb_cu j hj]
  exact ts_bit hj (Nat.mod_eq_of_lt (by omega))
theorem ic_bt1 {w : Int64} {j : Nat} (hj : j < 64) : ((w.toUInt64 >>> ((nI j).toInt64.toUInt64 &&& Int64.toUInt64 63)).toInt64 &&& 1) = 1 ↔ ic_bt w j = true := by
  have h := ic_bt0 (w := w) hj
  obtain ⟨m, hm, em⟩ := wb_of ((w.toUInt64 >>> ((nI j).toInt64.toUInt64 &&& Int64.toUInt64 63)).toInt64)
  rw [em, wb_a1 hm] at h ⊢
  have z0 : lN 0 = 0 := by decide
  have z1 : lN 1 = 1 := by decide
  have c : m % 2 = 0 ∨ m % 2 = 1 := by omega
  rcases c with c | c
  · rw [c, z0] at h ⊢
    rw [h.mp rfl]
    decide
  · rw [c, z1] at h ⊢
    have b : ic_bt w j = true := ts_nf (fun d => absurd (h.mpr d) (by decide))
    rw [b]
    exact ⟨fun _ => rfl, fun _ => rfl⟩
theorem ic_sh1 : ∀ j, j < 64 → ((1 : Int64) <<< ((nI j).toInt64 &&& 63)).toBitVec = BitVec.twoPow 64 j := by decide +kernel
theorem ic_btS {w : Int64} {j i : Nat} (hj : j < 64) : ic_bt (w ||| ((1 : Int64) <<< ((nI j).toInt64 &&& 63))) i = (ic_bt w i || decide (j = i)) := by
  unfold ic_bt
  rw [Int64.toBitVec_or, ic_sh1 j hj, BitVec.getLsbD_or, BitVec.getLsbD_twoPow]
  simp [hj]
theorem ic_bt00 (j : Nat) : ic_bt 0 j = false := BitVec.getLsbD_zero
/-- whether x is among the first c items fr, fr + st, .. -/
def ic_am (fr st : Nat) : Nat → Nat → Bool
  | 0, _ => false
  | c + 1, x => ic_am fr st c x || decide ((fr + c * st) % 64 = x)
theorem ic_amS (fr st c x : Nat) : ic_am fr st (c + 1) x = (ic_am fr st c x || decide ((fr + c * st) % 64 = x)) := rfl
theorem ic_amM {fr st x c : Nat} (h : ic_am fr st c x = true) : ∀ d, ic_am fr st (c + d) x = true := by
  intro d
  induction d with
  | zero => exact h
  | succ d ih =>
    have e : c + (d + 1) = (c + d) + 1 := by omega
    rw [e, ic_amS, ih, Bool.true_or]
section
variable {rd lt : Int32} {it wt sz ex sn og ht hs wg : Nat → Int32} {n : Nat} {f : Nat → Nat} {p : Nat} {ys : Int32}
theorem iy_among {post : Int32 → Prop} {fr cn st x : Nat} (hfr : fr < 64) (hcn : cn ≤ 16) (hst : st ≤ 63) (hx : x < 64) (h1 : ic_am fr st cn x = true → post 1) (h0 : ic_am fr st cn x = false → post 0) : wpY_among post (ys, hs, wg) (nI fr) (nI cn) (nI st) (nI x) := by
  have key : ∀ d i, i + d = cn → ic_am fr st i x = false → wY_among_3 post (nI fr) (nI cn) (nI st) (nI x) ys hs wg (d + 1) (nI i) := by
    intro d
    induction d with
    | zero =>
      intro i hid h
      have e2 : i = cn := by omega
      subst e2
      exact br_t (nI_le (Nat.le_refl _) (by omega)) (h0 h)
    | succ d ih =>
      intro i hid h
      have hb : i * st ≤ 16 * 63 := Nat.mul_le_mul (by omega) hst
      have er : (nI fr + nI i * nI st) - (nI fr + nI i * nI st) / 64 * 64 = nI ((fr + i * st) % 64) := by
        rw [pk_mul, nI_add]
        exact pk_rem (d := 64) (by omega) (by decide) (by decide)
      refine br_f (nI_ge (by omega) (by omega)) ⟨by decide, ?_⟩
      rw [er]
      have hm : (fr + i * st) % 64 < 64 := Nat.mod_lt _ (by decide)
      refine pk_eq ((fr + i * st) % 64) x (fun z => h1 ?_) (fun z => nm_r (nI_1 i) (ih (i + 1) (by omega) ?_)) rfl rfl (by omega) (by omega)
      · have t : ic_am fr st (i + 1) x = true := by
          rw [ic_amS, decide_eq_true z, Bool.or_true]
        have t2 := ic_amM t d
        have e3 : i + 1 + d = cn := by omega
        rw [e3] at t2
        exact t2
      · rw [ic_amS, h, decide_eq_false z, Bool.false_or]
  exact ⟨cn + 1, key cn 0 (by omega) rfl⟩
/-- the items that are to come in -/
def ic_fr (hs : Nat → Int32) (p fr st cn : Nat) (j : Nat) : Bool := ic_am fr st cn j && decide (hs (64 * p + j) = 0)
theorem iy_gm58 {post : Int32 → SY → Prop} {fr cn st : Nat} (hp : p < 3) (hn : n ≤ 16) (es : ic_sm (ic_b hs p) 64 = nI n) (hfr : fr < 64) (hcn : cn ≤ 16) (hst : st ≤ 63)
    (H1 : n + ic_ct (ic_fr hs p fr st cn) 64 ≤ 16 → ∃ m, wY_giveMany_122 post (nI p) (nI st) (nI cn) (nI fr) ys m 0 hs wg)
    (H2 : 16 < n + ic_ct (ic_fr hs p fr st cn) 64 → post (-4) (ys, hs, wg)) :
    ∃ m, wY_giveMany_58 post (nI p) (nI st) (nI cn) (nI fr) ys hs wg m 0 0 := by
  have key : ∀ d i, i + d = 64 → wY_giveMany_58 post (nI p) (nI st) (nI cn) (nI fr) ys hs wg (d + 1) (nI (ic_ct (ic_fr hs p fr st cn) i)) (nI i) := by
    intro d
    induction d with
    | zero =>
      intro i hid
      have e2 : i = 64 := by omega
      subst e2
      have hc := ic_cle (ic_fr hs p fr st cn) 64
      refine br_t ic_le64 (iy_size hp ?_)
      rw [es, nI_add]
      exact pk_le (n + ic_ct (ic_fr hs p fr st cn) 64) 16 H1 H2 rfl rfl (by omega) (by decide)
    | succ d ih =>
      intro i hid
      have hi : i < 64 := by omega
      have no : ic_fr hs p fr st cn i = false → wY_giveMany_58 post (nI p) (nI st) (nI cn) (nI fr) ys hs wg (d + 1) (nI (ic_ct (ic_fr hs p fr st cn) i)) (nI (i + 1)) := by
        intro z
        rw [← ic_c0 z]
        exact ih (i + 1) (by omega)
      refine br_f (ic_ge64 hi) (iy_among hfr hcn hst hi (fun a => br_f (by decide) ⟨ic_i64 hp hi, ?_⟩) (fun a => br_t rfl (nm_r (nI_1 i) (no ?_))))
      · rw [ic_c64 hp hi]
        refine br_c (fun z => ?_) (fun z => nm_r (nI_1 i) (no ?_))
        · have t : ic_fr hs p fr st cn i = true := by rw [ic_fr, a, decide_eq_true z, Bool.true_and]
          rw [nI_1, ← ic_c1 t]
          exact nm_e (nm_r (nI_1 i) (ih (i + 1) (by omega)))
        · rw [ic_fr, decide_eq_false z, Bool.and_false]
      · rw [ic_fr, a, Bool.false_and]
  exact ⟨65, key 64 0 rfl⟩
theorem ix_gm48 {post : Int32 → SX → Prop} {sp st : Nat} (hp : p < 3) (D : ic_D p n f it sz) (Hh : ic_H p n f hs) (hsp : sp ≤ 1087) (hst : st ≤ 63)
    (H : ∀ w : Int64, (∀ j, j < 64 → ic_bt w j = ic_fr hs p (sp % 64) st (sp / 64) j) → (n + ic_ct (ic_fr hs p (sp % 64) st (sp / 64)) 64 ≤ 16 → ∃ m, wX_giveMany_131 post (nI p) w m 0 rd lt it wt sz ex sn og ht) ∧ (16 < n + ic_ct (ic_fr hs p (sp % 64) st (sp / 64)) 64 → post (-4) (rd, lt, it, wt, sz, ex, sn, og, ht))) :
    ∃ m, wX_giveMany_48 post (nI p) (nI sp) (nI st) rd lt it wt sz ex sn og ht m 0 0 0 := by
  have hn := D.1
  have es : (nI sp) >>> ((6 : Int32) &&& 31) = nI (sp / 64) := pk_shrN (by omega) _ 6 (by decide)
  have key : ∀ (d i : Nat) (w : Int64) (a : Nat), i + d = sp / 64 → (∀ j, j < 64 → ic_bt w j = ic_fr hs p (sp % 64) st i j) → a = ic_ct (ic_bt w) 64 → wX_giveMany_48 post (nI p) (nI sp) (nI st) rd lt it wt sz ex sn og ht (d + 1) w (nI a) (nI i) := by
    intro d
    induction d with
    | zero =>
      intro i w a hid hw ha
      have e2 : i = sp / 64 := by omega
      subst e2
      have hc := ic_cle (ic_bt w) 64
      have t := H w hw
      rw [← ic_cc 64 hw, ← ha] at t
      refine br_t ?_ ⟨ic_in3 hp, ?_⟩
      · rw [es]
        exact nI_le (Nat.le_refl _) (by omega)
      · rw [ic_cl3 hp, D.2.1, nI_add]
        exact pk_le (n + a) 16 t.1 t.2 rfl rfl (by omega) (by decide)
    | succ d ih =>
      intro i w a hid hw ha
      have hb : i * st ≤ 16 * 63 := Nat.mul_le_mul (by omega) hst
      have ex8 : ((nI sp &&& 63) + (nI i * nI st)) &&& 63 = nI ((sp % 64 + i * st) % 64) := by
        have h1 : nI sp &&& 63 = nI (sp % 64) := pk_andN (by omega) 6 (by decide)
        rw [h1, pk_mul, nI_add]
        exact pk_andN (by omega) 6 (by decide)
      have hx : (sp % 64 + i * st) % 64 < 64 := Nat.mod_lt _ (by decide)
      have hS : ∀ j, ic_fr hs p (sp % 64) st (i + 1) j = ((ic_am (sp % 64) st i j || decide ((sp % 64 + i * st) % 64 = j)) && decide (hs (64 * p + j) = 0)) := fun j => rfl
      have hS0 : ∀ j, ic_fr hs p (sp % 64) st i j = (ic_am (sp % 64) st i j && decide (hs (64 * p + j) = 0)) := fun j => rfl
      generalize (sp % 64 + i * st) % 64 = x at ex8 hx hS
      refine br_f ?_ (nm_r ex8 (ix_find hp hx D (fun k hk ek => br_t (nI_pos' (by omega)) (nm_r (nI_1 i) (ih (i + 1) w a (by omega) (fun j hj => ?_) ha))) (fun hne => br_f (by decide) ?_)))
      · rw [es]
        exact nI_ge (by omega) (by omega)
      · rw [hw j hj, hS0, hS]
        by_cases c : x = j
        · subst c
          have hz : ¬ hs (64 * p + x) = 0 := (Hh x hx).mpr ⟨k, hk, ek⟩
          rw [decide_eq_false hz, Bool.and_false, Bool.and_false]
        · rw [decide_eq_false c, Bool.or_false]
      · have hz : hs (64 * p + x) = 0 := by
          by_cases z : hs (64 * p + x) = 0
          · exact z
          · obtain ⟨j, hj, ej⟩ := (Hh x hx).mp z
            exact absurd ej (hne j hj)
        refine br_c (fun z => ?_) (fun z => ?_)
        · have b0 : ic_bt w x = false := (ic_bt0 hx).mp z
          refine nm_e (nm_r (nI_1 a) (nm_r (nI_1 i) (ih (i + 1) _ (a + 1) (by omega) (fun j hj => ?_) ?_)))
          · rw [ic_btS hx, hw j hj, hS0, hS]
            by_cases c : x = j
            · subst c
              rw [decide_eq_true hz, Bool.and_true, Bool.and_true]
            · rw [decide_eq_false c, Bool.or_false, Bool.or_false]
          · rw [ha]
            refine (ic_cset b0 ?_ 64 hx (fun i2 _ hne2 => ?_)).symm
            · rw [ic_btS hx, decide_eq_true rfl, Bool.or_true]
            · rw [ic_btS hx, decide_eq_false (fun c => hne2 c.symm), Bool.or_false]
        · have b1 : ic_bt w x = true := ts_nf (fun c => z ((ic_bt0 hx).mpr c))
          refine nm_r (nI_1 i) (ih (i + 1) w a (by omega) (fun j hj => ?_) ha)
          rw [hw j hj, hS0, hS]
          by_cases c : x = j
          · subst c
            rw [hw x hx, hS0, decide_eq_true hz, Bool.and_true] at b1
            rw [b1, Bool.true_or]
          · rw [decide_eq_false c, Bool.or_false]
  refine ⟨sp / 64 + 1, key (sp / 64) 0 0 0 (by omega) (fun j _ => ?_) ?_⟩
  · rw [ic_bt00]
    rfl
  · have t : ∀ N, ic_ct (ic_bt 0) N = 0 := by
      intro N
      induction N with
      | zero => rfl
      | succ N ih => rw [ic_c0 (ic_bt00 N), ih]
    exact (t 64).symm
/-- the second loop of both, as one outcome -/
theorem ic_gm2 {w : Int64} {fr cn st : Nat} (hp : p < 3) (hfr : fr < 64) (hcn : cn ≤ 16) (hst : st ≤ 63) : ∀ (d i n : Nat) (f : Nat → Nat) (it wt sz hs wg : Nat → Int32), i + d = 64 → ic_R it wt sz hs wg → ic_D p n f it sz → ic_H p n f hs → ic_W p n f wt wg →
    (∀ j, i ≤ j → j < 64 → ic_bt w j = ic_fr hs p fr st cn j) → n + ic_ct (ic_bt w) 64 ≤ 16 + ic_ct (ic_bt w) i →
    ∃ (n' : Nat) (it' wt' sz' hs' wg' : Nat → Int32), ic_R it' wt' sz' hs' wg' ∧ (∀ post : Int32 → SX → Prop, post (nI n') (rd, lt, it', wt', sz', ex, sn, og, ht) → wX_giveMany_131 post (nI p) w (d + 1) (nI i) rd lt it wt sz ex sn og ht) ∧ (∀ post : Int32 → SY → Prop, post (nI n') (ys, hs', wg') → wY_giveMany_122 post (nI p) (nI st) (nI cn) (nI fr) ys (d + 1) (nI i) hs wg) := by
  intro d
  induction d with
  | zero =>
    intro i n f it wt sz hs wg hid R D Hh Ww hw hr
    have e2 : i = 64 := by omega
    subst e2
    refine ⟨n, it, wt, sz, hs, wg, R, fun post h => br_t ic_le64 ⟨ic_in3 hp, ?_⟩, fun post h => br_t ic_le64 (iy_size hp ?_)⟩
    · rw [ic_cl3 hp, D.2.1]
      exact h
    · rw [ic_size D Hh]
      exact h
  | succ d ih =>
    intro i n f it wt sz hs wg hid R D Hh Ww hw hr
    have hi : i < 64 := by omega
    have hwi := hw i (Nat.le_refl _) hi
    by_cases b : ic_bt w i = true
    · have hb := hwi
      rw [b, ic_fr] at hb
      have ham : ic_am fr st cn i = true := by
        cases h : ic_am fr st cn i with
        | true => rfl
        | false => rw [h, Bool.false_and] at hb; exact absurd hb (by decide)
      have hz : hs (64 * p + i) = 0 := by
        by_cases z : hs (64 * p + i) = 0
        · exact z
        · rw [decide_eq_false z, Bool.and_false] at hb
          exact absurd hb (by decide)
      have hct := ic_c1 b
      have hmono := ic_cmono (ic_bt w) (i + 1) (64 - (i + 1))
      have e64 : i + 1 + (64 - (i + 1)) = 64 := by omega
      rw [e64] at hmono
      have hn : n < 16 := by omega
      have hne : ∀ k, k < n → f k ≠ i := fun k hk ek => (Hh i hi).mpr ⟨k, hk, ek⟩ hz
      obtain ⟨a, ha, hl, hg⟩ := ic_place i n D.2.2.2 hne
      have hc : ¬ vp_nar .boolean 1 = 0 := by rw [ic_nb1]; decide
      obtain ⟨n', it', wt', sz', hs', wg', R', hX, hY⟩ := ih (i + 1) (n + 1) _ _ _ _ _ _ (by omega) (ic_insR (w := 1) R hc hi D Hh Ww hn ha hl hg) (ic_insD hi D hn ha hl hg) (ic_insH hc Hh ha) (ic_insW Ww ha hl hg) (fun j h1 h2 => by
        rw [hw j (by omega) h2]
        unfold ic_fr
        rw [pk_un (by omega)]) (by omega)
      refine ⟨n', it', wt', sz', hs', wg', R', fun post h => br_f (ic_ge64 hi) (br_t ((ic_bt1 hi).mpr b) (ix_insert hp hi D hn ha hl hg ⟨vp_in_nI (by omega) (by decide), ?_⟩)), fun post h => br_f (ic_ge64 hi) (iy_among hfr hcn hst hi (fun _ => br_f (by decide) ⟨ic_i64 hp hi, ?_⟩) (fun c => absurd (ham.symm.trans c) (by decide)))⟩
      · rw [nI_clamp (by omega)]
        exact nm_e (nm_r (nI_1 i) (hX post h))
      · rw [ic_c64 hp hi]
        exact br_t hz ⟨ic_i64 hp hi, nm_e ⟨ic_i64 hp hi, nm_e (nm_r (nI_1 i) (hY post h))⟩⟩
    · have b0 : ic_bt w i = false := ts_nt b
      have hct := ic_c0 b0
      obtain ⟨n', it', wt', sz', hs', wg', R', hX, hY⟩ := ih (i + 1) n f it wt sz hs wg (by omega) R D Hh Ww (fun j h1 h2 => hw j (by omega) h2) (by omega)
      refine ⟨n', it', wt', sz', hs', wg', R', fun post h => br_f (ic_ge64 hi) (br_f (fun c => b ((ic_bt1 hi).mp c)) (nm_r (nI_1 i) (hX post h))), fun post h => br_f (ic_ge64 hi) (iy_among hfr hcn hst hi (fun c => br_f (by decide) ⟨ic_i64 hp hi, ?_⟩) (fun c => br_t rfl (nm_r (nI_1 i) (hY post h))))⟩
      rw [ic_c64 hp hi]
      refine br_f (fun z => b ?_) (nm_r (nI_1 i) (hY post h))
      rw [hwi, ic_fr, c, decide_eq_true z, Bool.true_and]
end
theorem i_vc_giveMany {k : Nat} {u : SX} {v : SY} (I : i_Rel k u v) (hk : k + 4 ≤ 2051) (v1 : Int32) (v2 : Int32) (v3 : Int32) : wpX_giveMany (fun r u' => wpY_giveMany (fun r' v' => r' = r ∧ i_Rel (k + 4) u' v') v v1 v2 v3) u v1 v2 v3 := by
  obtain ⟨rd, lt, it, wt, sz, ex, sn, og, ht⟩ := u
  obtain ⟨ys, hs, wg⟩ := v
  obtain ⟨I1, I2, I3⟩ := I
  rcases ic_pc v1 with ⟨p, hp, rfl⟩ | hb
  · by_cases h1 : v2 < 64
    · exact ix_pt hp (br_t h1 (iy_pt (u := (ys, hs, wg)) hp (br_t h1 ⟨rfl, I1, I2, I3⟩)))
    · by_cases h2 : v2 ≤ 1087
      · by_cases h3 : v3 < 1
        · exact ix_pt hp (br_f h1 (br_t h2 (br_t h3 (iy_pt (u := (ys, hs, wg)) hp (br_f h1 (br_t h2 (br_t h3 ⟨rfl, I1, I2, I3⟩)))))))
        · by_cases h4 : v3 ≤ 63
          · have h10 : ¬ v2 < 0 := by
              rw [Int32.lt_iff_toInt_lt] at h1 ⊢
              have z1 : (64 : Int32).toInt = 64 := by decide
              have z0 : (0 : Int32).toInt = 0 := by decide
              omega
            have h30 : ¬ v3 < 0 := by
              rw [Int32.lt_iff_toInt_lt] at h3 ⊢
              have z1 : (1 : Int32).toInt = 1 := by decide
              have z0 : (0 : Int32).toInt = 0 := by decide
              omega
            obtain ⟨sp, hsp, rfl⟩ := nI_of2 (M := 1087) (n := 1087) (by decide) h10 h2
            obtain ⟨st, hst, rfl⟩ := nI_of2 (M := 63) (n := 63) (by decide) h30 h4
            obtain ⟨n, f, D, Hh, Ww⟩ := I2 p hp
            have hn := D.1
            have ec : nI sp / 64 = nI (sp / 64) := pk_div (d := 64) (by omega) (by decide) (by decide)
            have er : nI sp - nI sp / 64 * 64 = nI (sp % 64) := pk_rem (d := 64) (by omega) (by decide) (by decide)
            have hfr : sp % 64 < 64 := Nat.mod_lt _ (by decide)
            have hcn : sp / 64 ≤ 16 := by omega
            refine ix_pt hp (br_f h1 (br_t h2 (br_f h3 (br_t h4 (ix_gm48 hp D Hh hsp hst (fun w hw => ⟨fun c => ?_, fun c => ?_⟩))))))
            · obtain ⟨n', it', wt', sz', hs', wg', R', hX, hY⟩ := ic_gm2 (rd := rd) (lt := lt) (ex := ex) (sn := sn) (og := og) (ht := ht) (ys := ys) (w := w) hp hfr hcn hst 64 0 n f it wt sz hs wg rfl I2 D Hh Ww (fun j _ hj => hw j hj) (by rw [ic_cc 64 hw]; exact Nat.le_trans c (Nat.le_add_right _ _))
              exact ⟨65, hX _ (iy_pt (u := (ys, hs, wg)) hp (br_f h1 (br_t h2 (br_f h3 (br_t h4 ⟨by decide, nm_r ec ⟨by decide, nm_r er (iy_gm58 hp hn (ic_size D Hh) hfr hcn hst (fun _ => ⟨65, hY _ ⟨rfl, I1, R', I3⟩⟩) (fun c2 => absurd c2 (by omega)))⟩⟩)))))⟩
            · exact iy_pt (u := (ys, hs, wg)) hp (br_f h1 (br_t h2 (br_f h3 (br_t h4 ⟨by decide, nm_r ec ⟨by decide, nm_r er (iy_gm58 hp hn (ic_size D Hh) hfr hcn hst (fun c2 => absurd c2 (by omega)) (fun _ => ⟨rfl, I1, I2, I3⟩))⟩⟩))))
          · exact ix_pt hp (br_f h1 (br_t h2 (br_f h3 (br_f h4 (iy_pt (u := (ys, hs, wg)) hp (br_f h1 (br_t h2 (br_f h3 (br_f h4 ⟨rfl, I1, I2, I3⟩)))))))))
      · exact ix_pt hp (br_f h1 (br_f h2 (iy_pt (u := (ys, hs, wg)) hp (br_f h1 (br_f h2 ⟨rfl, I1, I2, I3⟩)))))
  · exact ix_pf hb (iy_pf (u := (ys, hs, wg)) hb ⟨rfl, I1, I2, I3⟩)
end
