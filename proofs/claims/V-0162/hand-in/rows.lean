section
/-! rows taken from the kit's PURE-ROWS and BITS (starting texts) -/
theorem pk_us {f : Nat → Int32} {k : Nat} {x : Int32} : upd f k x k = x := if_pos rfl
theorem pk_un {f : Nat → Int32} {k j : Nat} {x : Int32} (h : j ≠ k) : upd f k x j = f j := if_neg h
theorem pk_uLs {f : Nat → Int64} {k : Nat} {x : Int64} : vp_updL f k x k = x := if_pos rfl
theorem pk_uLn {f : Nat → Int64} {k j : Nat} {x : Int64} (h : j ≠ k) : vp_updL f k x j = f j := if_neg h
theorem pk_sub {a b : Nat} (h : b ≤ a) : nI a - nI b = nI (a - b) := by
  obtain ⟨c, rfl⟩ : ∃ c, a = c + b := ⟨a - b, by omega⟩
  rw [← nI_add, Int32.add_sub_cancel, Nat.add_sub_cancel]
theorem pk_m1 (n : Nat) : nI (n + 1) + (-1) = nI n := by
  rw [← nI_1, Int32.add_assoc, show (1 : Int32) + (-1) = 0 from rfl, Int32.add_zero]
theorem pk_mul (a b : Nat) : nI a * nI b = nI (a * b) := (Int32.ofNat_mul a b).symm
theorem pk_div {a d : Nat} (ha : a < 2 ^ 31) (h0 : 0 < d) (hd : d < 2 ^ 31) : nI a / nI d = nI (a / d) := by
  apply Int32.toInt_inj.mp
  rw [lg_idiv_nonneg (by rw [nI_toInt ha]; omega) (by rw [nI_toInt hd]; omega), nI_toInt ha, nI_toInt hd, nI_toInt (Nat.lt_of_le_of_lt (Nat.div_le_self a d) ha)]
  first | rfl | exact (Int.natCast_ediv _ _).symm
theorem pk_rem {a d : Nat} (ha : a < 2 ^ 31) (h0 : 0 < d) (hd : d < 2 ^ 31) : nI a - nI a / nI d * nI d = nI (a % d) := by
  rw [pk_div ha h0 hd, pk_mul, pk_sub (Nat.div_mul_le_self a d)]
  exact congrArg nI (by have := Nat.div_add_mod' a d; omega)
theorem pk_sub_toInt {a b : Nat} (ha : a < 2 ^ 30) (hb : b < 2 ^ 30) : (nI a - nI b).toInt = (a : Int) - b := by
  rw [Int32.toInt_sub, nI_toInt (by omega), nI_toInt (by omega)]
  exact Int.bmod_eq_of_le (by omega) (by omega)
theorem pk_sneg {a b : Nat} (hb : b < 2 ^ 30) (h : a < b) : nI a - nI b < 0 := by
  rw [Int32.lt_iff_toInt_lt, pk_sub_toInt (by omega) hb, show (0 : Int32).toInt = 0 from by decide]
  omega
theorem pk_ix (x : Int32) {n : Nat} (hn : n < 2 ^ 31) : x < 0 ∨ nI n ≤ x ∨ ∃ j : Nat, j < n ∧ x = nI j := by
  by_cases h : x < 0
  · exact Or.inl h
  · obtain ⟨j, hj, rfl⟩ := nI_of h
    by_cases h2 : j < n
    · exact Or.inr (Or.inr ⟨j, h2, rfl⟩)
    · exact Or.inr (Or.inl (nI_le (by omega) hj))
theorem pk_le {x y : Int32} {A B : Prop} (a b : Nat) (f : a ≤ b → A) (g : b < a → B) (hx : x = nI a := by rfl) (hy : y = nI b := by rfl) (ha : a < 2 ^ 31 := by omega) (hb : b < 2 ^ 31 := by omega) : (x ≤ y → A) ∧ (¬ x ≤ y → B) := by
  subst hx hy
  rw [nI_leI ha hb]
  exact ⟨f, fun z => g (by omega)⟩
theorem pk_lt {x y : Int32} {A B : Prop} (a b : Nat) (f : a < b → A) (g : b ≤ a → B) (hx : x = nI a := by rfl) (hy : y = nI b := by rfl) (ha : a < 2 ^ 31 := by omega) (hb : b < 2 ^ 31 := by omega) : (x < y → A) ∧ (¬ x < y → B) := by
  subst hx hy
  rw [nI_ltI ha hb]
  exact ⟨f, fun z => g (by omega)⟩
theorem pk_eq {x y : Int32} {A B : Prop} (a b : Nat) (f : a = b → A) (g : a ≠ b → B) (hx : x = nI a := by rfl) (hy : y = nI b := by rfl) (ha : a < 2 ^ 31 := by omega) (hb : b < 2 ^ 31 := by omega) : (x = y → A) ∧ (¬ x = y → B) := by
  subst hx hy
  rw [nI_eq ha hb]
  exact ⟨f, g⟩
theorem pk_in {x : Int32} (n N : Nat) (h : n < N) (hx : x = nI n := by rfl) (hN : N < 2 ^ 31 := by omega) : vp_in x N := by
  subst hx
  exact vp_in_nI h hN
theorem pk_cl {x : Int32} (n : Nat) (hx : x = nI n := by rfl) (h : n < 2 ^ 31 := by omega) : x.toNatClampNeg = n := by
  subst hx
  exact nI_clamp h
theorem pk_tn {n : Nat} (h : n < 2 ^ 32) : (nI n).toBitVec.toNat = n := Nat.mod_eq_of_lt h
theorem pk_and (x : Int32) {m : Int32} (k : Nat) (hm : m.toBitVec.toNat = 2 ^ k - 1) : x &&& m = nI (x.toBitVec.toNat % 2 ^ k) := by
  apply Int32.toBitVec_inj.mp
  apply BitVec.eq_of_toNat_eq
  rw [Int32.toBitVec_and, BitVec.toNat_and, hm, Nat.and_two_pow_sub_one_eq_mod]
  show _ = (BitVec.ofNat 32 _).toNat
  rw [BitVec.toNat_ofNat]
  exact (Nat.mod_eq_of_lt (Nat.lt_of_le_of_lt (Nat.mod_le _ _) x.toBitVec.isLt)).symm
theorem pk_andN {n : Nat} (h : n < 2 ^ 32) {m : Int32} (k : Nat) (hm : m.toBitVec.toNat = 2 ^ k - 1) : nI n &&& m = nI (n % 2 ^ k) := by
  rw [pk_and _ k hm, pk_tn h]
theorem pk_andE (x : Int32) {m : Int32} (k : Nat) (hm : m.toBitVec.toNat = 2 ^ k - 1) : ∃ j : Nat, j < 2 ^ k ∧ x &&& m = nI j := ⟨_, Nat.mod_lt _ (Nat.two_pow_pos k), pk_and x k hm⟩
theorem pk_andIn (x : Int32) {m : Int32} (k : Nat) (hm : m.toBitVec.toNat = 2 ^ k - 1) (hk : k ≤ 30) : vp_in (x &&& m) (2 ^ k) := by
  obtain ⟨j, hj, e⟩ := pk_andE x k hm
  rw [e]
  exact vp_in_nI hj (Nat.lt_of_le_of_lt (Nat.pow_le_pow_right (by decide) hk) (by decide))
theorem pk_shl (a s : Int32) (k : Nat) (hs : (s.toBitVec.smod 32).toNat = k) : (a <<< s).toBitVec.toNat = a.toBitVec.toNat * 2 ^ k % 2 ^ 32 := by
  show (a.toBitVec <<< (s.toBitVec.smod 32).toNat).toNat = _
  rw [hs, BitVec.toNat_shiftLeft, Nat.shiftLeft_eq]
theorem pk_shlN {n : Nat} (s : Int32) (k : Nat) (hs : (s.toBitVec.smod 32).toNat = k) (h : n * 2 ^ k < 2 ^ 32) : nI n <<< s = nI (n * 2 ^ k) := by
  apply Int32.toBitVec_inj.mp
  apply BitVec.eq_of_toNat_eq
  have hn : n < 2 ^ 32 := Nat.lt_of_le_of_lt (Nat.le_mul_of_pos_right n (Nat.two_pow_pos k)) h
  rw [pk_shl _ _ k hs, pk_tn hn, pk_tn h, Nat.mod_eq_of_lt h]
theorem pk_shr (a s : Int32) (k : Nat) (hs : (s.toBitVec.smod 32).toNat = k) : (a >>> s).toInt = a.toInt >>> k := by
  show (a.toBitVec.sshiftRight (s.toBitVec.smod 32).toNat).toInt = _
  rw [hs, BitVec.toInt_sshiftRight]
  rfl
theorem pk_shrN {n : Nat} (h : n < 2 ^ 31) (s : Int32) (k : Nat) (hs : (s.toBitVec.smod 32).toNat = k) : nI n >>> s = nI (n / 2 ^ k) := by
  apply Int32.toInt_inj.mp
  have h2 : n / 2 ^ k ≤ n := Nat.div_le_self _ _
  rw [pk_shr _ _ k hs, nI_toInt h, nI_toInt (by omega), Int.shiftRight_eq_div_pow]
  rfl
/-! bits -/
def bt (x : Int32) (i : Nat) : Bool := x.toBitVec.getLsbD i
theorem b_ext {x y : Int32} (h : ∀ i, i < 32 → bt x i = bt y i) : x = y := Int32.toBitVec_inj.mp (BitVec.eq_of_getLsbD_eq (fun i hi => h i hi))
theorem b_or (x y : Int32) (i : Nat) : bt (x ||| y) i = (bt x i || bt y i) := by unfold bt; rw [Int32.toBitVec_or, BitVec.getLsbD_or]
theorem b_and (x y : Int32) (i : Nat) : bt (x &&& y) i = (bt x i && bt y i) := by unfold bt; rw [Int32.toBitVec_and, BitVec.getLsbD_and]
theorem b_xor (x y : Int32) (i : Nat) : bt (x ^^^ y) i = (bt x i ^^ bt y i) := by unfold bt; rw [Int32.toBitVec_xor, BitVec.getLsbD_xor]
theorem b_big {x : Int32} {i : Nat} (h : 32 ≤ i) : bt x i = false := BitVec.getLsbD_of_ge _ _ h
theorem b_255 (i : Nat) : bt 255 i = decide (i < 8) := by
  rcases Nat.lt_or_ge i 32 with h | h
  · exact (by decide +kernel : ∀ i, i < 32 → bt 255 i = decide (i < 8)) i h
  · rw [b_big h, decide_eq_false (by omega)]
theorem b_65535 (i : Nat) : bt 65535 i = decide (i < 16) := by
  rcases Nat.lt_or_ge i 32 with h | h
  · exact (by decide +kernel : ∀ i, i < 32 → bt 65535 i = decide (i < 16)) i h
  · rw [b_big h, decide_eq_false (by omega)]
theorem b_m1 : ∀ i, i < 32 → bt (-1) i = true := by decide +kernel
theorem b_0 (i : Nat) : bt 0 i = false := BitVec.getLsbD_zero
theorem s_l : ∀ n, n < 32 → ((nI n &&& 31).toBitVec.smod 32).toNat = n := by decide +kernel
theorem s_u : ∀ n, n < 32 → (((nI n).toUInt32 &&& Int32.toUInt32 31).toBitVec % 32).toNat = n := by decide +kernel
theorem b_shl (n : Nat) (hn : n < 32) (x : Int32) {i : Nat} (hi : i < 32) : bt (x <<< (nI n &&& 31)) i = (decide (n ≤ i) && bt x (i - n)) := by
  unfold bt
  rw [Int32.toBitVec_shiftLeft]
  show (x.toBitVec <<< ((nI n &&& 31).toBitVec.smod 32).toNat).getLsbD i = _
  rw [s_l n hn, BitVec.getLsbD_shiftLeft]
  rcases Nat.lt_or_ge i n with h | h
  · simp [h, Nat.not_le.mpr h]
  · simp [hi, h, Nat.not_lt.mpr h]
end
section
/-! arrays of naturals, sums over an injection -/
def fs_A (f : Nat → Nat) : Nat → Int32 := fun i => nI (f i)
def fs_u (f : Nat → Nat) (k v : Nat) : Nat → Nat := fun j => if j = k then v else f j
theorem fs_us {f : Nat → Nat} {k v : Nat} : fs_u f k v k = v := if_pos rfl
theorem fs_un {f : Nat → Nat} {k v j : Nat} (h : j ≠ k) : fs_u f k v j = f j := if_neg h
theorem fs_up (f : Nat → Nat) (k v : Nat) : upd (fs_A f) k (nI v) = fs_A (fs_u f k v) := by
  funext j
  unfold upd fs_A fs_u
  by_cases h : j = k
  · rw [if_pos h, if_pos h]
  · rw [if_neg h, if_neg h]
theorem fs_Ai (f : Nat → Nat) {x : Nat} (hx : x < 2 ^ 31) : fs_A f (nI x).toNatClampNeg = nI (f x) := by
  unfold fs_A
  rw [nI_clamp hx]
theorem fs_Ae (f : Nat → Nat) (x : Nat) : fs_A f x = nI (f x) := rfl
theorem fs_ue (f : Nat → Nat) (k : Nat) : fs_u f k (f k) = f := by
  funext j
  by_cases h : j = k
  · rw [h, fs_us]
  · rw [fs_un h]
def fs_S (f : Nat → Nat) : Nat → Nat
  | 0 => 0
  | n + 1 => fs_S f n + f n
theorem fs_S0 (f : Nat → Nat) : fs_S f 0 = 0 := rfl
theorem fs_S1 (f : Nat → Nat) (n : Nat) : fs_S f (n + 1) = fs_S f n + f n := rfl
theorem fs_S_congr {f g : Nat → Nat} {n : Nat} (h : ∀ i, i < n → f i = g i) : fs_S f n = fs_S g n := by
  induction n with
  | zero => rfl
  | succ n ih => rw [fs_S1, fs_S1, ih (fun i hi => h i (by omega)), h n (by omega)]
theorem fs_S_zero {f : Nat → Nat} {n : Nat} (h : ∀ i, i < n → f i = 0) : fs_S f n = 0 := by
  induction n with
  | zero => rfl
  | succ n ih => rw [fs_S1, ih (fun i hi => h i (by omega)), h n (by omega)]
theorem fs_S_le {f : Nat → Nat} {n B : Nat} (h : ∀ i, i < n → f i ≤ B) : fs_S f n ≤ n * B := by
  induction n with
  | zero => exact Nat.zero_le _
  | succ n ih =>
    have h1 := ih (fun i hi => h i (by omega))
    have h2 := h n (by omega)
    rw [fs_S1, Nat.succ_mul]
    omega
theorem fs_S_const {n : Nat} : fs_S (fun _ => 1) n = n := by
  induction n with
  | zero => rfl
  | succ n ih => rw [fs_S1, ih]
theorem fs_S_one (f : Nat → Nat) {q : Nat} : ∀ n, q < n → fs_S f n = fs_S (fun j => if j = q then 0 else f j) n + f q := by
  intro n
  induction n with
  | zero => intro h; omega
  | succ n ih =>
    intro h
    rw [fs_S1, fs_S1]
    by_cases e : q = n
    · have h1 : fs_S f n = fs_S (fun j => if j = q then 0 else f j) n := fs_S_congr (fun i hi => (if_neg (by omega)).symm)
      rw [if_pos e.symm, h1, e, Nat.add_zero]
    · have h1 := ih (by omega)
      rw [if_neg (show ¬ n = q by omega), h1]
      omega
theorem fs_S_inj {φ f : Nat → Nat} {m : Nat} : ∀ (c : Nat) (g : Nat → Nat), (∀ i, i < c → φ i < m) → (∀ i j, i < c → j < c → φ i = φ j → i = j) → (∀ i, i < c → g (φ i) = f i) → (∀ q, q < m → (∀ i, i < c → φ i ≠ q) → g q = 0) → fs_S g m = fs_S f c := by
  intro c
  induction c with
  | zero =>
    intro g _ _ _ h4
    exact fs_S_zero (fun i hi => h4 i hi (fun j hj => absurd hj (by omega)))
  | succ c ih =>
    intro g h1 h2 h3 h4
    rw [fs_S_one g m (h1 c (by omega)), fs_S1, h3 c (by omega)]
    have := ih (fun j => if j = φ c then 0 else g j) (fun i hi => h1 i (by omega)) (fun i j hi hj => h2 i j (by omega) (by omega))
      (fun i hi => by
        have hne : φ i ≠ φ c := fun z => by have := h2 i c (by omega) (by omega) z; omega
        show (if φ i = φ c then 0 else g (φ i)) = f i
        rw [if_neg hne]
        exact h3 i (by omega))
      (fun q hq hn => by
        show (if q = φ c then 0 else g q) = 0
        by_cases e : q = φ c
        · rw [if_pos e]
        · rw [if_neg e]
          refine h4 q hq (fun i hi z => ?_)
          by_cases hic : i = c
          · rw [hic] at z; exact e z.symm
          · exact hn i (by omega) z)
    rw [this]
def fs_ex (c : Nat) (P : Nat → Bool) : Bool := (List.range c).any P
theorem fs_ex_iff {c : Nat} {P : Nat → Bool} : fs_ex c P = true ↔ ∃ i, i < c ∧ P i = true := by
  unfold fs_ex
  rw [List.any_eq_true]
  constructor
  · rintro ⟨i, hi, h⟩; exact ⟨i, List.mem_range.mp hi, h⟩
  · rintro ⟨i, hi, h⟩; exact ⟨i, List.mem_range.mpr hi, h⟩
theorem fs_ex_not {c : Nat} {P : Nat → Bool} : fs_ex c P = false ↔ ∀ i, i < c → P i = false := by
  rw [← Bool.not_eq_true, fs_ex_iff]
  constructor
  · intro h i hi
    cases hp : P i
    · rfl
    · exact absurd ⟨i, hi, hp⟩ h
  · rintro h ⟨i, hi, hp⟩
    rw [h i hi] at hp
    cases hp
theorem fs_pig {φ : Nat → Nat} {c m : Nat} (h1 : ∀ i, i < c → φ i < m) (h2 : ∀ i j, i < c → j < c → φ i = φ j → i = j) : c ≤ m := by
  have h := fs_S_inj (φ := φ) (f := fun _ => 1) (m := m) c (fun q => if fs_ex c (fun i => φ i == q) = true then 1 else 0) h1 h2
    (fun i hi => if_pos (fs_ex_iff.mpr ⟨i, hi, by simp⟩))
    (fun q _ hn => if_neg (by
      rw [fs_ex_iff]
      rintro ⟨i, hi, e⟩
      exact hn i hi (by simpa using e)))
  rw [fs_S_const] at h
  rw [← h]
  have := fs_S_le (f := fun q => if fs_ex c (fun i => φ i == q) = true then 1 else 0) (n := m) (B := 1) (fun i _ => by
    show (if fs_ex c (fun j => φ j == i) = true then 1 else 0) ≤ 1
    split <;> omega)
  omega
/-! division -/
theorem fs_dm {a e q r : Nat} (h : a = e * q + r) (hr : r < e) : a / e = q ∧ a % e = r := by
  subst h
  have h0 : 0 < e := by omega
  rw [Nat.mul_add_div h0, Nat.mul_add_mod, Nat.div_eq_of_lt hr, Nat.mod_eq_of_lt hr]
  exact ⟨Nat.add_zero _, rfl⟩
theorem fs_md (a e : Nat) : a = e * (a / e) + a % e := (Nat.div_add_mod a e).symm
theorem fs_carry {a b e : Nat} (h0 : 0 < e) : (a % e + b % e < e → (a + b) / e = a / e + b / e ∧ (a + b) % e = a % e + b % e) ∧ (e ≤ a % e + b % e → (a + b) / e = a / e + b / e + 1 ∧ (a + b) % e = a % e + b % e - e) := by
  have ha := fs_md a e
  have hb := fs_md b e
  have la := Nat.mod_lt a h0
  have lb := Nat.mod_lt b h0
  constructor
  · intro h
    exact fs_dm (by rw [Nat.mul_add]; omega) h
  · intro h
    exact fs_dm (by rw [Nat.mul_add, Nat.mul_add, Nat.mul_one]; omega) (by omega)
theorem fs_ceil {n e : Nat} (h0 : 0 < e) : (n + e - 1) / e = n / e + (if n % e = 0 then 0 else 1) := by
  have h := fs_md n e
  have l := Nat.mod_lt n h0
  by_cases z : n % e = 0
  · rw [if_pos z]
    exact (fs_dm (r := e - 1) (by rw [Nat.add_zero]; omega) (by omega)).1
  · rw [if_neg z]
    exact (fs_dm (r := n % e - 1) (by rw [Nat.mul_add, Nat.mul_one]; omega) (by omega)).1
/-! windows: release of subtask n + 1, deadline, bit, group -/
def fs_r (p e n : Nat) : Nat := n * p / e
def fs_m (p e n : Nat) : Nat := n * p % e
def fs_d (p e k : Nat) : Nat := (k * p + e - 1) / e
def fs_b (p e k : Nat) : Nat := if k * p % e = 0 then 0 else 1
def fs_g (p e d : Nat) : Nat := if p - e < 1 then d else (((d - 1) * (p - e) / p + 1) * p + (p - e) - 1) / (p - e)
theorem fs_d_eq {p e : Nat} (h0 : 0 < e) (k : Nat) : fs_d p e k = fs_r p e k + fs_b p e k := fs_ceil h0
theorem fs_b_01 (p e k : Nat) : fs_b p e k = 0 ∨ fs_b p e k = 1 := by
  unfold fs_b
  split
  · exact Or.inl rfl
  · exact Or.inr rfl
theorem fs_r_s {p e : Nat} (h0 : 0 < e) (n : Nat) : (fs_m p e n + p % e < e → fs_r p e (n + 1) = fs_r p e n + p / e ∧ fs_m p e (n + 1) = fs_m p e n + p % e) ∧ (e ≤ fs_m p e n + p % e → fs_r p e (n + 1) = fs_r p e n + p / e + 1 ∧ fs_m p e (n + 1) = fs_m p e n + p % e - e) := by
  unfold fs_r fs_m
  rw [Nat.succ_mul]
  exact fs_carry h0
theorem fs_m_lt {p e : Nat} (h0 : 0 < e) (n : Nat) : fs_m p e n < e := Nat.mod_lt _ h0
theorem fs_b_m (p e k : Nat) : fs_b p e k = if fs_m p e k = 0 then 0 else 1 := rfl
theorem fs_b_pos {p e k : Nat} (h : 0 < fs_m p e k) : fs_b p e k = 1 := by rw [fs_b_m, if_neg (by omega)]
theorem fs_b_zero {p e k : Nat} (h : fs_m p e k = 0) : fs_b p e k = 0 := by rw [fs_b_m, if_pos h]
theorem fs_r_mono {p e : Nat} (h0 : 0 < e) (h : e ≤ p) (n : Nat) : fs_r p e n + 1 ≤ fs_r p e (n + 1) := by
  unfold fs_r
  rw [Nat.succ_mul]
  have h1 : n * p + e ≤ n * p + p := by omega
  have h2 := Nat.div_le_div_right (c := e) h1
  rw [Nat.add_div_right _ h0] at h2
  exact h2
theorem fs_d_mono {p e : Nat} (h0 : 0 < e) (h : e ≤ p) (n : Nat) : fs_d p e n + 1 ≤ fs_d p e (n + 1) := by
  unfold fs_d
  rw [Nat.succ_mul]
  have h1 : (n * p + e - 1) + e ≤ n * p + p + e - 1 := by omega
  have h2 := Nat.div_le_div_right (c := e) h1
  rw [Nat.add_div_right _ h0] at h2
  exact h2
theorem fs_d_lt {p e : Nat} (h0 : 0 < e) (h : e ≤ p) {k j : Nat} (hkj : k < j) : fs_d p e k < fs_d p e j := by
  induction j with
  | zero => omega
  | succ j ih =>
    have := fs_d_mono h0 h j
    rcases Nat.lt_or_ge k j with z | z
    · have := ih z; omega
    · have : k = j := by omega
      subst this
      omega
theorem fs_d_ge {p e : Nat} (h0 : 0 < e) (h : e ≤ p) (k : Nat) : k ≤ fs_d p e k := by
  induction k with
  | zero => exact Nat.zero_le _
  | succ k ih => have := fs_d_mono h0 h k; omega
theorem fs_r_ge {p e : Nat} (h0 : 0 < e) (h : e ≤ p) (k : Nat) : k ≤ fs_r p e k := by
  induction k with
  | zero => exact Nat.zero_le _
  | succ k ih => have := fs_r_mono h0 h k; omega
theorem fs_q_le {p e : Nat} (h0 : 0 < e) (h16 : p ≤ 16) : p / e ≤ 16 := Nat.le_trans (Nat.div_le_self p e) h16
theorem fs_r_up {p e : Nat} (h0 : 0 < e) (h16 : p ≤ 16) (n : Nat) : fs_r p e (n + 1) ≤ fs_r p e n + 17 := by
  have hq := fs_q_le (p := p) h0 h16
  have h := fs_r_s (p := p) h0 n
  rcases Nat.lt_or_ge (fs_m p e n + p % e) e with z | z
  · have := (h.1 z).1; omega
  · have := (h.2 z).1; omega
theorem fs_rd {p e : Nat} (h0 : 0 < e) (k : Nat) : fs_r p e k ≤ fs_d p e k ∧ fs_d p e k ≤ fs_r p e k + 1 := by
  rw [fs_d_eq h0]
  rcases fs_b_01 p e k with z | z <;> omega
end
section
/-! the group deadline: the search's condition, one period by computation, then the period -/
def fs_q (p e t m : Nat) : Bool := (t == fs_d p e m && fs_b p e m == 0) || (t + 1 == fs_d p e m && fs_d p e m - fs_r p e (m - 1) == 3)
def fs_chk (p e k : Nat) : Bool :=
  decide (fs_d p e k ≤ fs_g p e (fs_d p e k)) && decide (fs_g p e (fs_d p e k) ≤ fs_d p e k + 17) && (List.range 19).any (fun i => fs_q p e (fs_g p e (fs_d p e k)) (k + i)) && (List.range (fs_g p e (fs_d p e k) - fs_d p e k)).all (fun s => (List.range 19).all (fun i => !fs_q p e (fs_d p e k + s) (k + i)))
def fs_all (p : Nat) : Bool := (List.range 17).all (fun e => (!(decide (1 ≤ e) && decide (e ≤ p) && decide (p ≤ 2 * e))) || (List.range e).all (fun k => fs_chk p e (k + 1)))
set_option maxRecDepth 100000 in
theorem fs_base : (List.range 17).all fs_all = true := by decide +kernel
def fs_P (p e k : Nat) : Prop := fs_d p e k ≤ fs_g p e (fs_d p e k) ∧ fs_g p e (fs_d p e k) ≤ fs_d p e k + 17 ∧ (∃ i, i < 19 ∧ fs_q p e (fs_g p e (fs_d p e k)) (k + i) = true) ∧ ∀ s i, s < fs_g p e (fs_d p e k) - fs_d p e k → i < 19 → fs_q p e (fs_d p e k + s) (k + i) = false
theorem fs_P_base {p e k : Nat} (h16 : p ≤ 16) (h1 : 1 ≤ e) (h2 : e ≤ p) (h3 : p ≤ 2 * e) (hk : 1 ≤ k) (hke : k ≤ e) : fs_P p e k := by
  have a := List.all_eq_true.mp fs_base p (List.mem_range.mpr (by omega))
  unfold fs_all at a
  have b := List.all_eq_true.mp a e (List.mem_range.mpr (by omega))
  rw [decide_eq_true h1, decide_eq_true h2, decide_eq_true h3] at b
  have b' : (List.range e).all (fun k => fs_chk p e (k + 1)) = true := b
  have c := List.all_eq_true.mp b' (k - 1) (List.mem_range.mpr (by omega))
  rw [show k - 1 + 1 = k by omega] at c
  unfold fs_chk at c
  rw [Bool.and_eq_true, Bool.and_eq_true, Bool.and_eq_true] at c
  obtain ⟨⟨⟨c1, c2⟩, c3⟩, c4⟩ := c
  refine ⟨of_decide_eq_true c1, of_decide_eq_true c2, ?_, ?_⟩
  · obtain ⟨i, hi, h⟩ := List.any_eq_true.mp c3
    exact ⟨i, List.mem_range.mp hi, h⟩
  · intro s i hs hi
    have d := List.all_eq_true.mp (List.all_eq_true.mp c4 s (List.mem_range.mpr hs)) i (List.mem_range.mpr hi)
    cases hq : fs_q p e (fs_d p e k + s) (k + i)
    · rfl
    · rw [hq] at d; cases d
theorem fs_r_per {p e : Nat} (h0 : 0 < e) (n : Nat) : fs_r p e (n + e) = fs_r p e n + p := by
  unfold fs_r
  rw [Nat.add_mul, Nat.add_mul_div_left _ _ h0]
theorem fs_m_per (p e n : Nat) : fs_m p e (n + e) = fs_m p e n := by
  unfold fs_m
  rw [Nat.add_mul, Nat.add_mul_mod_self_left]
theorem fs_b_per (p e n : Nat) : fs_b p e (n + e) = fs_b p e n := by rw [fs_b_m, fs_b_m, fs_m_per]
theorem fs_d_per {p e : Nat} (h0 : 0 < e) (n : Nat) : fs_d p e (n + e) = fs_d p e n + p := by
  rw [fs_d_eq h0, fs_d_eq h0, fs_r_per h0, fs_b_per]
  omega
theorem fs_g_per {p e d : Nat} (h1 : e ≤ p) (h0 : 0 < e) (hd : 1 ≤ d) : fs_g p e (d + p) = fs_g p e d + p := by
  unfold fs_g
  by_cases z : p - e < 1
  · rw [if_pos z, if_pos z]
  · rw [if_neg z, if_neg z]
    generalize hg : p - e = g at z
    have hp : 0 < p := by omega
    have hg0 : 0 < g := by omega
    have e1 : (d + p - 1) * g = (d - 1) * g + p * g := by
      rw [← Nat.add_mul]
      congr 1
      omega
    rw [e1, Nat.add_mul_div_left _ _ hp]
    generalize (d - 1) * g / p = j
    have e2 : (j + g + 1) * p + g - 1 = ((j + 1) * p + g - 1) + g * p := by
      rw [show j + g + 1 = (j + 1) + g by omega, Nat.add_mul]
      omega
    rw [e2, Nat.add_mul_div_left _ _ hg0]
theorem fs_q_per {p e t m : Nat} (h0 : 0 < e) (hm : 1 ≤ m) : fs_q p e (t + p) (m + e) = fs_q p e t m := by
  unfold fs_q
  have e1 : m + e - 1 = (m - 1) + e := by omega
  rw [e1, fs_d_per h0, fs_b_per, fs_r_per h0]
  have a1 : (t + p == fs_d p e m + p) = (t == fs_d p e m) := by
    rw [Bool.eq_iff_iff, beq_iff_eq, beq_iff_eq]; omega
  have a2 : (t + p + 1 == fs_d p e m + p) = (t + 1 == fs_d p e m) := by
    rw [Bool.eq_iff_iff, beq_iff_eq, beq_iff_eq]; omega
  have a3 : fs_d p e m + p - (fs_r p e (m - 1) + p) = fs_d p e m - fs_r p e (m - 1) := by omega
  rw [a1, a2, a3]
theorem fs_P_all {p e : Nat} (h16 : p ≤ 16) (h1 : 1 ≤ e) (h2 : e ≤ p) (h3 : p ≤ 2 * e) : ∀ n k : Nat, k ≤ n → 1 ≤ k → fs_P p e k := by
  intro n
  induction n with
  | zero => intro k h h'; omega
  | succ n ih =>
    intro k hk hk1
    rcases Nat.lt_or_ge e k with z | z
    · obtain ⟨j, rfl⟩ : ∃ j, k = j + e := ⟨k - e, by omega⟩
      obtain ⟨c1, c2, ⟨i, hi, c3⟩, c4⟩ := ih j (by omega) (by omega)
      have hd := fs_d_ge (by omega) h2 j
      have hdj := fs_d_per (p := p) (e := e) (by omega) j
      have hgj : fs_g p e (fs_d p e j + p) = fs_g p e (fs_d p e j) + p := fs_g_per h2 (by omega) (by omega)
      unfold fs_P
      rw [hdj, hgj]
      refine ⟨by omega, by omega, ⟨i, hi, ?_⟩, ?_⟩
      · rw [show j + e + i = (j + i) + e by omega, fs_q_per (by omega) (by omega)]
        exact c3
      · intro s i hs hi
        rw [show j + e + i = (j + i) + e by omega, show fs_d p e j + p + s = (fs_d p e j + s) + p by omega, fs_q_per (by omega) (by omega)]
        exact c4 s i (by omega) hi
    · exact fs_P_base h16 h1 h2 h3 hk1 z
theorem fs_grp {p e k : Nat} (h16 : p ≤ 16) (h1 : 1 ≤ e) (h2 : e ≤ p) (h3 : p ≤ 2 * e) (hk : 1 ≤ k) : fs_P p e k := fs_P_all h16 h1 h2 h3 k k (Nat.le_refl k) hk
/-! absolute group, key, precedence -/
def fs_ag (p e j k : Nat) : Nat := if 2 * e < p then 0 else j + fs_g p e (fs_d p e k)
def fs_tl (p e j k : Nat) : Nat := if fs_b p e k = 1 then 1023 - fs_ag p e j k else 0
def fs_k (p e j n x : Nat) : Nat := ((2 * (j + fs_d p e (n + 1)) + 1 - fs_b p e (n + 1)) * 1024 + fs_tl p e j (n + 1)) * 16 + x
theorem fs_tl_le (p e j k : Nat) : fs_tl p e j k ≤ 1023 := by
  unfold fs_tl
  split <;> omega
theorem fs_k_mod {p e j n x : Nat} (h : x < 16) : fs_k p e j n x % 16 = x := by
  unfold fs_k
  generalize (2 * (j + fs_d p e (n + 1)) + 1 - fs_b p e (n + 1)) * 1024 + fs_tl p e j (n + 1) = z
  omega
theorem fs_k_lt {p e j n x : Nat} (h : x < 16) (hd : j + fs_d p e (n + 1) < 1000) : fs_k p e j n x < 2 ^ 30 := by
  unfold fs_k
  have h1 := fs_tl_le p e j (n + 1)
  generalize fs_tl p e j (n + 1) = z at h1
  generalize j + fs_d p e (n + 1) = y at hd
  generalize fs_b p e (n + 1) = b
  omega
theorem fs_ag_le {p e j k : Nat} (h16 : p ≤ 16) (h1 : 1 ≤ e) (h2 : e ≤ p) (hk : 1 ≤ k) : fs_ag p e j k ≤ j + fs_d p e k + 17 := by
  unfold fs_ag
  split
  · omega
  · have := (fs_grp h16 h1 h2 (by omega) hk).2.1
    omega
/-- the reference's precedence, over the numbers alone -/
def fs_ah (D b G x D' b' G' y : Nat) : Prop := if D = D' then (if b = b' then (if b = 1 then (if G = G' then x < y else G' < G) else x < y) else b = 1) else D < D'
theorem fs_ah_iff {D b G x D' b' G' y : Nat} (hb : b = 0 ∨ b = 1) (hb' : b' = 0 ∨ b' = 1) (hG : G ≤ 1023) (hG' : G' ≤ 1023) (hx : x < 16) (hy : y < 16) : fs_ah D b G x D' b' G' y ↔ ((2 * D + 1 - b) * 1024 + (if b = 1 then 1023 - G else 0)) * 16 + x < ((2 * D' + 1 - b') * 1024 + (if b' = 1 then 1023 - G' else 0)) * 16 + y := by
  unfold fs_ah
  have n01 : ¬ (0 : Nat) = 1 := by decide
  have n10 : ¬ (1 : Nat) = 0 := by decide
  rcases hb with rfl | rfl <;> rcases hb' with rfl | rfl
  · simp only [n01, n10, eq_self, if_true, if_false]
    by_cases h : D = D'
    · subst h; simp only [eq_self, if_true]; omega
    · simp only [h, if_false]; omega
  · simp only [n01, n10, eq_self, if_true, if_false]
    by_cases h : D = D'
    · subst h; simp only [eq_self, if_true, false_iff]; omega
    · simp only [h, if_false]; omega
  · simp only [n01, n10, eq_self, if_true, if_false]
    by_cases h : D = D'
    · subst h; simp only [eq_self, if_true, true_iff]; omega
    · simp only [h, if_false]; omega
  · simp only [n01, n10, eq_self, if_true, if_false]
    by_cases h : D = D'
    · subst h; simp only [eq_self, if_true]
      by_cases h' : G = G'
      · subst h'; simp only [eq_self, if_true]; omega
      · simp only [h', if_false]; omega
    · simp only [h, if_false]; omega
end
section
/-! the heap: h keys W i, content C, seats se -/
def fs_Hb (h : Nat) (W : Nat → Nat) (C : Nat → Prop) : Prop := (∀ i, i < h → C (W i)) ∧ (∀ z, C z → ∃ i, i < h ∧ W i = z) ∧ (∀ i j, i < h → j < h → W i % 16 = W j % 16 → i = j) ∧ (∀ z, C z → z < 2 ^ 30)
def fs_Hn (C : Nat → Prop) (se : Nat → Int32) : Prop := ∀ z, z < 16 → (∀ k, C k → k % 16 ≠ z) → se z = -1
def fs_Ho (h : Nat) (W : Nat → Nat) : Prop := ∀ i, 0 < i → i < h → W ((i - 1) / 2) ≤ W i
def fs_H (h : Nat) (W : Nat → Nat) (se : Nat → Int32) (C : Nat → Prop) : Prop := h ≤ 16 ∧ fs_Hb h W C ∧ (∀ i, i < h → se (W i % 16) = nI i) ∧ fs_Hn C se ∧ fs_Ho h W
def fs_Uo (h : Nat) (W : Nat → Nat) (a : Nat) : Prop := (∀ i, 0 < i → i < h → i ≠ a → W ((i - 1) / 2) ≤ W i) ∧ (∀ c, 0 < c → c < h → (c - 1) / 2 = a → 0 < a → W ((a - 1) / 2) ≤ W c)
def fs_Do (h : Nat) (W : Nat → Nat) (a : Nat) : Prop := (∀ i, 0 < i → i < h → (i - 1) / 2 ≠ a → W ((i - 1) / 2) ≤ W i) ∧ (∀ c, 0 < c → c < h → (c - 1) / 2 = a → 0 < a → W ((a - 1) / 2) ≤ W c)
def fs_Hh (h a k : Nat) (V : Nat → Nat) (se : Nat → Int32) (C : Nat → Prop) : Prop := h ≤ 16 ∧ a < h ∧ fs_Hb h (fs_u V a k) C ∧ (∀ i, i < h → i ≠ a → se (V i % 16) = nI i) ∧ fs_Hn C se
theorem fs_H_congr {h : Nat} {W : Nat → Nat} {se : Nat → Int32} {C C' : Nat → Prop} (e : ∀ z, C z ↔ C' z) (H : fs_H h W se C) : fs_H h W se C' := by
  have : C = C' := funext (fun z => propext (e z))
  rw [← this]
  exact H
theorem fs_Hh_k {h a k : Nat} {V : Nat → Nat} {se : Nat → Int32} {C : Nat → Prop} (H : fs_Hh h a k V se C) : C k ∧ k < 2 ^ 30 := by
  obtain ⟨_, ha, ⟨b1, _, _, b4⟩, _, _⟩ := H
  have := b1 a ha
  rw [fs_us] at this
  exact ⟨this, b4 k this⟩
theorem fs_Hh_V {h a k : Nat} {V : Nat → Nat} {se : Nat → Int32} {C : Nat → Prop} (H : fs_Hh h a k V se C) {b : Nat} (hb : b < h) (hab : b ≠ a) : C (V b) ∧ V b < 2 ^ 30 := by
  obtain ⟨_, ha, ⟨b1, _, _, b4⟩, _, _⟩ := H
  have := b1 b hb
  rw [fs_un hab] at this
  exact ⟨this, b4 _ this⟩
theorem fs_close {h a k : Nat} {V : Nat → Nat} {se : Nat → Int32} {C : Nat → Prop} (H : fs_Hh h a k V se C) (O : fs_Ho h (fs_u V a k)) : fs_H h (fs_u V a k) (upd se (k % 16) (nI a)) C := by
  have hk := fs_Hh_k H
  obtain ⟨h16, ha, B, S, Nn⟩ := H
  refine ⟨h16, B, ?_, ?_, O⟩
  · intro i hi
    by_cases z : i = a
    · rw [z, fs_us, pk_us]
    · have hne : fs_u V a k i % 16 ≠ k % 16 := fun y => z (B.2.2.1 i a hi ha (by rw [fs_us]; exact y))
      rw [pk_un hne, fs_un z]
      exact S i hi z
  · intro z hz hn
    rw [pk_un (fun y => hn k hk.1 y.symm)]
    exact Nn z hz hn
theorem fs_sw {a b i j : Nat} (h : (if i = a then b else if i = b then a else i) = (if j = a then b else if j = b then a else j)) : i = j := by
  by_cases x : i = a
  · by_cases y : j = a
    · omega
    · rw [if_pos x, if_neg y] at h
      by_cases y' : j = b
      · rw [if_pos y'] at h; omega
      · rw [if_neg y'] at h; omega
  · rw [if_neg x] at h
    by_cases x' : i = b
    · rw [if_pos x'] at h
      by_cases y : j = a
      · rw [if_pos y] at h; omega
      · rw [if_neg y] at h
        by_cases y' : j = b
        · omega
        · rw [if_neg y'] at h; omega
    · rw [if_neg x'] at h
      by_cases y : j = a
      · rw [if_pos y] at h; omega
      · rw [if_neg y] at h
        by_cases y' : j = b
        · rw [if_pos y'] at h; omega
        · rw [if_neg y'] at h; omega
theorem fs_move {h a k b : Nat} {V : Nat → Nat} {se : Nat → Int32} {C : Nat → Prop} (H : fs_Hh h a k V se C) (hb : b < h) (hab : b ≠ a) : fs_Hh h b k (fs_u V a (V b)) (upd se (V b % 16) (nI a)) C := by
  have hk := fs_Hh_k H
  have hv := fs_Hh_V H hb hab
  obtain ⟨h16, ha, ⟨b1, b2, b3, b4⟩, S, Nn⟩ := H
  have w1 : fs_u (fs_u V a (V b)) b k b = k := fs_us
  have w2 : fs_u (fs_u V a (V b)) b k a = V b := by rw [fs_un (fun z => hab z.symm), fs_us]
  have w3 : ∀ i, i ≠ a → i ≠ b → fs_u (fs_u V a (V b)) b k i = V i := fun i h1 h2 => by rw [fs_un h2, fs_un h1]
  refine ⟨h16, hb, ⟨?_, ?_, ?_, b4⟩, ?_, ?_⟩
  · intro i hi
    by_cases z : i = b
    · rw [z, w1]; exact hk.1
    · by_cases y : i = a
      · rw [y, w2]; exact hv.1
      · rw [w3 i y z]
        have := b1 i hi
        rw [fs_un y] at this
        exact this
  · intro z hz
    obtain ⟨i, hi, e⟩ := b2 z hz
    by_cases x : i = a
    · rw [x, fs_us] at e
      exact ⟨b, hb, by rw [w1]; exact e⟩
    · rw [fs_un x] at e
      by_cases y : i = b
      · rw [y] at e
        exact ⟨a, ha, by rw [w2]; exact e⟩
      · exact ⟨i, hi, by rw [w3 i x y]; exact e⟩
  · have W : ∀ i, fs_u (fs_u V a (V b)) b k i = fs_u V a k (if i = a then b else if i = b then a else i) := by
      intro i
      by_cases x : i = a
      · rw [if_pos x, x, w2, fs_un hab]
      · rw [if_neg x]
        by_cases y : i = b
        · rw [if_pos y, y, w1, fs_us]
        · rw [if_neg y, w3 i x y, fs_un x]
    intro i j hi hj e
    rw [W i, W j] at e
    have := b3 _ _ (by split; exact hb; split; exact ha; exact hi) (by split; exact hb; split; exact ha; exact hj) e
    exact fs_sw this
  · intro i hi hib
    by_cases x : i = a
    · rw [x, fs_us, pk_us]
    · rw [fs_un x]
      have hne : V i % 16 ≠ V b % 16 := fun y => hib (b3 i b hi hb (by rw [fs_un x, fs_un hab]; exact y))
      rw [pk_un hne]
      exact S i hi x
  · intro z hz hn
    rw [pk_un (fun y => hn _ hv.1 y.symm)]
    exact Nn z hz hn
theorem fs_Uo_s {h a b : Nat} {W W' : Nat → Nat} (hb : b = (a - 1) / 2) (ha : 0 < a) (hah : a < h) (e1 : W' a = W b) (e2 : W' b = W a) (e3 : ∀ i, i ≠ a → i ≠ b → W' i = W i) (hlt : W a < W b) (U : fs_Uo h W a) : fs_Uo h W' b := by
  constructor
  · intro i hi0 hih hib
    by_cases hia : i = a
    · rw [hia, ← hb, e2, e1]; omega
    · rw [e3 i hia hib]
      by_cases hq : (i - 1) / 2 = a
      · rw [hq, e1]
        have := U.2 i hi0 hih hq ha
        rw [← hb] at this
        exact this
      · by_cases hq2 : (i - 1) / 2 = b
        · have := U.1 i hi0 hih hia
          rw [hq2] at this
          rw [hq2, e2]
          omega
        · rw [e3 _ hq hq2]
          exact U.1 i hi0 hih hia
  · intro c hc0 hch hcb hb0
    have h1 : (b - 1) / 2 ≠ a := by omega
    have h2 : (b - 1) / 2 ≠ b := by omega
    have u := U.1 b hb0 (by omega) (by omega)
    rw [e3 _ h1 h2]
    by_cases hca : c = a
    · rw [hca, e1]; exact u
    · have h3 : c ≠ b := by omega
      have := U.1 c hc0 hch hca
      rw [hcb] at this
      rw [e3 c hca h3]
      omega
theorem fs_Uo_x {h a : Nat} {W : Nat → Nat} (U : fs_Uo h W a) (hx : a = 0 ∨ W ((a - 1) / 2) ≤ W a) : fs_Ho h W := by
  intro i hi0 hih
  by_cases z : i = a
  · rcases hx with y | y
    · omega
    · rw [z]; exact y
  · exact U.1 i hi0 hih z
theorem fs_Do_s {h a c : Nat} {W W' : Nat → Nat} (hc : (c - 1) / 2 = a) (hc0 : 0 < c) (hch : c < h) (e1 : W' a = W c) (e2 : W' c = W a) (e3 : ∀ i, i ≠ a → i ≠ c → W' i = W i) (hlt : W c < W a) (hmin : ∀ d, 0 < d → d < h → (d - 1) / 2 = a → W c ≤ W d) (U : fs_Do h W a) : fs_Do h W' c := by
  constructor
  · intro i hi0 hih hic
    by_cases hq : (i - 1) / 2 = a
    · rw [hq, e1]
      by_cases z : i = c
      · rw [z, e2]; omega
      · rw [e3 i (by omega) z]
        exact hmin i hi0 hih hq
    · rw [e3 _ hq hic]
      by_cases z : i = a
      · rw [z, e1]
        exact U.2 c hc0 hch hc (by omega)
      · have hne : i ≠ c := fun y => hq (by rw [y]; exact hc)
        rw [e3 i z hne]
        exact U.1 i hi0 hih hq
  · intro d hd0 hdh hdc _
    have := U.1 d hd0 hdh (by omega)
    rw [hdc] at this
    rw [hc, e1, e3 d (by omega) (by omega)]
    exact this
theorem fs_Do_x {h a : Nat} {W : Nat → Nat} (U : fs_Do h W a) (hx : ∀ d, 0 < d → d < h → (d - 1) / 2 = a → W a ≤ W d) : fs_Ho h W := by
  intro i hi0 hih
  by_cases z : (i - 1) / 2 = a
  · rw [z]; exact hx i hi0 hih z
  · exact U.1 i hi0 hih z
theorem fs_min {h : Nat} {W : Nat → Nat} (O : fs_Ho h W) : ∀ n i, i ≤ n → i < h → W 0 ≤ W i := by
  intro n
  induction n with
  | zero => intro i h1 _; rw [show i = 0 by omega]; exact Nat.le_refl _
  | succ n ih =>
    intro i h1 h2
    by_cases z : i = 0
    · rw [z]; exact Nat.le_refl _
    · exact Nat.le_trans (ih ((i - 1) / 2) (by omega) (by omega)) (O i (by omega) h2)
/-! a new key -/
theorem fs_room {h k : Nat} {W : Nat → Nat} {se : Nat → Int32} {C : Nat → Prop} (H : fs_H h W se C) (hn : ∀ z, C z → z % 16 ≠ k % 16) : h < 16 := by
  obtain ⟨_, ⟨b1, _, b3, _⟩, _, _, _⟩ := H
  have := fs_pig (φ := fun i => if i = h then k % 16 else W i % 16) (c := h + 1) (m := 16) (fun i hi => by
    show (if i = h then k % 16 else W i % 16) < 16
    split <;> omega) (fun i j hi hj e => by
    have e' : (if i = h then k % 16 else W i % 16) = (if j = h then k % 16 else W j % 16) := e
    by_cases x : i = h
    · by_cases y : j = h
      · omega
      · rw [if_pos x, if_neg y] at e'
        exact absurd e'.symm (hn _ (b1 j (by omega)))
    · by_cases y : j = h
      · rw [if_neg x, if_pos y] at e'
        exact absurd e' (hn _ (b1 i (by omega)))
      · rw [if_neg x, if_neg y] at e'
        exact b3 i j (by omega) (by omega) e')
  omega
theorem fs_push {h k : Nat} {W : Nat → Nat} {se : Nat → Int32} {C : Nat → Prop} (H : fs_H h W se C) (hn : ∀ z, C z → z % 16 ≠ k % 16) (hk : k < 2 ^ 30) : fs_Hh (h + 1) h k W se (fun z => C z ∨ z = k) ∧ fs_Uo (h + 1) (fs_u W h k) h := by
  have hr := fs_room H hn
  obtain ⟨h16, ⟨b1, b2, b3, b4⟩, S, Nn, O⟩ := H
  refine ⟨⟨by omega, by omega, ⟨?_, ?_, ?_, ?_⟩, ?_, ?_⟩, ?_, ?_⟩
  · intro i hi
    by_cases z : i = h
    · rw [z, fs_us]; exact Or.inr rfl
    · rw [fs_un z]; exact Or.inl (b1 i (by omega))
  · intro z hz
    rcases hz with hz | hz
    · obtain ⟨i, hi, e⟩ := b2 z hz
      exact ⟨i, by omega, by rw [fs_un (by omega)]; exact e⟩
    · exact ⟨h, by omega, by rw [fs_us]; exact hz.symm⟩
  · intro i j hi hj e
    by_cases x : i = h
    · by_cases y : j = h
      · omega
      · rw [x, fs_us, fs_un y] at e
        exact absurd e.symm (hn _ (b1 j (by omega)))
    · by_cases y : j = h
      · rw [y, fs_us, fs_un x] at e
        exact absurd e (hn _ (b1 i (by omega)))
      · rw [fs_un x, fs_un y] at e
        exact b3 i j (by omega) (by omega) e
  · intro z hz
    rcases hz with hz | hz
    · exact b4 z hz
    · rw [hz]; exact hk
  · intro i hi hne
    exact S i (by omega)
  · intro z hz hnz
    exact Nn z hz (fun k' hk' => hnz k' (Or.inl hk'))
  · intro i hi0 hih hne
    rw [fs_un (by omega), fs_un hne]
    exact O i hi0 (by omega)
  · intro c hc0 hch hch2 hh
    omega
/-! a key taken out -/
theorem fs_rem_last {h a : Nat} {W : Nat → Nat} {se : Nat → Int32} {C : Nat → Prop} (H : fs_H (h + 1) W se C) (ha : a = h) : fs_H h W (upd se (W a % 16) (-1)) (fun z => C z ∧ z ≠ W a) := by
  subst ha
  obtain ⟨h16, ⟨b1, b2, b3, b4⟩, S, Nn, O⟩ := H
  refine ⟨by omega, ⟨?_, ?_, ?_, ?_⟩, ?_, ?_, ?_⟩
  · intro i hi
    refine ⟨b1 i (by omega), fun z => ?_⟩
    have := b3 i a (by omega) (by omega) (by rw [z])
    omega
  · intro z hz
    obtain ⟨i, hi, e⟩ := b2 z hz.1
    refine ⟨i, ?_, e⟩
    have : i ≠ a := fun y => hz.2 (by rw [← e, y])
    omega
  · intro i j hi hj e
    exact b3 i j (by omega) (by omega) e
  · intro z hz
    exact b4 z hz.1
  · intro i hi
    rw [pk_un (fun z => by have := b3 i a (by omega) (by omega) z; omega)]
    exact S i (by omega)
  · intro z hz hn
    by_cases y : z = W a % 16
    · rw [y, pk_us]
    · rw [pk_un y]
      refine Nn z hz (fun k hk e => ?_)
      by_cases x : k = W a
      · rw [x] at e; exact y e.symm
      · exact hn k ⟨hk, x⟩ e
  · intro i hi0 hih
    exact O i hi0 (by omega)
theorem fs_rem {h a : Nat} {W : Nat → Nat} {se : Nat → Int32} {C : Nat → Prop} (H : fs_H (h + 1) W se C) (ha : a < h) : fs_Hh h a (W h) W (upd se (W a % 16) (-1)) (fun z => C z ∧ z ≠ W a) ∧ ((0 < a ∧ W h < W ((a - 1) / 2)) → fs_Uo h (fs_u W a (W h)) a) ∧ (¬ (0 < a ∧ W h < W ((a - 1) / 2)) → fs_Do h (fs_u W a (W h)) a) := by
  obtain ⟨h16, ⟨b1, b2, b3, b4⟩, S, Nn, O⟩ := H
  refine ⟨⟨by omega, ha, ⟨?_, ?_, ?_, ?_⟩, ?_, ?_⟩, ?_, ?_⟩
  · intro i hi
    by_cases z : i = a
    · rw [z, fs_us]
      refine ⟨b1 h (by omega), fun y => ?_⟩
      have := b3 h a (by omega) (by omega) (by rw [y])
      omega
    · rw [fs_un z]
      refine ⟨b1 i (by omega), fun y => ?_⟩
      exact z (b3 i a (by omega) (by omega) (by rw [y]))
  · intro z hz
    obtain ⟨i, hi, e⟩ := b2 z hz.1
    have h1 : i ≠ a := fun y => hz.2 (by rw [← e, y])
    by_cases x : i = h
    · exact ⟨a, ha, by rw [fs_us, ← x]; exact e⟩
    · exact ⟨i, by omega, by rw [fs_un h1]; exact e⟩
  · intro i j hi hj e
    by_cases x : i = a
    · by_cases y : j = a
      · omega
      · rw [x, fs_us, fs_un y] at e
        have := b3 h j (by omega) (by omega) e
        omega
    · by_cases y : j = a
      · rw [y, fs_us, fs_un x] at e
        have := b3 i h (by omega) (by omega) e
        omega
      · rw [fs_un x, fs_un y] at e
        exact b3 i j (by omega) (by omega) e
  · intro z hz
    exact b4 z hz.1
  · intro i hi hne
    rw [pk_un (fun z => hne (b3 i a (by omega) (by omega) z))]
    exact S i (by omega)
  · intro z hz hn
    by_cases y : z = W a % 16
    · rw [y, pk_us]
    · rw [pk_un y]
      refine Nn z hz (fun k hk e => ?_)
      by_cases x : k = W a
      · rw [x] at e; exact y e.symm
      · exact hn k ⟨hk, x⟩ e
  · rintro ⟨h0, hlt⟩
    have ho := O a h0 (by omega)
    constructor
    · intro i hi0 hih hia
      rw [fs_un hia]
      have := O i hi0 (by omega)
      by_cases z : (i - 1) / 2 = a
      · rw [z, fs_us]
        rw [z] at this
        omega
      · rw [fs_un z]; exact this
    · intro c hc0 hch hca _
      have := O c hc0 (by omega)
      rw [hca] at this
      rw [fs_un (by omega), fs_un (by omega)]
      omega
  · intro hn
    constructor
    · intro i hi0 hih hia
      rw [fs_un hia]
      by_cases z : i = a
      · rw [z, fs_us]
        have : ¬ W h < W ((a - 1) / 2) := fun y => hn ⟨by omega, y⟩
        omega
      · rw [fs_un z]
        exact O i hi0 (by omega)
    · intro c hc0 hch hca h0
      have h1 := O c hc0 (by omega)
      have h2 := O a h0 (by omega)
      rw [hca] at h1
      rw [fs_un (by omega), fs_un (by omega)]
      omega
end
section
/-! numbers: small facts on nI, calendars by bits -/
theorem fs_s1 {a : Nat} (h : 1 ≤ a) : nI a - 1 = nI (a - 1) := pk_sub (b := 1) h
theorem fs_par {a : Nat} (h : 0 < a) (h2 : a < 2 ^ 31) : (nI a - 1) >>> ((1 : Int32) &&& 31) = nI ((a - 1) / 2) := by
  rw [fs_s1 h, pk_shrN (by omega) _ 1 (by decide)]
theorem fs_in {x : Nat} (h : x < 16) : vp_in (nI x) 16 := vp_in_nI h (by decide)
theorem fs_in4 {x : Nat} (h : x < 4) : vp_in (nI x) 4 := vp_in_nI h (by decide)
theorem fs_inC {x : Nat} (h : x ≤ 600) : vp_in (nI x) 601 := vp_in_nI (by omega) (by decide)
theorem fs_15 {k : Nat} (h : k < 2 ^ 31) : nI k &&& 15 = nI (k % 16) := pk_andN (by omega) 4 (by decide)
theorem fs_63 {k : Nat} (h : k < 2 ^ 31) : nI k &&& 63 = nI (k % 64) := pk_andN (by omega) 6 (by decide)
theorem fs_ml {a b A B : Nat} (ha : a ≤ A) (hb : b ≤ B) : a * b ≤ A * B := Nat.mul_le_mul ha hb
def fs_1 (x : Nat) : Int32 := (1 : Int32) <<< (nI x &&& 31)
theorem fs_1b {x : Nat} (hx : x < 32) {i : Nat} (hi : i < 32) : bt (fs_1 x) i = decide (i = x) := by
  unfold fs_1
  rw [b_shl x hx 1 hi]
  by_cases h : i = x
  · subst h
    rw [decide_eq_true (Nat.le_refl i), decide_eq_true rfl, Nat.sub_self]
    decide
  · rw [decide_eq_false h]
    rcases Nat.lt_or_ge i x with z | z
    · rw [decide_eq_false (by omega)]; rfl
    · have : ∀ j, j < 32 → 0 < j → bt 1 j = false := by decide +kernel
      rw [this (i - x) (by omega) (by omega)]
      exact Bool.and_false _
theorem fs_t0 {m : Int32} {x : Nat} (hx : x < 32) : (m &&& fs_1 x) = 0 ↔ bt m x = false := by
  constructor
  · intro h
    have : bt (m &&& fs_1 x) x = bt 0 x := congrArg (fun z => bt z x) h
    rw [b_and, fs_1b hx hx, b_0, decide_eq_true rfl, Bool.and_true] at this
    exact this
  · intro h
    apply b_ext
    intro i hi
    rw [b_and, fs_1b hx hi, b_0]
    by_cases e : i = x
    · rw [e, h]; rfl
    · rw [decide_eq_false e]; exact Bool.and_false _
def fs_set (c : Nat → Int32) (s x : Nat) : Nat → Int32 := if s ≤ 600 then upd c s (c s ||| fs_1 x) else c
def fs_clr (c : Nat → Int32) (s x : Nat) : Nat → Int32 := if s ≤ 600 then upd c s (c s &&& (fs_1 x ^^^ (-1))) else c
theorem fs_set_b {c : Nat → Int32} {s x s' i : Nat} (hx : x < 32) (hi : i < 32) (hs : s' ≤ 600) : bt (fs_set c s x s') i = (bt (c s') i || (decide (s' = s) && decide (i = x))) := by
  unfold fs_set
  by_cases h : s ≤ 600
  · rw [if_pos h]
    by_cases e : s' = s
    · rw [e, pk_us, b_or, fs_1b hx hi, decide_eq_true rfl]; rfl
    · rw [pk_un e, decide_eq_false e]
      simp
  · rw [if_neg h, decide_eq_false (show ¬ s' = s by omega)]
    simp
theorem fs_clr_b {c : Nat → Int32} {s x s' i : Nat} (hx : x < 32) (hi : i < 32) (hs : s' ≤ 600) : bt (fs_clr c s x s') i = (bt (c s') i && !(decide (s' = s) && decide (i = x))) := by
  unfold fs_clr
  by_cases h : s ≤ 600
  · rw [if_pos h]
    by_cases e : s' = s
    · rw [e, pk_us, b_and, b_xor, fs_1b hx hi, b_m1 i hi, decide_eq_true rfl]
      simp
    · rw [pk_un e, decide_eq_false e]
      simp
  · rw [if_neg h, decide_eq_false (show ¬ s' = s by omega)]
    simp
/-- a place's processor or none: 0 is none, q + 1 is q -/
def fs_pI (q : Nat) : Int32 := if q = 0 then -1 else nI (q - 1)
theorem fs_pI0 : fs_pI 0 = -1 := rfl
theorem fs_pI1 (q : Nat) : fs_pI (q + 1) = nI q := rfl
theorem fs_m1_neg : (-1 : Int32) < 0 := by decide
theorem fs_m1_nn : ¬ (0 : Int32) ≤ -1 := by decide
theorem fs_nn {q : Nat} (h : q < 2 ^ 31) : ¬ nI q < 0 := nI_pos h
theorem fs_pI_neg {q : Nat} (h : q < 2 ^ 31) : fs_pI q < 0 ↔ q = 0 := by
  cases q with
  | zero => exact ⟨fun _ => rfl, fun _ => fs_m1_neg⟩
  | succ q => exact ⟨fun z => absurd z (nI_pos (by omega)), fun z => by omega⟩
end
section
/-! X: the small methods -/
section
variable {M N t h : Nat} {cap ld ov ms mg cc gm : Int32} {st e p sh jn dn dp sw sr rl ed rs ai ae ar hp ky : Nat → Nat} {ls lp rc dc pc se ch cp rp rb : Nat → Int32}
theorem fx_quo {post : Int32 → Prop} (u : SX) {a b : Nat} (ha : a < 2 ^ 31) (hb : 1 ≤ b) (hb2 : b < 2 ^ 31) (hQ : post (nI (a / b))) : wpX_quotient post u (nI a) (nI b) := by
  obtain ⟨_, _, _, _, _, _, _, _, _, _, _, _, _, _, _, _, _, _, _, _, _, _, _, _, _, _, _, _, _, _, _, _, _, _, _, _, _, _⟩ := u
  refine br_t (show (1 : Int32) ≤ nI b from nI_le (a := 1) hb hb2) ⟨nI_ne0 hb hb2, ?_⟩
  rw [pk_div ha hb hb2]
  exact hQ
theorem fx_isPlace_n {post : Int32 → Prop} {v : Int32} (hv : v < 0 ∨ nI N ≤ v) (hQ : post 0) : wpX_isPlace post ((nI M), (nI N), cap, (nI t), ld, ov, ms, mg, (nI h), cc, gm, (fs_A st), (fs_A e), (fs_A p), (fs_A sh), (fs_A jn), (fs_A dn), ls, lp, (fs_A dp), (fs_A sw), (fs_A sr), (fs_A rl), (fs_A ed), (fs_A rs), (fs_A ai), (fs_A ae), (fs_A ar), rc, dc, pc, (fs_A hp), (fs_A ky), se, ch, cp, rp, rb) v := by
  refine br_c (fun _ => hQ) (fun hn => ?_)
  rcases hv with z | z
  · exact absurd z hn
  · exact br_t z hQ
theorem fx_isPlace_y {post : Int32 → Prop} {x : Nat} (hx : x < N) (hN : N ≤ 16) (hQ : post 1) : wpX_isPlace post ((nI M), (nI N), cap, (nI t), ld, ov, ms, mg, (nI h), cc, gm, (fs_A st), (fs_A e), (fs_A p), (fs_A sh), (fs_A jn), (fs_A dn), ls, lp, (fs_A dp), (fs_A sw), (fs_A sr), (fs_A rl), (fs_A ed), (fs_A rs), (fs_A ai), (fs_A ae), (fs_A ar), rc, dc, pc, (fs_A hp), (fs_A ky), se, ch, cp, rp, rb) (nI x) :=
  br_f (nI_pos (by omega)) (br_f (nI_ge hx (by omega)) hQ)
theorem fx_isTaken_n {post : Int32 → Prop} {v : Int32} (hv : v < 0 ∨ nI N ≤ v) (hQ : post 0) : wpX_isTaken post ((nI M), (nI N), cap, (nI t), ld, ov, ms, mg, (nI h), cc, gm, (fs_A st), (fs_A e), (fs_A p), (fs_A sh), (fs_A jn), (fs_A dn), ls, lp, (fs_A dp), (fs_A sw), (fs_A sr), (fs_A rl), (fs_A ed), (fs_A rs), (fs_A ai), (fs_A ae), (fs_A ar), rc, dc, pc, (fs_A hp), (fs_A ky), se, ch, cp, rp, rb) v := by
  refine br_c (fun _ => hQ) (fun hn => ?_)
  rcases hv with z | z
  · exact absurd z hn
  · exact br_t z hQ
theorem fx_isTaken_y {post : Int32 → Prop} {x : Nat} (hx : x < N) (hN : N ≤ 16) (hs : st x ≤ 2) (h0 : st x = 0 → post 0) (h1 : st x ≠ 0 → post 1) : wpX_isTaken post ((nI M), (nI N), cap, (nI t), ld, ov, ms, mg, (nI h), cc, gm, (fs_A st), (fs_A e), (fs_A p), (fs_A sh), (fs_A jn), (fs_A dn), ls, lp, (fs_A dp), (fs_A sw), (fs_A sr), (fs_A rl), (fs_A ed), (fs_A rs), (fs_A ai), (fs_A ae), (fs_A ar), rc, dc, pc, (fs_A hp), (fs_A ky), se, ch, cp, rp, rb) (nI x) :=
  br_f (nI_pos (by omega)) (br_f (nI_ge hx (by omega)) (And.intro (fs_in (by omega)) (pk_eq (st x) 0 h0 h1 (fs_Ai st (by omega)))))
theorem fx_isActive_n {post : Int32 → Prop} {v : Int32} (hv : v < 0 ∨ nI N ≤ v) (hQ : post 0) : wpX_isActive post ((nI M), (nI N), cap, (nI t), ld, ov, ms, mg, (nI h), cc, gm, (fs_A st), (fs_A e), (fs_A p), (fs_A sh), (fs_A jn), (fs_A dn), ls, lp, (fs_A dp), (fs_A sw), (fs_A sr), (fs_A rl), (fs_A ed), (fs_A rs), (fs_A ai), (fs_A ae), (fs_A ar), rc, dc, pc, (fs_A hp), (fs_A ky), se, ch, cp, rp, rb) v := by
  refine br_c (fun _ => hQ) (fun hn => ?_)
  rcases hv with z | z
  · exact absurd z hn
  · exact br_t z hQ
theorem fx_isActive_y {post : Int32 → Prop} {x : Nat} (hx : x < N) (hN : N ≤ 16) (hs : st x ≤ 2) (h1 : st x = 1 → post 1) (h0 : st x ≠ 1 → post 0) : wpX_isActive post ((nI M), (nI N), cap, (nI t), ld, ov, ms, mg, (nI h), cc, gm, (fs_A st), (fs_A e), (fs_A p), (fs_A sh), (fs_A jn), (fs_A dn), ls, lp, (fs_A dp), (fs_A sw), (fs_A sr), (fs_A rl), (fs_A ed), (fs_A rs), (fs_A ai), (fs_A ae), (fs_A ar), rc, dc, pc, (fs_A hp), (fs_A ky), se, ch, cp, rp, rb) (nI x) :=
  br_f (nI_pos (by omega)) (br_f (nI_ge hx (by omega)) (And.intro (fs_in (by omega)) (pk_eq (st x) 1 h1 h0 (fs_Ai st (by omega)))))
theorem fx_heavy {post : Int32 → Prop} {x : Nat} (hx : x < 16) (he : e x ≤ 16) (hp6 : p x ≤ 16) (hl : 2 * e x < p x → post 0) (hh : ¬ 2 * e x < p x → post 1) : wpX_isHeavy post ((nI M), (nI N), cap, (nI t), ld, ov, ms, mg, (nI h), cc, gm, (fs_A st), (fs_A e), (fs_A p), (fs_A sh), (fs_A jn), (fs_A dn), ls, lp, (fs_A dp), (fs_A sw), (fs_A sr), (fs_A rl), (fs_A ed), (fs_A rs), (fs_A ai), (fs_A ae), (fs_A ar), rc, dc, pc, (fs_A hp), (fs_A ky), se, ch, cp, rp, rb) (nI x) := by
  refine And.intro (fs_in hx) (And.intro (fs_in hx) ?_)
  refine pk_lt (2 * e x) (p x) hl (fun z => hh (by omega)) ?_ (fs_Ai p (by omega))
  rw [fs_Ai e (by omega)]
  exact pk_mul 2 (e x)
theorem fx_relDead {post : Int32 → Prop} {x k : Nat} (hx : x < 16) (h1 : 1 ≤ e x) (he : e x ≤ 16) (hp6 : p x ≤ 16) (hk : k ≤ 2000) (hQ : post (nI (fs_d (p x) (e x) k))) : wpX_relativeDeadline post ((nI M), (nI N), cap, (nI t), ld, ov, ms, mg, (nI h), cc, gm, (fs_A st), (fs_A e), (fs_A p), (fs_A sh), (fs_A jn), (fs_A dn), ls, lp, (fs_A dp), (fs_A sw), (fs_A sr), (fs_A rl), (fs_A ed), (fs_A rs), (fs_A ai), (fs_A ae), (fs_A ar), rc, dc, pc, (fs_A hp), (fs_A ky), se, ch, cp, rp, rb) (nI x) (nI k) := by
  have hb := fs_ml hk hp6
  refine And.intro (fs_in hx) (nm_r (fs_Ai e (by omega)) (And.intro (fs_in hx) ?_))
  have e1 : nI k * fs_A p (nI x).toNatClampNeg + nI (e x) - 1 = nI (k * p x + e x - 1) := by
    rw [fs_Ai p (by omega), pk_mul, nI_add, fs_s1 (by omega)]
  rw [e1]
  exact fx_quo _ (by omega) h1 (by omega) hQ
theorem fx_bitOf {post : Int32 → Prop} {x k : Nat} (hx : x < 16) (h1 : 1 ≤ e x) (he : e x ≤ 16) (hp6 : p x ≤ 16) (hk : k ≤ 2000) (hQ : post (nI (fs_b (p x) (e x) k))) : wpX_bitOf post ((nI M), (nI N), cap, (nI t), ld, ov, ms, mg, (nI h), cc, gm, (fs_A st), (fs_A e), (fs_A p), (fs_A sh), (fs_A jn), (fs_A dn), ls, lp, (fs_A dp), (fs_A sw), (fs_A sr), (fs_A rl), (fs_A ed), (fs_A rs), (fs_A ai), (fs_A ae), (fs_A ar), rc, dc, pc, (fs_A hp), (fs_A ky), se, ch, cp, rp, rb) (nI x) (nI k) := by
  have hb := fs_ml hk hp6
  have hm := fs_md (k * p x) (e x)
  have hq : k * p x / e x * e x = e x * (k * p x / e x) := Nat.mul_comm _ _
  refine And.intro (fs_in hx) (nm_r (fs_Ai e (by omega)) (And.intro (fs_in hx) (nm_r (e' := nI (k * p x)) (by rw [fs_Ai p (by omega), pk_mul]) ?_)))
  refine fx_quo _ (by omega) h1 (by omega) ?_
  refine pk_eq (k * p x / e x * e x) (k * p x) (fun z => ?_) (fun z => ?_) (pk_mul _ _) rfl (by omega) (by omega)
  · have : fs_b (p x) (e x) k = 0 := if_pos (by omega)
    rw [this] at hQ
    exact hQ
  · have : fs_b (p x) (e x) k = 1 := if_neg (by omega)
    rw [this] at hQ
    exact hQ
theorem fx_relGroup {post : Int32 → Prop} {x d : Nat} (hx : x < 16) (h1 : 1 ≤ e x) (he : e x ≤ p x) (hp6 : p x ≤ 16) (hd1 : 1 ≤ d) (hd : d ≤ 40000) (hQ : post (nI (fs_g (p x) (e x) d))) : wpX_relativeGroup post ((nI M), (nI N), cap, (nI t), ld, ov, ms, mg, (nI h), cc, gm, (fs_A st), (fs_A e), (fs_A p), (fs_A sh), (fs_A jn), (fs_A dn), ls, lp, (fs_A dp), (fs_A sw), (fs_A sr), (fs_A rl), (fs_A ed), (fs_A rs), (fs_A ai), (fs_A ae), (fs_A ar), rc, dc, pc, (fs_A hp), (fs_A ky), se, ch, cp, rp, rb) (nI x) (nI d) := by
  refine And.intro (fs_in hx) (nm_r (fs_Ai p (by omega)) (And.intro (fs_in hx) (nm_r (e' := nI (p x - e x)) (by rw [fs_Ai e (by omega), pk_sub he]) ?_)))
  unfold fs_g at hQ
  refine pk_le 1 (p x - e x) (fun hg => ?_) (fun hg => ?_)
  · rw [if_neg (by omega)] at hQ
    have hb := fs_ml (show d - 1 ≤ 40000 by omega) (show p x - e x ≤ 16 by omega)
    have hb2 : (d - 1) * (p x - e x) / p x ≤ (d - 1) * (p x - e x) := Nat.div_le_self _ _
    have hb3 := fs_ml (show (d - 1) * (p x - e x) / p x + 1 ≤ 640001 by omega) hp6
    have e1 : (nI d - 1) * nI (p x - e x) = nI ((d - 1) * (p x - e x)) := by rw [fs_s1 hd1, pk_mul]
    rw [e1]
    refine fx_quo _ (by omega) (by omega) (by omega) (nm_e ?_)
    have e2 : (nI ((d - 1) * (p x - e x) / p x) + 1) * nI (p x) + nI (p x - e x) - 1 = nI (((d - 1) * (p x - e x) / p x + 1) * p x + (p x - e x) - 1) := by
      rw [nI_1, pk_mul, nI_add, fs_s1 (by omega)]
    rw [e2]
    exact fx_quo _ (by omega) (by omega) (by omega) hQ
  · rw [if_pos (by omega)] at hQ
    exact hQ
theorem fx_absGroup {post : Int32 → Prop} {x d : Nat} (hx : x < 16) (h1 : 1 ≤ e x) (he : e x ≤ p x) (hp6 : p x ≤ 16) (hd1 : 1 ≤ d) (hd : d ≤ 40000) (hQ : post (nI (if 2 * e x < p x then 0 else jn x + fs_g (p x) (e x) d))) : wpX_absoluteGroup post ((nI M), (nI N), cap, (nI t), ld, ov, ms, mg, (nI h), cc, gm, (fs_A st), (fs_A e), (fs_A p), (fs_A sh), (fs_A jn), (fs_A dn), ls, lp, (fs_A dp), (fs_A sw), (fs_A sr), (fs_A rl), (fs_A ed), (fs_A rs), (fs_A ai), (fs_A ae), (fs_A ar), rc, dc, pc, (fs_A hp), (fs_A ky), se, ch, cp, rp, rb) (nI x) (nI d) := by
  unfold wpX_absoluteGroup
  refine fx_heavy hx (by omega) hp6 (fun z => ?_) (fun z => ?_)
  · rw [if_pos z] at hQ
    exact br_t rfl hQ
  · rw [if_neg z] at hQ
    refine br_f (by decide) (And.intro (fs_in hx) (fx_relGroup hx h1 he hp6 hd1 hd ?_))
    rw [fs_Ai jn (by omega), nI_add]
    exact hQ
/-- the value F of leave -/
def fs_F (t p e j k : Nat) : Nat := if k = 0 then t else if 2 * e < p then j + fs_d p e k + fs_b p e k else j + fs_g p e (fs_d p e k) + fs_b p e k + 1
theorem fx_safe {post : Int32 → Prop} {x : Nat} (hx : x < 16) (h1 : 1 ≤ e x) (he : e x ≤ p x) (hp6 : p x ≤ 16) (hk : dn x ≤ 2000) (hQ : post (nI (fs_F t (p x) (e x) (jn x) (dn x)))) : wpX_safeDeparture post ((nI M), (nI N), cap, (nI t), ld, ov, ms, mg, (nI h), cc, gm, (fs_A st), (fs_A e), (fs_A p), (fs_A sh), (fs_A jn), (fs_A dn), ls, lp, (fs_A dp), (fs_A sw), (fs_A sr), (fs_A rl), (fs_A ed), (fs_A rs), (fs_A ai), (fs_A ae), (fs_A ar), rc, dc, pc, (fs_A hp), (fs_A ky), se, ch, cp, rp, rb) (nI x) := by
  unfold fs_F at hQ
  refine And.intro (fs_in hx) (nm_r (fs_Ai dn (by omega)) ?_)
  refine pk_eq (dn x) 0 (fun z => ?_) (fun z => ?_)
  · rw [if_pos z] at hQ
    exact hQ
  · rw [if_neg z] at hQ
    refine fx_relDead hx h1 (by omega) hp6 hk (fx_bitOf hx h1 (by omega) hp6 hk (fx_heavy hx (by omega) hp6 (fun y => ?_) (fun y => ?_)))
    · rw [if_pos y] at hQ
      refine br_t rfl (And.intro (fs_in hx) ?_)
      rw [fs_Ai jn (by omega), nI_add, nI_add]
      exact hQ
    · rw [if_neg y] at hQ
      have hd := fs_d_ge h1 he (dn x)
      have hd2 : fs_d (p x) (e x) (dn x) ≤ 40000 := by
        have hb := fs_ml hk hp6
        have := Nat.div_le_self (dn x * p x + e x - 1) (e x)
        unfold fs_d
        omega
      refine br_f (by decide) (And.intro (fs_in hx) (fx_relGroup hx h1 he hp6 (by omega) hd2 ?_))
      rw [fs_Ai jn (by omega), nI_add, nI_add, nI_1]
      exact hQ
theorem fx_lowest {post : Int32 → Prop} (hN : N ≤ 16) (hs : ∀ x, st x ≤ 2) (hf : ∀ j, j < N → st j = 0 → (∀ i, i < j → st i ≠ 0) → post (nI j)) (hn : (∀ i, i < N → st i ≠ 0) → post (-1)) : ∀ d j, j + d = N → (∀ i, i < j → st i ≠ 0) → wX_lowestFree_2 post (nI M) (nI N) cap (nI t) ld ov ms mg (nI h) cc gm (fs_A st) (fs_A e) (fs_A p) (fs_A sh) (fs_A jn) (fs_A dn) ls lp (fs_A dp) (fs_A sw) (fs_A sr) (fs_A rl) (fs_A ed) (fs_A rs) (fs_A ai) (fs_A ae) (fs_A ar) rc dc pc (fs_A hp) (fs_A ky) se ch cp rp rb (d + 1) (nI j) := by
  intro d
  induction d with
  | zero =>
    intro j hj hi
    have : j = N := by omega
    subst this
    exact br_t (nI_le (Nat.le_refl _) (by omega)) (hn hi)
  | succ d ih =>
    intro j hj hi
    refine br_f (nI_ge (by omega) (by omega)) (And.intro (fs_in (by omega)) ?_)
    have := hs j
    refine pk_eq (st j) 0 (fun z => hf j (by omega) z hi) (fun z => nm_r (nI_1 j) (ih (j + 1) (by omega) (lt_s hi z))) (fs_Ai st (by omega))
theorem fx_lowestFree {post : Int32 → Prop} (hN : N ≤ 16) (hs : ∀ x, st x ≤ 2) (hf : ∀ j, j < N → st j = 0 → (∀ i, i < j → st i ≠ 0) → post (nI j)) (hn : (∀ i, i < N → st i ≠ 0) → post (-1)) : wpX_lowestFree post ((nI M), (nI N), cap, (nI t), ld, ov, ms, mg, (nI h), cc, gm, (fs_A st), (fs_A e), (fs_A p), (fs_A sh), (fs_A jn), (fs_A dn), ls, lp, (fs_A dp), (fs_A sw), (fs_A sr), (fs_A rl), (fs_A ed), (fs_A rs), (fs_A ai), (fs_A ae), (fs_A ar), rc, dc, pc, (fs_A hp), (fs_A ky), se, ch, cp, rp, rb) :=
  ⟨N + 1, fx_lowest hN hs hf hn N 0 (by omega) lt_0⟩
theorem fx_settle {post : SX → Prop} {x E P S : Nat} (hx : x < 16) (hE : 1 ≤ E) (hEP : E ≤ P) (hP : P ≤ 16) (K : post ((nI M), (nI N), cap, (nI t), ld, ov, ms, mg, (nI h), cc, gm, (fs_A (fs_u st x 1)), (fs_A (fs_u e x E)), (fs_A (fs_u p x P)), (fs_A (fs_u sh x S)), (fs_A (fs_u jn x t)), (fs_A (fs_u dn x 0)), (upd ls x (-9)), (upd lp x (-1)), (fs_A (fs_u dp x 0)), (fs_A (fs_u sw x (P / E))), (fs_A (fs_u sr x (P % E))), (fs_A rl), (fs_A (fs_u ed x t)), (fs_A (fs_u rs x 0)), (fs_A (fs_u ai x 0)), (fs_A (fs_u ae x t)), (fs_A (fs_u ar x 0)), rc, dc, pc, (fs_A hp), (fs_A ky), se, ch, cp, rp, rb)) : wpX_settle post ((nI M), (nI N), cap, (nI t), ld, ov, ms, mg, (nI h), cc, gm, (fs_A st), (fs_A e), (fs_A p), (fs_A sh), (fs_A jn), (fs_A dn), ls, lp, (fs_A dp), (fs_A sw), (fs_A sr), (fs_A rl), (fs_A ed), (fs_A rs), (fs_A ai), (fs_A ae), (fs_A ar), rc, dc, pc, (fs_A hp), (fs_A ky), se, ch, cp, rp, rb) (nI x) (nI E) (nI P) (nI S) := by
  have hi := fs_in hx
  have hc : (nI x).toNatClampNeg = x := nI_clamp (by omega)
  have hm := fs_md P E
  have hq : P / E * E = E * (P / E) := Nat.mul_comm _ _
  have U : ∀ (f : Nat → Nat) (v : Nat), upd (fs_A f) (nI x).toNatClampNeg (nI v) = fs_A (fs_u f x v) := fun f v => by rw [hc, fs_up]
  have U' : ∀ (f : Nat → Int32) (v : Int32), upd f (nI x).toNatClampNeg v = upd f x v := fun f v => by rw [hc]
  refine And.intro hi (nm_r (U st 1) (And.intro hi (nm_r (U e E) (And.intro hi (nm_r (U p P) (And.intro hi (nm_r (U sh S) (And.intro hi (nm_r (U jn t) (And.intro hi (nm_r (U dn 0) (And.intro hi (nm_r (U' ls (-9)) (And.intro hi (nm_r (U' lp (-1)) (And.intro hi (nm_r (U dp 0) ?_)))))))))))))))))
  refine fx_quo _ (by omega) hE (by omega) ?_
  refine And.intro hi (nm_r (U sw (P / E)) (And.intro hi (nm_r (e' := fs_A (fs_u sr x (P % E))) ?_ (And.intro hi (nm_r (U ed t) (And.intro hi (nm_r (U rs 0) (And.intro hi (nm_r (U ai 0) (And.intro hi (nm_r (U ae t) (And.intro hi (nm_r (U ar 0) K)))))))))))))
  rw [pk_mul, pk_sub (by omega), U]
  congr 2
  omega
theorem fx_open122 {post : SX → Prop} {x b E T : Nat} (hx : x < 16) (hb : b ≤ 1) (hE : E < 1000) (hT : T ≤ 1023) (K : post ((nI M), (nI N), cap, (nI t), ld, ov, ms, mg, (nI h), cc, gm, (fs_A st), (fs_A e), (fs_A p), (fs_A sh), (fs_A jn), (fs_A dn), ls, lp, (fs_A dp), (fs_A sw), (fs_A sr), (fs_A rl), (fs_A ed), (fs_A rs), (fs_A ai), (fs_A ae), (fs_A ar), rc, dc, pc, (fs_A hp), (fs_A (fs_u ky x (((2 * E + 1 - b) * 1024 + T) * 16 + x))), se, ch, cp, rp, rb)) : wX_openWindow_122 post (nI x) (nI b) (nI E) (nI T) (nI M) (nI N) cap (nI t) ld ov ms mg (nI h) cc gm (fs_A st) (fs_A e) (fs_A p) (fs_A sh) (fs_A jn) (fs_A dn) ls lp (fs_A dp) (fs_A sw) (fs_A sr) (fs_A rl) (fs_A ed) (fs_A rs) (fs_A ai) (fs_A ae) (fs_A ar) rc dc pc (fs_A hp) (fs_A ky) se ch cp rp rb := by
  refine nm_r (e' := nI (2 * E + 1 - b)) ?_ (And.intro (fs_in hx) (nm_r ?_ K))
  · have e1 : nI E * 2 = nI (2 * E) := by
      rw [Nat.mul_comm]
      exact pk_mul E 2
    rw [e1, nI_1, pk_sub (by omega)]
  · have e1 : nI (2 * E + 1 - b) <<< ((10 : Int32) &&& 31) = nI ((2 * E + 1 - b) * 1024) := pk_shlN _ 10 (by decide) (by omega)
    have e2 : ∀ z : Nat, nI z * 16 = nI (z * 16) := fun z => pk_mul z 16
    rw [e1, nI_add, e2, nI_add, nI_clamp (by omega), fs_up]
theorem fx_open85 {post : SX → Prop} {x n b : Nat} (hx : x < 16) (h1 : 1 ≤ e x) (he : e x ≤ p x) (hp6 : p x ≤ 16) (hj : jn x + fs_d (p x) (e x) (n + 1) < 1000) (hb : b = fs_b (p x) (e x) (n + 1)) (K : post ((nI M), (nI N), cap, (nI t), ld, ov, ms, mg, (nI h), cc, gm, (fs_A st), (fs_A e), (fs_A p), (fs_A sh), (fs_A jn), (fs_A dn), ls, lp, (fs_A dp), (fs_A sw), (fs_A sr), (fs_A rl), (fs_A ed), (fs_A rs), (fs_A ai), (fs_A ae), (fs_A ar), rc, dc, pc, (fs_A hp), (fs_A (fs_u ky x (fs_k (p x) (e x) (jn x) n x))), se, ch, cp, rp, rb)) : wX_openWindow_85 post (nI x) (nI (jn x + fs_r (p x) (e x) (n + 1))) (nI b) (nI M) (nI N) cap (nI t) ld ov ms mg (nI h) cc gm (fs_A st) (fs_A e) (fs_A p) (fs_A sh) (fs_A jn) (fs_A dn) ls lp (fs_A dp) (fs_A sw) (fs_A sr) (fs_A rl) (fs_A ed) (fs_A rs) (fs_A ai) (fs_A ae) (fs_A ar) rc dc pc (fs_A hp) (fs_A ky) se ch cp rp rb := by
  have hd := fs_d_eq (p := p x) h1 (n + 1)
  have hb1 : b = 0 ∨ b = 1 := by rw [hb]; exact fs_b_01 _ _ _
  have hdg := fs_d_ge h1 he (n + 1)
  unfold fs_k fs_tl fs_ag at K
  rw [← hb] at K
  refine nm_r (e' := nI (jn x + fs_d (p x) (e x) (n + 1))) ?_ ?_
  · rw [nI_add, hd, hb, Nat.add_assoc]
  · refine pk_eq b 1 (fun z => And.intro (fs_in hx) ?_) (fun z => ?_)
    · rw [if_pos z] at K
      have e1 : nI (jn x + fs_d (p x) (e x) (n + 1)) - fs_A jn (nI x).toNatClampNeg = nI (fs_d (p x) (e x) (n + 1)) := by
        rw [fs_Ai jn (by omega), pk_sub (by omega), Nat.add_sub_cancel_left]
      rw [e1]
      have hg := fs_ag_le (j := jn x) hp6 h1 he (show 1 ≤ n + 1 by omega)
      unfold fs_ag at hg
      refine fx_absGroup hx h1 he hp6 (by omega) (by omega) (nm_r (pk_sub (a := 1023) (by omega)) ?_)
      exact fx_open122 hx (by omega) hj (by omega) K
    · rw [if_neg z] at K
      exact fx_open122 (T := 0) hx (by omega) hj (by decide) K
theorem fx_open62 {post : SX → Prop} {x n : Nat} (hx : x < 16) (h1 : 1 ≤ e x) (he : e x ≤ p x) (hp6 : p x ≤ 16) (hj : jn x + fs_d (p x) (e x) (n + 1) < 1000) (K : post ((nI M), (nI N), cap, (nI t), ld, ov, ms, mg, (nI h), cc, gm, (fs_A st), (fs_A e), (fs_A p), (fs_A sh), (fs_A jn), (fs_A dn), ls, lp, (fs_A dp), (fs_A sw), (fs_A sr), (fs_A rl), (fs_A (fs_u ed x (jn x + fs_r (p x) (e x) (n + 1)))), (fs_A (fs_u rs x (fs_m (p x) (e x) (n + 1)))), (fs_A ai), (fs_A ae), (fs_A ar), rc, dc, pc, (fs_A hp), (fs_A (fs_u ky x (fs_k (p x) (e x) (jn x) n x))), se, ch, cp, rp, rb)) : wX_openWindow_62 post (nI x) (nI (jn x + fs_r (p x) (e x) (n + 1))) (nI (fs_m (p x) (e x) (n + 1))) (nI M) (nI N) cap (nI t) ld ov ms mg (nI h) cc gm (fs_A st) (fs_A e) (fs_A p) (fs_A sh) (fs_A jn) (fs_A dn) ls lp (fs_A dp) (fs_A sw) (fs_A sr) (fs_A rl) (fs_A ed) (fs_A rs) (fs_A ai) (fs_A ae) (fs_A ar) rc dc pc (fs_A hp) (fs_A ky) se ch cp rp rb := by
  have hm := fs_m_lt (p := p x) h1 (n + 1)
  have hi := fs_in hx
  refine And.intro hi (nm_r (by rw [nI_clamp (by omega), fs_up]) (And.intro hi (nm_r (by rw [nI_clamp (by omega), fs_up]) ?_)))
  refine pk_le (fs_m (p x) (e x) (n + 1)) 0 (fun z => ?_) (fun z => ?_)
  · exact fx_open85 (b := 0) hx h1 he hp6 hj (fs_b_zero (by omega)).symm K
  · exact fx_open85 (b := 1) hx h1 he hp6 hj (fs_b_pos z).symm K
theorem fx_open {post : SX → Prop} {x n : Nat} (hx : x < 16) (h1 : 1 ≤ e x) (he : e x ≤ p x) (hp6 : p x ≤ 16) (hj : jn x + fs_d (p x) (e x) (n + 1) < 1000) (hed : ed x = jn x + fs_r (p x) (e x) n) (hrs : rs x = fs_m (p x) (e x) n) (hsw : sw x = p x / e x) (hsr : sr x = p x % e x) (K : post ((nI M), (nI N), cap, (nI t), ld, ov, ms, mg, (nI h), cc, gm, (fs_A st), (fs_A e), (fs_A p), (fs_A sh), (fs_A jn), (fs_A dn), ls, lp, (fs_A dp), (fs_A sw), (fs_A sr), (fs_A (fs_u rl x (jn x + fs_r (p x) (e x) n))), (fs_A (fs_u ed x (jn x + fs_r (p x) (e x) (n + 1)))), (fs_A (fs_u rs x (fs_m (p x) (e x) (n + 1)))), (fs_A ai), (fs_A ae), (fs_A ar), rc, dc, pc, (fs_A hp), (fs_A (fs_u ky x (fs_k (p x) (e x) (jn x) n x))), se, ch, cp, rp, rb)) : wpX_openWindow post ((nI M), (nI N), cap, (nI t), ld, ov, ms, mg, (nI h), cc, gm, (fs_A st), (fs_A e), (fs_A p), (fs_A sh), (fs_A jn), (fs_A dn), ls, lp, (fs_A dp), (fs_A sw), (fs_A sr), (fs_A rl), (fs_A ed), (fs_A rs), (fs_A ai), (fs_A ae), (fs_A ar), rc, dc, pc, (fs_A hp), (fs_A ky), se, ch, cp, rp, rb) (nI x) := by
  have hi := fs_in hx
  have hm := fs_m_lt (p := p x) h1 n
  have hm2 : p x % e x < e x := Nat.mod_lt _ h1
  have hs := fs_r_s (p := p x) h1 n
  refine And.intro hi (And.intro hi (nm_r (e' := fs_A (fs_u rl x (jn x + fs_r (p x) (e x) n))) (by rw [fs_Ai ed (by omega), nI_clamp (by omega), fs_up, hed]) (And.intro hi (And.intro hi (nm_r (e' := nI (jn x + fs_r (p x) (e x) n + p x / e x)) (by rw [fs_Ai ed (by omega), fs_Ai sw (by omega), nI_add, hed, hsw]) (And.intro hi (And.intro hi (nm_r (e' := nI (fs_m (p x) (e x) n + p x % e x)) (by rw [fs_Ai rs (by omega), fs_Ai sr (by omega), nI_add, hrs, hsr]) (And.intro hi ?_)))))))))
  refine pk_lt (fs_m (p x) (e x) n + p x % e x) (e x) (fun z => ?_) (fun z => And.intro hi ?_) rfl (fs_Ai e (by omega))
  · have := hs.1 z
    rw [← this.2, show jn x + fs_r (p x) (e x) n + p x / e x = jn x + fs_r (p x) (e x) (n + 1) by rw [this.1, Nat.add_assoc]]
    exact fx_open62 hx h1 he hp6 hj K
  · have := hs.2 z
    refine nm_r (e' := nI (fs_m (p x) (e x) (n + 1))) (by rw [fs_Ai e (by omega), pk_sub z, this.2]) (nm_r (e' := nI (jn x + fs_r (p x) (e x) (n + 1))) ?_ (fx_open62 hx h1 he hp6 hj K))
    rw [nI_1, this.1]
    congr 1
    omega
theorem fx_aud84 {post : SX → Prop} {x a b : Nat} (hx : x < 16) (hs : a + b < 1000) (K : post ((nI M), (nI N), cap, (nI t), ld, ov, ms, mg, (nI h), cc, gm, (fs_A st), (fs_A e), (fs_A p), (fs_A sh), (fs_A jn), (fs_A dn), ls, lp, (fs_A dp), (fs_A sw), (fs_A sr), (fs_A rl), (fs_A ed), (fs_A rs), (fs_A ai), (fs_A ae), (fs_A ar), rc, (fs_set dc (a + b) x), pc, (fs_A hp), (fs_A ky), se, ch, cp, rp, rb)) : wX_advanceAudit_84 post (nI x) (nI b) (nI a) (nI M) (nI N) cap (nI t) ld ov ms mg (nI h) cc gm (fs_A st) (fs_A e) (fs_A p) (fs_A sh) (fs_A jn) (fs_A dn) ls lp (fs_A dp) (fs_A sw) (fs_A sr) (fs_A rl) (fs_A ed) (fs_A rs) (fs_A ai) (fs_A ae) (fs_A ar) rc dc pc (fs_A hp) (fs_A ky) se ch cp rp rb := by
  refine nm_r (nI_add a b) (br_f (nI_pos (by omega)) (pk_lt 600 (a + b) (fun z => ?_) (fun z => ?_)))
  · rw [show fs_set dc (a + b) x = dc from if_neg (by omega)] at K
    exact K
  · rw [show fs_set dc (a + b) x = upd dc (a + b) (dc (a + b) ||| fs_1 x) from if_pos z] at K
    refine And.intro (fs_inC z) (And.intro (fs_inC z) (nm_r ?_ K))
    rw [nI_clamp (by omega)]
    rfl
theorem fx_aud50 {post : SX → Prop} {x k : Nat} (hx : x < 16) (h1 : 1 ≤ e x) (hp6 : p x ≤ 16) (he : e x ≤ p x) (hj : jn x + fs_d (p x) (e x) (k + 1) < 1000) (hai : ai x = k) (K : post ((nI M), (nI N), cap, (nI t), ld, ov, ms, mg, (nI h), cc, gm, (fs_A st), (fs_A e), (fs_A p), (fs_A sh), (fs_A jn), (fs_A dn), ls, lp, (fs_A dp), (fs_A sw), (fs_A sr), (fs_A rl), (fs_A ed), (fs_A rs), (fs_A (fs_u ai x (k + 1))), (fs_A (fs_u ae x (jn x + fs_r (p x) (e x) (k + 1)))), (fs_A (fs_u ar x (fs_m (p x) (e x) (k + 1)))), rc, (fs_set dc (jn x + fs_d (p x) (e x) (k + 1)) x), pc, (fs_A hp), (fs_A ky), se, ch, cp, rp, rb)) : wX_advanceAudit_50 post (nI x) (nI (jn x + fs_r (p x) (e x) (k + 1))) (nI (fs_m (p x) (e x) (k + 1))) (nI M) (nI N) cap (nI t) ld ov ms mg (nI h) cc gm (fs_A st) (fs_A e) (fs_A p) (fs_A sh) (fs_A jn) (fs_A dn) ls lp (fs_A dp) (fs_A sw) (fs_A sr) (fs_A rl) (fs_A ed) (fs_A rs) (fs_A ai) (fs_A ae) (fs_A ar) rc dc pc (fs_A hp) (fs_A ky) se ch cp rp rb := by
  have hm := fs_m_lt (p := p x) h1 (k + 1)
  have hi := fs_in hx
  have hd := fs_d_eq (p := p x) h1 (k + 1)
  refine And.intro hi (nm_r (by rw [nI_clamp (by omega), fs_up]) (And.intro hi (nm_r (by rw [nI_clamp (by omega), fs_up]) (And.intro hi (And.intro hi (nm_r (e' := fs_A (fs_u ai x (k + 1))) (by rw [fs_Ai ai (by omega), nI_clamp (by omega), nI_1, fs_up, hai]) ?_))))))
  refine pk_le (fs_m (p x) (e x) (k + 1)) 0 (fun z => ?_) (fun z => ?_)
  · have hb : fs_b (p x) (e x) (k + 1) = 0 := fs_b_zero (by omega)
    refine fx_aud84 (b := 0) hx (by omega) ?_
    rw [show jn x + fs_r (p x) (e x) (k + 1) + 0 = jn x + fs_d (p x) (e x) (k + 1) by omega]
    exact K
  · have hb : fs_b (p x) (e x) (k + 1) = 1 := fs_b_pos z
    refine fx_aud84 (b := 1) hx (by omega) ?_
    rw [show jn x + fs_r (p x) (e x) (k + 1) + 1 = jn x + fs_d (p x) (e x) (k + 1) by omega]
    exact K
theorem fx_aud {post : SX → Prop} {x k : Nat} (hx : x < 16) (h1 : 1 ≤ e x) (he : e x ≤ p x) (hp6 : p x ≤ 16) (hj : jn x + fs_d (p x) (e x) (k + 1) < 1000) (hai : ai x = k) (hae : ae x = jn x + fs_r (p x) (e x) k) (har : ar x = fs_m (p x) (e x) k) (hsw : sw x = p x / e x) (hsr : sr x = p x % e x) (K : post ((nI M), (nI N), cap, (nI t), ld, ov, ms, mg, (nI h), cc, gm, (fs_A st), (fs_A e), (fs_A p), (fs_A sh), (fs_A jn), (fs_A dn), ls, lp, (fs_A dp), (fs_A sw), (fs_A sr), (fs_A rl), (fs_A ed), (fs_A rs), (fs_A (fs_u ai x (k + 1))), (fs_A (fs_u ae x (jn x + fs_r (p x) (e x) (k + 1)))), (fs_A (fs_u ar x (fs_m (p x) (e x) (k + 1)))), rc, (fs_set dc (jn x + fs_d (p x) (e x) (k + 1)) x), pc, (fs_A hp), (fs_A ky), se, ch, cp, rp, rb)) : wpX_advanceAudit post ((nI M), (nI N), cap, (nI t), ld, ov, ms, mg, (nI h), cc, gm, (fs_A st), (fs_A e), (fs_A p), (fs_A sh), (fs_A jn), (fs_A dn), ls, lp, (fs_A dp), (fs_A sw), (fs_A sr), (fs_A rl), (fs_A ed), (fs_A rs), (fs_A ai), (fs_A ae), (fs_A ar), rc, dc, pc, (fs_A hp), (fs_A ky), se, ch, cp, rp, rb) (nI x) := by
  have hi := fs_in hx
  have hm := fs_m_lt (p := p x) h1 k
  have hm2 : p x % e x < e x := Nat.mod_lt _ h1
  have hs := fs_r_s (p := p x) h1 k
  refine And.intro hi (And.intro hi (nm_r (e' := nI (jn x + fs_r (p x) (e x) k + p x / e x)) (by rw [fs_Ai ae (by omega), fs_Ai sw (by omega), nI_add, hae, hsw]) (And.intro hi (And.intro hi (nm_r (e' := nI (fs_m (p x) (e x) k + p x % e x)) (by rw [fs_Ai ar (by omega), fs_Ai sr (by omega), nI_add, har, hsr]) (And.intro hi ?_))))))
  refine pk_lt (fs_m (p x) (e x) k + p x % e x) (e x) (fun z => ?_) (fun z => And.intro hi ?_) rfl (fs_Ai e (by omega))
  · have := hs.1 z
    rw [← this.2, show jn x + fs_r (p x) (e x) k + p x / e x = jn x + fs_r (p x) (e x) (k + 1) by rw [this.1, Nat.add_assoc]]
    exact fx_aud50 hx h1 hp6 he hj hai K
  · have := hs.2 z
    refine nm_r (e' := nI (fs_m (p x) (e x) (k + 1))) (by rw [fs_Ai e (by omega), pk_sub z, this.2]) (nm_r (e' := nI (jn x + fs_r (p x) (e x) (k + 1))) ?_ (fx_aud50 hx h1 hp6 he hj hai K))
    rw [nI_1, this.1]
    congr 1
    omega
theorem fx_free {post : SX → Prop} {x : Nat} (hx : x < 16) (K : post ((nI M), (nI N), cap, (nI t), (ld - nI (sh x)), ov, ms, mg, (nI h), cc, gm, (fs_A (fs_u st x 0)), (fs_A e), (fs_A p), (fs_A (fs_u sh x 0)), (fs_A jn), (fs_A dn), ls, lp, (fs_A dp), (fs_A sw), (fs_A sr), (fs_A rl), (fs_A ed), (fs_A rs), (fs_A ai), (fs_A ae), (fs_A ar), rc, dc, pc, (fs_A hp), (fs_A ky), se, ch, cp, rp, rb)) : wpX_release_ post ((nI M), (nI N), cap, (nI t), ld, ov, ms, mg, (nI h), cc, gm, (fs_A st), (fs_A e), (fs_A p), (fs_A sh), (fs_A jn), (fs_A dn), ls, lp, (fs_A dp), (fs_A sw), (fs_A sr), (fs_A rl), (fs_A ed), (fs_A rs), (fs_A ai), (fs_A ae), (fs_A ar), rc, dc, pc, (fs_A hp), (fs_A ky), se, ch, cp, rp, rb) (nI x) := by
  have hi := fs_in hx
  have U : ∀ (f : Nat → Nat) (v : Nat), upd (fs_A f) (nI x).toNatClampNeg (nI v) = fs_A (fs_u f x v) := fun f v => by rw [nI_clamp (by omega), fs_up]
  exact And.intro hi (nm_r (U st 0) (And.intro hi (nm_r (by rw [fs_Ai sh (by omega)]) (And.intro hi (nm_r (U sh 0) K)))))
end
end
section
/-! X: the heap's methods -/
section
variable {M N t h : Nat} {cap ld ov ms mg cc gm : Int32} {st e p sh jn dn dp sw sr rl ed rs ai ae ar hp ky : Nat → Nat} {ls lp rc dc pc se ch cp rp rb : Nat → Int32}
theorem fx_seat {post : SX → Prop} {a k : Nat} (ha : a < 16) (hk : k < 2 ^ 31) (K : post ((nI M), (nI N), cap, (nI t), ld, ov, ms, mg, (nI h), cc, gm, (fs_A st), (fs_A e), (fs_A p), (fs_A sh), (fs_A jn), (fs_A dn), ls, lp, (fs_A dp), (fs_A sw), (fs_A sr), (fs_A rl), (fs_A ed), (fs_A rs), (fs_A ai), (fs_A ae), (fs_A ar), rc, dc, pc, (fs_A (fs_u hp a k)), (fs_A ky), (upd se (k % 16) (nI a)), ch, cp, rp, rb)) : wpX_seat post ((nI M), (nI N), cap, (nI t), ld, ov, ms, mg, (nI h), cc, gm, (fs_A st), (fs_A e), (fs_A p), (fs_A sh), (fs_A jn), (fs_A dn), ls, lp, (fs_A dp), (fs_A sw), (fs_A sr), (fs_A rl), (fs_A ed), (fs_A rs), (fs_A ai), (fs_A ae), (fs_A ar), rc, dc, pc, (fs_A hp), (fs_A ky), se, ch, cp, rp, rb) (nI a) (nI k) := by
  have e1 := fs_15 hk
  have h2 : k % 16 < 16 := Nat.mod_lt _ (by decide)
  refine And.intro (fs_in ha) (nm_r (by rw [nI_clamp (by omega), fs_up]) (And.intro ?_ (nm_r ?_ K)))
  · rw [e1]; exact fs_in h2
  · rw [e1, nI_clamp (by omega)]
theorem fx_siftUp5 {post : SX → Prop} {C : Nat → Prop} {k : Nat} (K : ∀ (hp' : Nat → Nat) (se' : Nat → Int32), fs_H h hp' se' C → post ((nI M), (nI N), cap, (nI t), ld, ov, ms, mg, (nI h), cc, gm, (fs_A st), (fs_A e), (fs_A p), (fs_A sh), (fs_A jn), (fs_A dn), ls, lp, (fs_A dp), (fs_A sw), (fs_A sr), (fs_A rl), (fs_A ed), (fs_A rs), (fs_A ai), (fs_A ae), (fs_A ar), rc, dc, pc, (fs_A hp'), (fs_A ky), se', ch, cp, rp, rb)) : ∀ (d a l : Nat) (hp : Nat → Nat) (se : Nat → Int32), fs_Hh h a k hp se C → fs_Uo h (fs_u hp a k) a → l + d = 4 → a + 1 ≤ 2 ^ d → wX_siftUp_5 post (nI k) (d + 1) (nI a) (nI l) (nI M) (nI N) cap (nI t) ld ov ms mg (nI h) cc gm (fs_A st) (fs_A e) (fs_A p) (fs_A sh) (fs_A jn) (fs_A dn) ls lp (fs_A dp) (fs_A sw) (fs_A sr) (fs_A rl) (fs_A ed) (fs_A rs) (fs_A ai) (fs_A ae) (fs_A ar) rc dc pc (fs_A hp) (fs_A ky) se ch cp rp rb := by
  intro d
  induction d with
  | zero =>
    intro a l hp se H U hl ha
    have hk := fs_Hh_k H
    have h16 : a < 16 := by have := H.1; have := H.2.1; omega
    have h0 : a = 0 := by
      rw [Nat.pow_zero] at ha
      omega
    refine br_f (nI_ge (b := 5) (by omega) (by decide)) (br_t (nI_le (b := 0) (by omega) (by decide)) ?_)
    exact fx_seat h16 (by omega) (K _ _ (fs_close H (fs_Uo_x U (Or.inl h0))))
  | succ d ih =>
    intro a l hp se H U hl ha
    have hk := fs_Hh_k H
    have h16 : a < 16 := by have := H.1; have := H.2.1; omega
    have hah := H.2.1
    have fin : fs_Ho h (fs_u hp a k) → wX_siftUp_57 post (nI k) (nI a) (nI M) (nI N) cap (nI t) ld ov ms mg (nI h) cc gm (fs_A st) (fs_A e) (fs_A p) (fs_A sh) (fs_A jn) (fs_A dn) ls lp (fs_A dp) (fs_A sw) (fs_A sr) (fs_A rl) (fs_A ed) (fs_A rs) (fs_A ai) (fs_A ae) (fs_A ar) rc dc pc (fs_A hp) (fs_A ky) se ch cp rp rb := fun O => fx_seat h16 (by omega) (K _ _ (fs_close H O))
    refine br_f (nI_ge (b := 5) (by omega) (by decide)) ?_
    refine pk_le a 0 (fun h0 => fin (fs_Uo_x U (Or.inl (by omega)))) (fun h0 => ?_)
    have hb : (a - 1) / 2 < h := by omega
    have hba : (a - 1) / 2 ≠ a := by omega
    have hv := fs_Hh_V H hb hba
    refine nm_r (fs_par h0 (by omega)) (And.intro (fs_in (by omega)) ?_)
    refine pk_lt k (hp ((a - 1) / 2)) (fun hlt => And.intro (fs_in (by omega)) ?_) (fun hge => fin (fs_Uo_x U (Or.inr ?_))) rfl (fs_Ai hp (by omega))
    · rw [fs_Ai hp (by omega)]
      refine fx_seat h16 (by omega) (nm_r (nI_1 l) ?_)
      refine ih _ _ _ _ (fs_move H hb hba) ?_ (by omega) ?_
      · exact fs_Uo_s (W := fs_u hp a k) rfl h0 hah (by rw [fs_un (fun z => hba z.symm), fs_us, fs_un hba]) (by rw [fs_us, fs_us]) (fun i h1 h2 => by rw [fs_un h2, fs_un h1, fs_un h1]) (by rw [fs_us, fs_un hba]; exact hlt) U
      · rw [Nat.pow_succ] at ha
        omega
    · rw [fs_us, fs_un hba]
      exact hge
theorem fx_siftUp {post : SX → Prop} {C : Nat → Prop} {k a : Nat} (H : fs_Hh h a k hp se C) (U : fs_Uo h (fs_u hp a k) a) (K : ∀ (hp' : Nat → Nat) (se' : Nat → Int32), fs_H h hp' se' C → post ((nI M), (nI N), cap, (nI t), ld, ov, ms, mg, (nI h), cc, gm, (fs_A st), (fs_A e), (fs_A p), (fs_A sh), (fs_A jn), (fs_A dn), ls, lp, (fs_A dp), (fs_A sw), (fs_A sr), (fs_A rl), (fs_A ed), (fs_A rs), (fs_A ai), (fs_A ae), (fs_A ar), rc, dc, pc, (fs_A hp'), (fs_A ky), se', ch, cp, rp, rb)) : wpX_siftUp post ((nI M), (nI N), cap, (nI t), ld, ov, ms, mg, (nI h), cc, gm, (fs_A st), (fs_A e), (fs_A p), (fs_A sh), (fs_A jn), (fs_A dn), ls, lp, (fs_A dp), (fs_A sw), (fs_A sr), (fs_A rl), (fs_A ed), (fs_A rs), (fs_A ai), (fs_A ae), (fs_A ar), rc, dc, pc, (fs_A hp), (fs_A ky), se, ch, cp, rp, rb) (nI a) (nI k) :=
  ⟨5, fx_siftUp5 K 4 a 0 hp se H U rfl (by have := H.1; have := H.2.1; omega)⟩
theorem fx_down63 {post : SX → Prop} {J : Int32 → Int32 → Int32 → Int32 → Int32 → Int32 → Int32 → Int32 → Int32 → Int32 → Int32 → Int32 → Int32 → (Nat → Int32) → (Nat → Int32) → (Nat → Int32) → (Nat → Int32) → (Nat → Int32) → (Nat → Int32) → (Nat → Int32) → (Nat → Int32) → (Nat → Int32) → (Nat → Int32) → (Nat → Int32) → (Nat → Int32) → (Nat → Int32) → (Nat → Int32) → (Nat → Int32) → (Nat → Int32) → (Nat → Int32) → (Nat → Int32) → (Nat → Int32) → (Nat → Int32) → (Nat → Int32) → (Nat → Int32) → (Nat → Int32) → (Nat → Int32) → (Nat → Int32) → (Nat → Int32) → (Nat → Int32) → Prop} {k a l c : Nat} (ha : a < 16) (hc : c < 16) (hk : k < 2 ^ 31) (hv : hp c < 2 ^ 31) (f : hp c < k → J (nI c) (nI (l + 1)) (nI M) (nI N) cap (nI t) ld ov ms mg (nI h) cc gm (fs_A st) (fs_A e) (fs_A p) (fs_A sh) (fs_A jn) (fs_A dn) ls lp (fs_A dp) (fs_A sw) (fs_A sr) (fs_A rl) (fs_A ed) (fs_A rs) (fs_A ai) (fs_A ae) (fs_A ar) rc dc pc (fs_A (fs_u hp a (hp c))) (fs_A ky) (upd se (hp c % 16) (nI a)) ch cp rp rb) (g : k ≤ hp c → post ((nI M), (nI N), cap, (nI t), ld, ov, ms, mg, (nI h), cc, gm, (fs_A st), (fs_A e), (fs_A p), (fs_A sh), (fs_A jn), (fs_A dn), ls, lp, (fs_A dp), (fs_A sw), (fs_A sr), (fs_A rl), (fs_A ed), (fs_A rs), (fs_A ai), (fs_A ae), (fs_A ar), rc, dc, pc, (fs_A (fs_u hp a k)), (fs_A ky), (upd se (k % 16) (nI a)), ch, cp, rp, rb)) : wX_siftDown_63 post J (nI k) (nI a) (nI l) (nI c) (nI M) (nI N) cap (nI t) ld ov ms mg (nI h) cc gm (fs_A st) (fs_A e) (fs_A p) (fs_A sh) (fs_A jn) (fs_A dn) ls lp (fs_A dp) (fs_A sw) (fs_A sr) (fs_A rl) (fs_A ed) (fs_A rs) (fs_A ai) (fs_A ae) (fs_A ar) rc dc pc (fs_A hp) (fs_A ky) se ch cp rp rb := by
  refine And.intro (fs_in hc) ?_
  refine pk_lt (hp c) k (fun z => And.intro (fs_in hc) ?_) (fun z => fx_seat ha hk (g z)) (fs_Ai hp (by omega)) rfl
  rw [fs_Ai hp (by omega)]
  exact fx_seat ha hv (nm_r (nI_1 l) (f z))
theorem fx_siftDown5 {post : SX → Prop} {C : Nat → Prop} {k : Nat} (K : ∀ (hp' : Nat → Nat) (se' : Nat → Int32), fs_H h hp' se' C → post ((nI M), (nI N), cap, (nI t), ld, ov, ms, mg, (nI h), cc, gm, (fs_A st), (fs_A e), (fs_A p), (fs_A sh), (fs_A jn), (fs_A dn), ls, lp, (fs_A dp), (fs_A sw), (fs_A sr), (fs_A rl), (fs_A ed), (fs_A rs), (fs_A ai), (fs_A ae), (fs_A ar), rc, dc, pc, (fs_A hp'), (fs_A ky), se', ch, cp, rp, rb)) : ∀ (d a l : Nat) (hp : Nat → Nat) (se : Nat → Int32), fs_Hh h a k hp se C → fs_Do h (fs_u hp a k) a → l + d = 4 → 2 ^ l ≤ a + 1 → wX_siftDown_5 post (nI k) (d + 1) (nI a) (nI l) (nI M) (nI N) cap (nI t) ld ov ms mg (nI h) cc gm (fs_A st) (fs_A e) (fs_A p) (fs_A sh) (fs_A jn) (fs_A dn) ls lp (fs_A dp) (fs_A sw) (fs_A sr) (fs_A rl) (fs_A ed) (fs_A rs) (fs_A ai) (fs_A ae) (fs_A ar) rc dc pc (fs_A hp) (fs_A ky) se ch cp rp rb := by
  intro d
  induction d with
  | zero =>
    intro a l hp se H U hl ha
    have hk := fs_Hh_k H
    have h16 : a < 16 := by have := H.1; have := H.2.1; omega
    have hh := H.1
    have hl4 : l = 4 := by omega
    subst hl4
    refine br_f (nI_ge (b := 5) (by omega) (by decide)) (nm_r (e' := nI (2 * a + 1)) ?_ (br_f (nI_nlt (by omega) (by omega)) ?_))
    · rw [show (2 : Int32) = nI 2 from rfl, pk_mul, nI_1]
    · exact fx_seat h16 (by omega) (K _ _ (fs_close H (fs_Do_x U (fun d h1 h2 h3 => by omega))))
  | succ d ih =>
    intro a l hp se H U hl ha
    have hk := fs_Hh_k H
    have h16 : a < 16 := by have := H.1; have := H.2.1; omega
    have hah := H.2.1
    have hh := H.1
    have hpw : 2 ^ (l + 1) = 2 ^ l * 2 := Nat.pow_succ ..
    have down : ∀ c, (c - 1) / 2 = a → 0 < c → c < h → (∀ d, 0 < d → d < h → (d - 1) / 2 = a → hp c ≤ hp d) → wX_siftDown_63 post (wX_siftDown_5 post (nI k) (d + 1)) (nI k) (nI a) (nI l) (nI c) (nI M) (nI N) cap (nI t) ld ov ms mg (nI h) cc gm (fs_A st) (fs_A e) (fs_A p) (fs_A sh) (fs_A jn) (fs_A dn) ls lp (fs_A dp) (fs_A sw) (fs_A sr) (fs_A rl) (fs_A ed) (fs_A rs) (fs_A ai) (fs_A ae) (fs_A ar) rc dc pc (fs_A hp) (fs_A ky) se ch cp rp rb := by
      intro c hc hc0 hch hmin
      have hca : c ≠ a := by omega
      have hv := fs_Hh_V H hch hca
      refine fx_down63 h16 (by omega) (by omega) (by omega) (fun z => ?_) (fun z => K _ _ (fs_close H (fs_Do_x U (fun d h1 h2 h3 => ?_))))
      · refine ih _ _ _ _ (fs_move H hch hca) ?_ (by omega) (by omega)
        exact fs_Do_s (W := fs_u hp a k) hc hc0 hch (by rw [fs_un (fun z => hca z.symm), fs_us, fs_un hca]) (by rw [fs_us, fs_us]) (fun i h1 h2 => by rw [fs_un h2, fs_un h1, fs_un h1]) (by rw [fs_us, fs_un hca]; exact z) (fun d h1 h2 h3 => by rw [fs_un hca, fs_un (by omega)]; exact hmin d h1 h2 h3) U
      · rw [fs_us, fs_un (by omega)]
        exact Nat.le_trans z (hmin d h1 h2 h3)
    refine br_f (nI_ge (b := 5) (by omega) (by decide)) (nm_r (e' := nI (2 * a + 1)) ?_ ?_)
    · rw [show (2 : Int32) = nI 2 from rfl, pk_mul, nI_1]
    · refine pk_lt (2 * a + 1) h (fun h1 => ?_) (fun h1 => fx_seat h16 (by omega) (K _ _ (fs_close H (fs_Do_x U (fun d h1 h2 h3 => by omega)))))
      refine pk_le h (2 * a + 1 + 1) (fun h2 => ?_) (fun h2 => ?_) rfl (nI_1 _)
      · exact down _ (by omega) (by omega) h1 (fun d x y z => by rw [show d = 2 * a + 1 by omega]; exact Nat.le_refl _)
      · have v1 := fs_Hh_V H (b := 2 * a + 1) (by omega) (by omega)
        have v2 := fs_Hh_V H (b := 2 * a + 1 + 1) (by omega) (by omega)
        have e1 : fs_A hp (nI (2 * a + 1) + 1).toNatClampNeg = nI (hp (2 * a + 1 + 1)) := by rw [nI_1]; exact fs_Ai hp (by omega)
        refine And.intro (by rw [nI_1]; exact fs_in (by omega)) (And.intro (fs_in (by omega)) ?_)
        refine pk_le (hp (2 * a + 1)) (hp (2 * a + 1 + 1)) (fun h3 => ?_) (fun h3 => nm_r (nI_1 _) ?_) (fs_Ai hp (by omega)) e1
        · exact down _ (by omega) (by omega) h1 (fun d x y z => by
            rcases (show d = 2 * a + 1 ∨ d = 2 * a + 1 + 1 by omega) with w | w <;> rw [w]
            · exact Nat.le_refl _
            · exact h3)
        · exact down _ (by omega) (by omega) h2 (fun d x y z => by
            rcases (show d = 2 * a + 1 ∨ d = 2 * a + 1 + 1 by omega) with w | w <;> rw [w]
            · omega
            · exact Nat.le_refl _)
theorem fx_siftDown {post : SX → Prop} {C : Nat → Prop} {k a : Nat} (H : fs_Hh h a k hp se C) (U : fs_Do h (fs_u hp a k) a) (K : ∀ (hp' : Nat → Nat) (se' : Nat → Int32), fs_H h hp' se' C → post ((nI M), (nI N), cap, (nI t), ld, ov, ms, mg, (nI h), cc, gm, (fs_A st), (fs_A e), (fs_A p), (fs_A sh), (fs_A jn), (fs_A dn), ls, lp, (fs_A dp), (fs_A sw), (fs_A sr), (fs_A rl), (fs_A ed), (fs_A rs), (fs_A ai), (fs_A ae), (fs_A ar), rc, dc, pc, (fs_A hp'), (fs_A ky), se', ch, cp, rp, rb)) : wpX_siftDown post ((nI M), (nI N), cap, (nI t), ld, ov, ms, mg, (nI h), cc, gm, (fs_A st), (fs_A e), (fs_A p), (fs_A sh), (fs_A jn), (fs_A dn), ls, lp, (fs_A dp), (fs_A sw), (fs_A sr), (fs_A rl), (fs_A ed), (fs_A rs), (fs_A ai), (fs_A ae), (fs_A ar), rc, dc, pc, (fs_A hp), (fs_A ky), se, ch, cp, rp, rb) (nI a) (nI k) :=
  ⟨5, fx_siftDown5 K 4 a 0 hp se H U rfl (by omega)⟩
theorem fx_push {post : SX → Prop} {C : Nat → Prop} {k : Nat} (H : fs_H h hp se C) (hn : ∀ z, C z → z % 16 ≠ k % 16) (hk : k < 2 ^ 30) (K : ∀ (hp' : Nat → Nat) (se' : Nat → Int32), fs_H (h + 1) hp' se' (fun z => C z ∨ z = k) → post ((nI M), (nI N), cap, (nI t), ld, ov, ms, mg, (nI (h + 1)), cc, gm, (fs_A st), (fs_A e), (fs_A p), (fs_A sh), (fs_A jn), (fs_A dn), ls, lp, (fs_A dp), (fs_A sw), (fs_A sr), (fs_A rl), (fs_A ed), (fs_A rs), (fs_A ai), (fs_A ae), (fs_A ar), rc, dc, pc, (fs_A hp'), (fs_A ky), se', ch, cp, rp, rb)) : wpX_push post ((nI M), (nI N), cap, (nI t), ld, ov, ms, mg, (nI h), cc, gm, (fs_A st), (fs_A e), (fs_A p), (fs_A sh), (fs_A jn), (fs_A dn), ls, lp, (fs_A dp), (fs_A sw), (fs_A sr), (fs_A rl), (fs_A ed), (fs_A rs), (fs_A ai), (fs_A ae), (fs_A ar), rc, dc, pc, (fs_A hp), (fs_A ky), se, ch, cp, rp, rb) (nI k) := by
  have hr := fs_room H hn
  have hu := fs_push H hn hk
  refine br_t (nI_lt (b := 16) hr (by decide)) (nm_r (nI_1 h) ?_)
  exact fx_siftUp (h := h + 1) hu.1 hu.2 K
theorem fx_removeAt {post : SX → Prop} {C : Nat → Prop} {a : Nat} (H : fs_H (h + 1) hp se C) (ha : a < h + 1) (K : ∀ (hp' : Nat → Nat) (se' : Nat → Int32), fs_H h hp' se' (fun z => C z ∧ z ≠ hp a) → post ((nI M), (nI N), cap, (nI t), ld, ov, ms, mg, (nI h), cc, gm, (fs_A st), (fs_A e), (fs_A p), (fs_A sh), (fs_A jn), (fs_A dn), ls, lp, (fs_A dp), (fs_A sw), (fs_A sr), (fs_A rl), (fs_A ed), (fs_A rs), (fs_A ai), (fs_A ae), (fs_A ar), rc, dc, pc, (fs_A hp'), (fs_A ky), se', ch, cp, rp, rb)) : wpX_removeAt post ((nI M), (nI N), cap, (nI t), ld, ov, ms, mg, (nI (h + 1)), cc, gm, (fs_A st), (fs_A e), (fs_A p), (fs_A sh), (fs_A jn), (fs_A dn), ls, lp, (fs_A dp), (fs_A sw), (fs_A sr), (fs_A rl), (fs_A ed), (fs_A rs), (fs_A ai), (fs_A ae), (fs_A ar), rc, dc, pc, (fs_A hp), (fs_A ky), se, ch, cp, rp, rb) (nI a) := by
  have h16 := H.1
  have hv : hp a < 2 ^ 30 := H.2.1.2.2.2 _ (H.2.1.1 a ha)
  have hv2 : hp h < 2 ^ 30 := H.2.1.2.2.2 _ (H.2.1.1 h (by omega))
  have hm : hp a % 16 < 16 := Nat.mod_lt _ (by decide)
  have e1 : fs_A hp (nI a).toNatClampNeg &&& 15 = nI (hp a % 16) := by rw [fs_Ai hp (by omega), fs_15 (by omega)]
  refine br_f (nI_pos (by omega)) (br_t (nI_lt ha (by omega)) (And.intro (fs_in (by omega)) (And.intro (by rw [e1]; exact fs_in hm) (nm_r (e' := upd se (hp a % 16) (-1)) (by rw [e1, nI_clamp (by omega)]) (nm_r (nI_pred h) ?_)))))
  refine pk_eq a h (fun z => ?_) (fun z => And.intro (fs_in (by omega)) (nm_r (fs_Ai hp (by omega)) ?_))
  · exact K _ _ (fs_rem_last H z)
  · have hr := fs_rem H (show a < h by omega)
    refine pk_le a 0 (fun y => ?_) (fun y => ?_)
    · exact fx_siftDown hr.1 (hr.2.2 (fun w => by omega)) K
    · have hv3 : hp ((a - 1) / 2) < 2 ^ 30 := H.2.1.2.2.2 _ (H.2.1.1 _ (by omega))
      rw [fs_par y (by omega)]
      refine And.intro (fs_in (by omega)) ?_
      refine pk_le (hp ((a - 1) / 2)) (hp h) (fun w => ?_) (fun w => ?_) (fs_Ai hp (by omega)) rfl
      · exact fx_siftDown hr.1 (hr.2.2 (fun v => by omega)) K
      · exact fx_siftUp hr.1 (hr.2.1 ⟨y, w⟩) K
theorem fx_enq_push {post : SX → Prop} {C : Nat → Prop} {x : Nat} (hx : x < 16) (hr : rl x ≤ t) (ht : t ≤ 600) (H : fs_H h hp se C) (hn : ∀ z, C z → z % 16 ≠ ky x % 16) (hk : ky x < 2 ^ 30) (K : ∀ (hp' : Nat → Nat) (se' : Nat → Int32), fs_H (h + 1) hp' se' (fun z => C z ∨ z = ky x) → post ((nI M), (nI N), cap, (nI t), ld, ov, ms, mg, (nI (h + 1)), cc, gm, (fs_A st), (fs_A e), (fs_A p), (fs_A sh), (fs_A jn), (fs_A dn), ls, lp, (fs_A dp), (fs_A sw), (fs_A sr), (fs_A rl), (fs_A ed), (fs_A rs), (fs_A ai), (fs_A ae), (fs_A ar), rc, dc, pc, (fs_A hp'), (fs_A ky), se', ch, cp, rp, rb)) : wpX_enqueue post ((nI M), (nI N), cap, (nI t), ld, ov, ms, mg, (nI h), cc, gm, (fs_A st), (fs_A e), (fs_A p), (fs_A sh), (fs_A jn), (fs_A dn), ls, lp, (fs_A dp), (fs_A sw), (fs_A sr), (fs_A rl), (fs_A ed), (fs_A rs), (fs_A ai), (fs_A ae), (fs_A ar), rc, dc, pc, (fs_A hp), (fs_A ky), se, ch, cp, rp, rb) (nI x) := by
  refine And.intro (fs_in hx) (nm_r (fs_Ai rl (by omega)) (br_f (nI_nlt hr (by omega)) (And.intro (fs_in hx) ?_)))
  rw [fs_Ai ky (by omega)]
  exact fx_push H hn hk K
theorem fx_enq_cal {post : SX → Prop} {x : Nat} (hx : x < 16) (hr : t < rl x) (hr2 : rl x < 1000) (ht : t ≤ 600) (K : post ((nI M), (nI N), cap, (nI t), ld, ov, ms, mg, (nI h), cc, gm, (fs_A st), (fs_A e), (fs_A p), (fs_A sh), (fs_A jn), (fs_A dn), ls, lp, (fs_A dp), (fs_A sw), (fs_A sr), (fs_A rl), (fs_A ed), (fs_A rs), (fs_A ai), (fs_A ae), (fs_A ar), (fs_set rc (rl x) x), dc, pc, (fs_A hp), (fs_A ky), se, ch, cp, rp, rb)) : wpX_enqueue post ((nI M), (nI N), cap, (nI t), ld, ov, ms, mg, (nI h), cc, gm, (fs_A st), (fs_A e), (fs_A p), (fs_A sh), (fs_A jn), (fs_A dn), ls, lp, (fs_A dp), (fs_A sw), (fs_A sr), (fs_A rl), (fs_A ed), (fs_A rs), (fs_A ai), (fs_A ae), (fs_A ar), rc, dc, pc, (fs_A hp), (fs_A ky), se, ch, cp, rp, rb) (nI x) := by
  refine And.intro (fs_in hx) (nm_r (fs_Ai rl (by omega)) (br_t (nI_lt hr (by omega)) ?_))
  refine pk_lt 600 (rl x) (fun z => ?_) (fun z => ?_)
  · rw [show fs_set rc (rl x) x = rc from if_neg (by omega)] at K
    exact K
  · rw [show fs_set rc (rl x) x = upd rc (rl x) (rc (rl x) ||| fs_1 x) from if_pos z] at K
    refine And.intro (fs_inC z) (And.intro (fs_inC z) (nm_r ?_ K))
    rw [nI_clamp (by omega)]
    rfl
theorem fx_wd76 {post : SX → Prop} {x a b : Nat} (hs : a + b < 1000) (K : post ((nI M), (nI N), cap, (nI t), ld, ov, ms, mg, (nI h), cc, gm, (fs_A st), (fs_A e), (fs_A p), (fs_A sh), (fs_A jn), (fs_A dn), ls, lp, (fs_A dp), (fs_A sw), (fs_A sr), (fs_A rl), (fs_A ed), (fs_A rs), (fs_A ai), (fs_A ae), (fs_A ar), rc, (fs_clr dc (a + b) x), pc, (fs_A hp), (fs_A ky), se, ch, cp, rp, rb)) : wX_withdraw_76 post (fs_1 x ^^^ (-1)) (nI b) (nI a) (nI M) (nI N) cap (nI t) ld ov ms mg (nI h) cc gm (fs_A st) (fs_A e) (fs_A p) (fs_A sh) (fs_A jn) (fs_A dn) ls lp (fs_A dp) (fs_A sw) (fs_A sr) (fs_A rl) (fs_A ed) (fs_A rs) (fs_A ai) (fs_A ae) (fs_A ar) rc dc pc (fs_A hp) (fs_A ky) se ch cp rp rb := by
  refine nm_r (nI_add a b) (br_f (nI_pos (by omega)) (pk_lt 600 (a + b) (fun z => ?_) (fun z => ?_)))
  · rw [show fs_clr dc (a + b) x = dc from if_neg (by omega)] at K
    exact K
  · rw [show fs_clr dc (a + b) x = upd dc (a + b) (dc (a + b) &&& (fs_1 x ^^^ (-1))) from if_pos z] at K
    refine And.intro (fs_inC z) (And.intro (fs_inC z) (nm_r ?_ K))
    rw [nI_clamp (by omega)]
theorem fx_wd56 {post : SX → Prop} {x k : Nat} (hx : x < 16) (h1 : 1 ≤ e x) (hp16 : p x ≤ 16) (he : e x ≤ p x) (hj : jn x + fs_d (p x) (e x) k < 1000) (hae : ae x = jn x + fs_r (p x) (e x) k) (har : ar x = fs_m (p x) (e x) k) (K : post ((nI M), (nI N), cap, (nI t), ld, ov, ms, mg, (nI h), cc, gm, (fs_A st), (fs_A e), (fs_A p), (fs_A sh), (fs_A jn), (fs_A dn), ls, lp, (fs_A dp), (fs_A sw), (fs_A sr), (fs_A rl), (fs_A ed), (fs_A rs), (fs_A ai), (fs_A ae), (fs_A ar), rc, (fs_clr dc (jn x + fs_d (p x) (e x) k) x), pc, (fs_A hp), (fs_A ky), se, ch, cp, rp, rb)) : wX_withdraw_56 post (nI x) (fs_1 x ^^^ (-1)) (nI M) (nI N) cap (nI t) ld ov ms mg (nI h) cc gm (fs_A st) (fs_A e) (fs_A p) (fs_A sh) (fs_A jn) (fs_A dn) ls lp (fs_A dp) (fs_A sw) (fs_A sr) (fs_A rl) (fs_A ed) (fs_A rs) (fs_A ai) (fs_A ae) (fs_A ar) rc dc pc (fs_A hp) (fs_A ky) se ch cp rp rb := by
  have hm := fs_m_lt (p := p x) h1 k
  have hi := fs_in hx
  have hd := fs_d_eq (p := p x) h1 k
  refine And.intro hi (And.intro hi ?_)
  refine pk_le (ar x) 0 (fun z => ?_) (fun z => ?_) (fs_Ai ar (by omega))
  · have hb : fs_b (p x) (e x) k = 0 := fs_b_zero (by omega)
    rw [fs_Ai ae (by omega)]
    refine fx_wd76 (b := 0) (by omega) ?_
    rw [show ae x + 0 = jn x + fs_d (p x) (e x) k by omega]
    exact K
  · have hb : fs_b (p x) (e x) k = 1 := fs_b_pos (by omega)
    rw [fs_Ai ae (by omega)]
    refine fx_wd76 (b := 1) (by omega) ?_
    rw [show ae x + 1 = jn x + fs_d (p x) (e x) k by omega]
    exact K
theorem fx_wd_cal {post : SX → Prop} {x k : Nat} (hx : x < 16) (h1 : 1 ≤ e x) (hp16 : p x ≤ 16) (he : e x ≤ p x) (hj : jn x + fs_d (p x) (e x) k < 1000) (hae : ae x = jn x + fs_r (p x) (e x) k) (har : ar x = fs_m (p x) (e x) k) (hse : se x = -1) (hrl : rl x < 1000) (K : post ((nI M), (nI N), cap, (nI t), ld, ov, ms, mg, (nI h), cc, gm, (fs_A st), (fs_A e), (fs_A p), (fs_A sh), (fs_A jn), (fs_A dn), ls, lp, (fs_A dp), (fs_A sw), (fs_A sr), (fs_A rl), (fs_A ed), (fs_A rs), (fs_A ai), (fs_A ae), (fs_A ar), (fs_clr rc (rl x) x), (fs_clr dc (jn x + fs_d (p x) (e x) k) x), pc, (fs_A hp), (fs_A ky), se, ch, cp, rp, rb)) : wpX_withdraw post ((nI M), (nI N), cap, (nI t), ld, ov, ms, mg, (nI h), cc, gm, (fs_A st), (fs_A e), (fs_A p), (fs_A sh), (fs_A jn), (fs_A dn), ls, lp, (fs_A dp), (fs_A sw), (fs_A sr), (fs_A rl), (fs_A ed), (fs_A rs), (fs_A ai), (fs_A ae), (fs_A ar), rc, dc, pc, (fs_A hp), (fs_A ky), se, ch, cp, rp, rb) (nI x) := by
  have hi := fs_in hx
  refine nm_e (And.intro hi (br_t (by rw [nI_clamp (by omega), hse]; decide) (And.intro hi (nm_r (fs_Ai rl (by omega)) (br_f (nI_pos (by omega)) ?_)))))
  refine pk_lt 600 (rl x) (fun z => ?_) (fun z => ?_)
  · rw [show fs_clr rc (rl x) x = rc from if_neg (by omega)] at K
    exact fx_wd56 hx h1 hp16 he hj hae har K
  · rw [show fs_clr rc (rl x) x = upd rc (rl x) (rc (rl x) &&& (fs_1 x ^^^ (-1))) from if_pos z] at K
    refine And.intro (fs_inC z) (And.intro (fs_inC z) (nm_r ?_ (fx_wd56 hx h1 hp16 he hj hae har K)))
    rw [nI_clamp (by omega)]
    rfl
theorem fx_wd_heap {post : SX → Prop} {C : Nat → Prop} {x k a : Nat} (hx : x < 16) (h1 : 1 ≤ e x) (hp16 : p x ≤ 16) (he : e x ≤ p x) (hj : jn x + fs_d (p x) (e x) k < 1000) (hae : ae x = jn x + fs_r (p x) (e x) k) (har : ar x = fs_m (p x) (e x) k) (hse : se x = nI a) (ha : a < h + 1) (H : fs_H (h + 1) hp se C) (K : ∀ (hp' : Nat → Nat) (se' : Nat → Int32), fs_H h hp' se' (fun z => C z ∧ z ≠ hp a) → post ((nI M), (nI N), cap, (nI t), ld, ov, ms, mg, (nI h), cc, gm, (fs_A st), (fs_A e), (fs_A p), (fs_A sh), (fs_A jn), (fs_A dn), ls, lp, (fs_A dp), (fs_A sw), (fs_A sr), (fs_A rl), (fs_A ed), (fs_A rs), (fs_A ai), (fs_A ae), (fs_A ar), rc, (fs_clr dc (jn x + fs_d (p x) (e x) k) x), pc, (fs_A hp'), (fs_A ky), se', ch, cp, rp, rb)) : wpX_withdraw post ((nI M), (nI N), cap, (nI t), ld, ov, ms, mg, (nI (h + 1)), cc, gm, (fs_A st), (fs_A e), (fs_A p), (fs_A sh), (fs_A jn), (fs_A dn), ls, lp, (fs_A dp), (fs_A sw), (fs_A sr), (fs_A rl), (fs_A ed), (fs_A rs), (fs_A ai), (fs_A ae), (fs_A ar), rc, dc, pc, (fs_A hp), (fs_A ky), se, ch, cp, rp, rb) (nI x) := by
  have hi := fs_in hx
  have h16 := H.1
  have e1 : se (nI x).toNatClampNeg = nI a := by rw [nI_clamp (by omega), hse]
  refine nm_e (And.intro hi (br_f (by rw [e1]; exact nI_pos (by omega)) (And.intro hi ?_)))
  rw [e1]
  exact fx_removeAt H ha (fun hp' se' H' => fx_wd56 hx h1 hp16 he hj hae har (K hp' se' H'))
end
end
section
/-! validity of the common arrays, eligibility, keys -/
def fs_V (N t : Nat) (st e p jn dn : Nat → Nat) : Prop := N ≤ 16 ∧ t ≤ 600 ∧ (∀ x, st x ≤ 2) ∧ (∀ x, N ≤ x → st x = 0) ∧ ∀ x, st x ≠ 0 → 1 ≤ e x ∧ e x ≤ p x ∧ p x ≤ 16 ∧ jn x + fs_r (p x) (e x) (dn x - 1) ≤ t
def fs_el (t : Nat) (st e p jn dn : Nat → Nat) (x : Nat) : Bool := decide (st x = 1) && decide (jn x + fs_r (p x) (e x) (dn x) ≤ t)
def fs_K (e p jn dn : Nat → Nat) (x : Nat) : Nat := fs_k (p x) (e x) (jn x) (dn x) x
def fs_ca (N t : Nat) (st e p jn dn : Nat → Nat) (x : Nat) : Nat := fs_S (fun y => if (fs_el t st e p jn dn y && decide (fs_K e p jn dn y < fs_K e p jn dn x)) = true then 1 else 0) N
def fs_ld (N : Nat) (st e p : Nat → Nat) : Nat := fs_S (fun x => if st x = 0 then 0 else e x * (720720 / p x)) N
theorem fs_el_iff {t : Nat} {st e p jn dn : Nat → Nat} {x : Nat} : fs_el t st e p jn dn x = true ↔ st x = 1 ∧ jn x + fs_r (p x) (e x) (dn x) ≤ t := by
  unfold fs_el
  rw [Bool.and_eq_true, decide_eq_true_eq, decide_eq_true_eq]
theorem fs_V_x {N t : Nat} {st e p jn dn : Nat → Nat} (V : fs_V N t st e p jn dn) {x : Nat} (h : st x ≠ 0) : x < N ∧ x < 16 ∧ 1 ≤ e x ∧ e x ≤ p x ∧ p x ≤ 16 ∧ dn x ≤ 601 ∧ jn x ≤ 600 ∧ jn x + fs_d (p x) (e x) (dn x + 1) < 900 ∧ jn x + fs_r (p x) (e x) (dn x) < 900 := by
  obtain ⟨h1, h2, h3, h4, h5⟩ := V
  obtain ⟨a, b, c, d⟩ := h5 x h
  have hx : x < N := by
    rcases Nat.lt_or_ge x N with z | z
    · exact z
    · exact absurd (h4 x z) h
  have r1 := fs_r_ge (p := p x) a b (dn x - 1)
  have r2 := fs_r_up (p := p x) a c (dn x - 1)
  have r3 := fs_r_up (p := p x) a c (dn x)
  have r4 := (fs_rd (p := p x) a (dn x + 1)).2
  have r5 : fs_r (p x) (e x) (dn x) ≤ fs_r (p x) (e x) (dn x - 1) + 17 := by
    rcases Nat.lt_or_ge (dn x) 1 with z | z
    · rw [show dn x = 0 by omega]
      exact Nat.le_add_right _ _
    · rw [show dn x - 1 + 1 = dn x by omega] at r2
      exact r2
  refine ⟨hx, by omega, a, b, c, by omega, by omega, by omega, by omega⟩
theorem fs_K_mod {e p jn dn : Nat → Nat} {x : Nat} (h : x < 16) : fs_K e p jn dn x % 16 = x := fs_k_mod h
theorem fs_K_lt {N t : Nat} {st e p jn dn : Nat → Nat} (V : fs_V N t st e p jn dn) {x : Nat} (h : st x ≠ 0) : fs_K e p jn dn x < 2 ^ 30 := by
  have := fs_V_x V h
  exact fs_k_lt (by omega) (by omega)
/-! Y: the formulas -/
section
variable {M N t : Nat} {ms mg ov : Int32} {st e p jn dn : Nat → Nat} {yls ylp ydp yrp yrb yo : Nat → Int32}
theorem fy_rel {post : Int32 → Prop} {x k : Nat} (hx : x < 16) (h1 : 1 ≤ e x) (he : e x ≤ 16) (hp : p x ≤ 16) (hk : k ≤ 2000) (h : post (nI (fs_r (p x) (e x) k))) : wpY_rel post ((nI M), (nI N), (nI t), ms, mg, ov, (fs_A st), (fs_A e), (fs_A p), (fs_A jn), (fs_A dn), yls, ylp, ydp, yrp, yrb, yo) (nI x) (nI (k + 1)) := by
  have hb := fs_ml hk hp
  refine And.intro (fs_in hx) (nm_r (fs_Ai e (by omega)) (br_t (show (1 : Int32) ≤ nI (e x) from nI_le (a := 1) h1 (by omega)) (And.intro (fs_in hx) (And.intro (nI_ne0 h1 (by omega)) ?_))))
  rw [fs_Ai p (by omega), nI_pred, pk_mul, pk_div (by omega) h1 (by omega)]
  exact h
theorem fy_dead {post : Int32 → Prop} {x k : Nat} (hx : x < 16) (h1 : 1 ≤ e x) (he : e x ≤ 16) (hp : p x ≤ 16) (hk : k ≤ 2000) (h : post (nI (fs_d (p x) (e x) k))) : wpY_dead post ((nI M), (nI N), (nI t), ms, mg, ov, (fs_A st), (fs_A e), (fs_A p), (fs_A jn), (fs_A dn), yls, ylp, ydp, yrp, yrb, yo) (nI x) (nI k) := by
  have hb := fs_ml hk hp
  refine And.intro (fs_in hx) (nm_r (fs_Ai e (by omega)) (br_t (show (1 : Int32) ≤ nI (e x) from nI_le (a := 1) h1 (by omega)) (And.intro (fs_in hx) (And.intro (nI_ne0 h1 (by omega)) ?_))))
  rw [fs_Ai p (by omega), pk_mul, nI_add, fs_s1 (by omega), pk_div (by omega) h1 (by omega)]
  exact h
theorem fy_bit {post : Int32 → Prop} {x k : Nat} (hx : x < 16) (h1 : 1 ≤ e x) (he : e x ≤ 16) (hp : p x ≤ 16) (hk : k ≤ 2000) (h : post (nI (fs_b (p x) (e x) k))) : wpY_bit post ((nI M), (nI N), (nI t), ms, mg, ov, (fs_A st), (fs_A e), (fs_A p), (fs_A jn), (fs_A dn), yls, ylp, ydp, yrp, yrb, yo) (nI x) (nI k) := by
  have hb := fs_ml hk hp
  have hm : k * p x % e x < e x := Nat.mod_lt _ h1
  refine And.intro (fs_in hx) (nm_r (fs_Ai e (by omega)) (br_t (show (1 : Int32) ≤ nI (e x) from nI_le (a := 1) h1 (by omega)) (And.intro (fs_in hx) (And.intro (nI_ne0 h1 (by omega)) ?_))))
  refine pk_eq (k * p x % e x) 0 (fun z => ?_) (fun z => ?_) (by rw [fs_Ai p (by omega), pk_mul, pk_rem (by omega) h1 (by omega)]) rfl
  · rw [show fs_b (p x) (e x) k = 0 from if_pos z] at h
    exact h
  · rw [show fs_b (p x) (e x) k = 1 from if_neg z] at h
    exact h
theorem fy_heavy {post : Int32 → Prop} {x : Nat} (hx : x < 16) (he : e x ≤ 16) (hp : p x ≤ 16) (hl : 2 * e x < p x → post 0) (hh : ¬ 2 * e x < p x → post 1) : wpY_heavy post ((nI M), (nI N), (nI t), ms, mg, ov, (fs_A st), (fs_A e), (fs_A p), (fs_A jn), (fs_A dn), yls, ylp, ydp, yrp, yrb, yo) (nI x) := by
  refine And.intro (fs_in hx) (And.intro (fs_in hx) ?_)
  refine pk_lt (2 * e x) (p x) hl (fun z => hh (by omega)) ?_ (fs_Ai p (by omega))
  rw [fs_Ai e (by omega)]
  exact pk_mul 2 (e x)
theorem fy_g73 {post J10 J22 : Int32 → Prop} {x1 x2 x3 : Int32} {T D R m : Nat} (hT : T < 2 ^ 30) (hD : D < 2 ^ 30) (hR : R ≤ D) (y : T + 1 = D → D - R = 3 → post (nI T)) (n : ¬ (T + 1 = D ∧ D - R = 3) → J22 (nI (m + 1))) : wY_group_73 post J10 J22 x1 x2 x3 (nI T) (nI m) (nI D) (nI R) (nI M) (nI N) (nI t) ms mg ov (fs_A st) (fs_A e) (fs_A p) (fs_A jn) (fs_A dn) yls ylp ydp yrp yrb yo := by
  refine pk_eq (T + 1) D (fun a => ?_) (fun a => nm_r (nI_1 m) (n (fun z => a z.1))) (nI_1 T)
  refine pk_eq (D - R) 3 (fun b => y a b) (fun b => nm_r (nI_1 m) (n (fun z => b z.2))) (pk_sub hR)
theorem fs_q_iff {p e t m : Nat} : fs_q p e t m = true ↔ (t = fs_d p e m ∧ fs_b p e m = 0) ∨ (t + 1 = fs_d p e m ∧ fs_d p e m - fs_r p e (m - 1) = 3) := by
  unfold fs_q
  rw [Bool.or_eq_true, Bool.and_eq_true, Bool.and_eq_true, beq_iff_eq, beq_iff_eq, beq_iff_eq, beq_iff_eq]
theorem fs_d_le {p e k : Nat} (hp : p ≤ 16) (he : e ≤ 16) (hk : k ≤ 2000) : fs_d p e k ≤ 32100 := by
  have hb := fs_ml hk hp
  have := Nat.div_le_self (k * p + e - 1) e
  unfold fs_d
  omega
theorem fs_r_d {p e k : Nat} (h1 : 1 ≤ e) (he : e ≤ p) : fs_r p e k ≤ fs_d p e (k + 1) := by
  have a := fs_r_mono h1 he k
  have b := (fs_rd (p := p) h1 (k + 1)).1
  omega
theorem fy_g22 {post J10 : Int32 → Prop} {x3 : Int32} {x k T : Nat} (hx : x < 16) (h1 : 1 ≤ e x) (he : e x ≤ p x) (hp : p x ≤ 16) (hk : k ≤ 1900) (hk1 : 1 ≤ k) (hT : T < 2 ^ 30) : ∀ d i, i + d = 19 → ((∃ j, i ≤ j ∧ j < 19 ∧ fs_q (p x) (e x) T (k + j) = true) → post (nI T)) → ((∀ j, i ≤ j → j < 19 → fs_q (p x) (e x) T (k + j) = false) → J10 (nI (T + 1))) → wY_group_22 post J10 (nI x) (nI k) x3 (nI T) (nI M) (nI N) (nI t) ms mg ov (fs_A st) (fs_A e) (fs_A p) (fs_A jn) (fs_A dn) yls ylp ydp yrp yrb yo (d + 1) (nI (k + i)) := by
  intro d
  induction d with
  | zero =>
    intro i hi hp' hJ
    refine br_t ?_ (nm_r (nI_1 T) (hJ (fun j a b => by omega)))
    have : nI k + 18 = nI (k + 18) := nI_add k 18
    rw [this]
    exact nI_lt (by omega) (by omega)
  | succ d ih =>
    intro i hi hp' hJ
    have h18 : nI k + 18 = nI (k + 18) := nI_add k 18
    have hd := fs_d_le (e := e x) (k := k + i) hp (by omega) (by omega)
    obtain ⟨m, hm⟩ : ∃ m, k + i = m + 1 := ⟨k + i - 1, by omega⟩
    have hrd := fs_r_d (k := m) h1 he
    have hq := fs_q_iff (p := p x) (e := e x) (t := T) (m := m + 1)
    rw [show m + 1 - 1 = m from rfl] at hq
    refine br_f (by rw [h18]; exact nI_nlt (by omega) (by omega)) ?_
    have nxt : ¬ fs_q (p x) (e x) T (m + 1) = true → wY_group_22 post J10 (nI x) (nI k) x3 (nI T) (nI M) (nI N) (nI t) ms mg ov (fs_A st) (fs_A e) (fs_A p) (fs_A jn) (fs_A dn) yls ylp ydp yrp yrb yo (d + 1) (nI (m + 1 + 1)) := by
      intro hn
      rw [← hm, show k + i + 1 = k + (i + 1) by omega]
      refine ih (i + 1) (by omega) (fun ⟨j, a, b, c⟩ => hp' ⟨j, by omega, b, c⟩) (fun hall => hJ (fun j a b => ?_))
      by_cases z : j = i
      · rw [z, hm]
        exact Bool.not_eq_true _ ▸ hn
      · exact hall j (by omega) b
    have yes : fs_q (p x) (e x) T (m + 1) = true → post (nI T) := fun hy => hp' ⟨i, Nat.le_refl _, by omega, by rw [hm]; exact hy⟩
    rw [hm] at hd ⊢
    refine fy_dead hx h1 (by omega) hp (by omega) (fy_bit hx h1 (by omega) hp (by omega) (fy_rel hx h1 (by omega) hp (by omega) ?_))
    have hb := fs_b_01 (p x) (e x) (m + 1)
    refine pk_eq T (fs_d (p x) (e x) (m + 1)) (fun a => ?_) (fun a => ?_)
    · refine pk_eq (fs_b (p x) (e x) (m + 1)) 0 (fun b => yes (hq.mpr (Or.inl ⟨a, b⟩))) (fun b => ?_)
      refine fy_g73 hT (by omega) hrd (fun u v => yes (hq.mpr (Or.inr ⟨u, v⟩))) (fun u => nxt (fun w => ?_))
      rcases hq.mp w with c | c
      · exact b c.2
      · exact u c
    · refine fy_g73 hT (by omega) hrd (fun u v => yes (hq.mpr (Or.inr ⟨u, v⟩))) (fun u => nxt (fun w => ?_))
      rcases hq.mp w with c | c
      · exact a c.1
      · exact u c
theorem fy_g10 {post : Int32 → Prop} {x k : Nat} (hx : x < 16) (h1 : 1 ≤ e x) (he : e x ≤ p x) (hp : p x ≤ 16) (hh : p x ≤ 2 * e x) (hk : k ≤ 1900) (hk1 : 1 ≤ k) (h : post (nI (fs_g (p x) (e x) (fs_d (p x) (e x) k)))) : ∀ d s, fs_d (p x) (e x) k + s + d = fs_g (p x) (e x) (fs_d (p x) (e x) k) → wY_group_10 post (nI x) (nI k) (nI (fs_d (p x) (e x) k)) (nI M) (nI N) (nI t) ms mg ov (fs_A st) (fs_A e) (fs_A p) (fs_A jn) (fs_A dn) yls ylp ydp yrp yrb yo (d + 1) (nI (fs_d (p x) (e x) k + s)) := by
  obtain ⟨g1, g2, ⟨i, gi, g3⟩, g4⟩ := fs_grp hp h1 he hh hk1
  have hd := fs_d_le (e := e x) (k := k) hp (by omega) (by omega)
  have h17 : nI (fs_d (p x) (e x) k) + 17 = nI (fs_d (p x) (e x) k + 17) := nI_add _ 17
  intro d
  induction d with
  | zero =>
    intro s hs
    refine br_f (by rw [h17]; exact nI_nlt (by omega) (by omega)) ⟨20, ?_⟩
    refine fy_g22 hx h1 he hp hk hk1 (by omega) 19 0 rfl (fun _ => ?_) (fun hn => ?_)
    · rw [← hs] at h
      exact h
    · have := hn i (Nat.zero_le _) gi
      rw [show fs_d (p x) (e x) k + s = fs_g (p x) (e x) (fs_d (p x) (e x) k) by omega, g3] at this
      cases this
  | succ d ih =>
    intro s hs
    refine br_f (by rw [h17]; exact nI_nlt (by omega) (by omega)) ⟨20, ?_⟩
    refine fy_g22 hx h1 he hp hk hk1 (by omega) 19 0 rfl (fun ⟨j, _, hj, hq⟩ => ?_) (fun _ => ih (s + 1) (by omega))
    have := g4 s j (by omega) hj
    rw [hq] at this
    cases this
theorem fy_group {post : Int32 → Prop} {x k : Nat} (hx : x < 16) (h1 : 1 ≤ e x) (he : e x ≤ p x) (hp : p x ≤ 16) (hh : p x ≤ 2 * e x) (hk : k ≤ 1900) (hk1 : 1 ≤ k) (h : post (nI (fs_g (p x) (e x) (fs_d (p x) (e x) k)))) : wpY_group post ((nI M), (nI N), (nI t), ms, mg, ov, (fs_A st), (fs_A e), (fs_A p), (fs_A jn), (fs_A dn), yls, ylp, ydp, yrp, yrb, yo) (nI x) (nI k) := by
  have g1 := (fs_grp hp h1 he hh hk1).1
  unfold wpY_group
  refine fy_dead (k := k) hx h1 (by omega) hp (by omega) ⟨fs_g (p x) (e x) (fs_d (p x) (e x) k) - fs_d (p x) (e x) k + 1, ?_⟩
  exact fy_g10 hx h1 he hp hh hk hk1 h _ 0 (by omega)
theorem fy_absGroup {post : Int32 → Prop} {x k : Nat} (hx : x < 16) (h1 : 1 ≤ e x) (he : e x ≤ p x) (hp : p x ≤ 16) (hk : k ≤ 1900) (hk1 : 1 ≤ k) (h : post (nI (fs_ag (p x) (e x) (jn x) k))) : wpY_absGroup post ((nI M), (nI N), (nI t), ms, mg, ov, (fs_A st), (fs_A e), (fs_A p), (fs_A jn), (fs_A dn), yls, ylp, ydp, yrp, yrb, yo) (nI x) (nI k) := by
  unfold fs_ag at h
  unfold wpY_absGroup
  refine fy_heavy hx (by omega) hp (fun z => ?_) (fun z => ?_)
  · rw [if_pos z] at h
    exact br_t rfl h
  · rw [if_neg z] at h
    refine br_f (by decide) (And.intro (fs_in hx) (fy_group hx h1 he hp (by omega) hk hk1 ?_))
    rw [fs_Ai jn (by omega), nI_add]
    exact h
theorem fy_elig {post : Int32 → Prop} {x : Nat} (V : fs_V N t st e p jn dn) (hx : x < 16) (hy : fs_el t st e p jn dn x = true → post 1) (hn : fs_el t st e p jn dn x = false → post 0) : wpY_eligible post ((nI M), (nI N), (nI t), ms, mg, ov, (fs_A st), (fs_A e), (fs_A p), (fs_A jn), (fs_A dn), yls, ylp, ydp, yrp, yrb, yo) (nI x) := by
  have hs := V.2.2.1 x
  have ht := V.2.1
  refine And.intro (fs_in hx) ?_
  refine pk_eq (st x) 1 (fun z => And.intro (fs_in hx) (And.intro (fs_in hx) ?_)) (fun z => hn ?_) (fs_Ai st (by omega))
  · obtain ⟨a1, a2, a3, a4, a5, a6, a7, a8, a9⟩ := fs_V_x V (show st x ≠ 0 by omega)
    rw [fs_Ai dn (by omega), nI_1]
    refine fy_rel hx a3 (by omega) a5 (by omega) ?_
    refine pk_lt t (jn x + fs_r (p x) (e x) (dn x)) (fun w => hn ?_) (fun w => hy (fs_el_iff.mpr ⟨z, w⟩)) rfl (by rw [fs_Ai jn (by omega), nI_add])
    rw [← Bool.not_eq_true, fs_el_iff]
    omega
  · rw [← Bool.not_eq_true, fs_el_iff]
    exact fun w => z w.1
theorem fy_ah149 {post : Int32 → Prop} {x y : Nat} (hx : x < 16) (hy : y < 16) (a : x < y → post 1) (b : ¬ x < y → post 0) : wY_isAhead_149 post (nI x) (nI y) (nI M) (nI N) (nI t) ms mg ov (fs_A st) (fs_A e) (fs_A p) (fs_A jn) (fs_A dn) yls ylp ydp yrp yrb yo :=
  pk_le y x (fun z => b (by omega)) (fun z => a z)
theorem fy_ahead {post : Int32 → Prop} {x y : Nat} (V : fs_V N t st e p jn dn) (sx : st x ≠ 0) (sy : st y ≠ 0) (ha : fs_K e p jn dn x < fs_K e p jn dn y → post 1) (hb : ¬ fs_K e p jn dn x < fs_K e p jn dn y → post 0) : wpY_isAhead post ((nI M), (nI N), (nI t), ms, mg, ov, (fs_A st), (fs_A e), (fs_A p), (fs_A jn), (fs_A dn), yls, ylp, ydp, yrp, yrb, yo) (nI x) (nI y) := by
  obtain ⟨a1, a2, a3, a4, a5, a6, a7, a8, a9⟩ := fs_V_x V sx
  obtain ⟨b1, b2, b3, b4, b5, b6, b7, b8, b9⟩ := fs_V_x V sy
  have gx := fs_ag_le (j := jn x) a5 a3 a4 (show 1 ≤ dn x + 1 by omega)
  have gy := fs_ag_le (j := jn y) b5 b3 b4 (show 1 ≤ dn y + 1 by omega)
  have bx := fs_b_01 (p x) (e x) (dn x + 1)
  have by' := fs_b_01 (p y) (e y) (dn y + 1)
  have key := fs_ah_iff (D := jn x + fs_d (p x) (e x) (dn x + 1)) (D' := jn y + fs_d (p y) (e y) (dn y + 1)) (G := fs_ag (p x) (e x) (jn x) (dn x + 1)) (G' := fs_ag (p y) (e y) (jn y) (dn y + 1)) bx by' (by omega) (by omega) a2 b2
  have ha' := fun w => ha (key.mp w)
  have hb' : ¬ fs_ah (jn x + fs_d (p x) (e x) (dn x + 1)) (fs_b (p x) (e x) (dn x + 1)) (fs_ag (p x) (e x) (jn x) (dn x + 1)) x (jn y + fs_d (p y) (e y) (dn y + 1)) (fs_b (p y) (e y) (dn y + 1)) (fs_ag (p y) (e y) (jn y) (dn y + 1)) y → post 0 := fun w => hb (fun v => w (key.mpr v))
  unfold fs_ah at ha' hb'
  refine And.intro (fs_in a2) (nm_r (e' := nI (dn x + 1)) (by rw [fs_Ai dn (by omega), nI_1]) (And.intro (fs_in b2) (nm_r (e' := nI (dn y + 1)) (by rw [fs_Ai dn (by omega), nI_1]) (And.intro (fs_in a2) ?_))))
  refine fy_dead a2 a3 (by omega) a5 (by omega) (nm_r (e' := nI (jn x + fs_d (p x) (e x) (dn x + 1))) (by rw [fs_Ai jn (by omega), nI_add]) (And.intro (fs_in b2) ?_))
  refine fy_dead b2 b3 (by omega) b5 (by omega) (nm_r (e' := nI (jn y + fs_d (p y) (e y) (dn y + 1))) (by rw [fs_Ai jn (by omega), nI_add]) ?_)
  refine pk_eq (jn x + fs_d (p x) (e x) (dn x + 1)) (jn y + fs_d (p y) (e y) (dn y + 1)) (fun c => ?_) (fun c => ?_)
  · rw [if_pos c] at ha' hb'
    refine fy_bit a2 a3 (by omega) a5 (by omega) (fy_bit b2 b3 (by omega) b5 (by omega) ?_)
    refine pk_eq (fs_b (p x) (e x) (dn x + 1)) (fs_b (p y) (e y) (dn y + 1)) (fun d => ?_) (fun d => ?_)
    · rw [if_pos d] at ha' hb'
      refine pk_eq (fs_b (p x) (e x) (dn x + 1)) 1 (fun f => ?_) (fun f => ?_)
      · rw [if_pos f] at ha' hb'
        refine fy_absGroup a2 a3 a4 a5 (by omega) (by omega) (fy_absGroup b2 b3 b4 b5 (by omega) (by omega) ?_)
        refine pk_eq (fs_ag (p x) (e x) (jn x) (dn x + 1)) (fs_ag (p y) (e y) (jn y) (dn y + 1)) (fun g => ?_) (fun g => ?_)
        · rw [if_pos g] at ha' hb'
          exact fy_ah149 a2 b2 ha' hb'
        · rw [if_neg g] at ha' hb'
          exact pk_le (fs_ag (p x) (e x) (jn x) (dn x + 1)) (fs_ag (p y) (e y) (jn y) (dn y + 1)) (fun w => hb' (by omega)) (fun w => ha' w)
      · rw [if_neg f] at ha' hb'
        exact fy_ah149 a2 b2 ha' hb'
    · rw [if_neg d] at ha' hb'
      exact pk_eq (fs_b (p x) (e x) (dn x + 1)) 1 (fun f => ha' f) (fun f => hb' f)
  · rw [if_neg c] at ha' hb'
    exact pk_le (jn y + fs_d (p y) (e y) (dn y + 1)) (jn x + fs_d (p x) (e x) (dn x + 1)) (fun w => hb' (by omega)) (fun w => ha' w)
theorem fy_ca4 {post : Int32 → Prop} {x : Nat} (V : fs_V N t st e p jn dn) (sx : st x ≠ 0) (h : post (nI (fs_ca N t st e p jn dn x))) : ∀ d j, j + d = N → wY_countAhead_4 post (nI x) (nI M) (nI N) (nI t) ms mg ov (fs_A st) (fs_A e) (fs_A p) (fs_A jn) (fs_A dn) yls ylp ydp yrp yrb yo (d + 1) (nI (fs_ca j t st e p jn dn x)) (nI j) := by
  have hN := V.1
  have hx := fs_V_x V sx
  intro d
  induction d with
  | zero =>
    intro j hj
    have : j = N := by omega
    subst this
    exact br_t (nI_le (Nat.le_refl _) (by omega)) h
  | succ d ih =>
    intro j hj
    have ih' := ih (j + 1) (by omega)
    have s1 : fs_ca (j + 1) t st e p jn dn x = fs_ca j t st e p jn dn x + (if (fs_el t st e p jn dn j && decide (fs_K e p jn dn j < fs_K e p jn dn x)) = true then 1 else 0) := rfl
    have no : ¬ (fs_el t st e p jn dn j && decide (fs_K e p jn dn j < fs_K e p jn dn x)) = true → wY_countAhead_4 post (nI x) (nI M) (nI N) (nI t) ms mg ov (fs_A st) (fs_A e) (fs_A p) (fs_A jn) (fs_A dn) yls ylp ydp yrp yrb yo (d + 1) (nI (fs_ca j t st e p jn dn x)) (nI (j + 1)) := by
      intro hn
      rw [s1, if_neg hn, Nat.add_zero] at ih'
      exact ih'
    have yes : (fs_el t st e p jn dn j && decide (fs_K e p jn dn j < fs_K e p jn dn x)) = true → wY_countAhead_4 post (nI x) (nI M) (nI N) (nI t) ms mg ov (fs_A st) (fs_A e) (fs_A p) (fs_A jn) (fs_A dn) yls ylp ydp yrp yrb yo (d + 1) (nI (fs_ca j t st e p jn dn x + 1)) (nI (j + 1)) := by
      intro hn
      rw [s1, if_pos hn] at ih'
      exact ih'
    refine br_f (nI_ge (by omega) (by omega)) ?_
    refine pk_eq j x (fun z => nm_r (nI_1 j) (no (fun w => ?_))) (fun z => ?_)
    · rw [Bool.and_eq_true, decide_eq_true_eq, z] at w
      exact absurd w.2 (Nat.lt_irrefl _)
    · refine fy_elig V (by omega) (fun w => br_f (by decide) ?_) (fun w => br_t rfl (nm_r (nI_1 j) (no (fun v => ?_))))
      · have sj : st j ≠ 0 := by have := (fs_el_iff.mp w).1; omega
        refine fy_ahead V sj sx (fun v => br_f (by decide) (nm_r (nI_1 _) (nm_r (nI_1 j) (yes ?_)))) (fun v => br_t rfl (nm_r (nI_1 j) (no (fun u => ?_))))
        · rw [w, decide_eq_true v]; rfl
        · rw [w, decide_eq_false v] at u
          cases u
      · rw [w] at v
        cases v
theorem fy_ca {post : Int32 → Prop} {x : Nat} (V : fs_V N t st e p jn dn) (sx : st x ≠ 0) (h : post (nI (fs_ca N t st e p jn dn x))) : wpY_countAhead post ((nI M), (nI N), (nI t), ms, mg, ov, (fs_A st), (fs_A e), (fs_A p), (fs_A jn), (fs_A dn), yls, ylp, ydp, yrp, yrb, yo) (nI x) :=
  ⟨N + 1, fy_ca4 V sx h N 0 (by omega)⟩
theorem fs_720 : (720720 : Int32) = nI 720720 := rfl
theorem fy_load4 {post : Int32 → Prop} (V : fs_V N t st e p jn dn) (h : post (nI (fs_ld N st e p))) : ∀ d j, j + d = N → wY_load_4 post (nI M) (nI N) (nI t) ms mg ov (fs_A st) (fs_A e) (fs_A p) (fs_A jn) (fs_A dn) yls ylp ydp yrp yrb yo (d + 1) (nI (fs_ld j st e p)) (nI j) := by
  have hN := V.1
  intro d
  induction d with
  | zero =>
    intro j hj
    have : j = N := by omega
    subst this
    exact br_t (nI_le (Nat.le_refl _) (by omega)) h
  | succ d ih =>
    intro j hj
    have ih' := ih (j + 1) (by omega)
    have s1 : fs_ld (j + 1) st e p = fs_ld j st e p + (if st j = 0 then 0 else e j * (720720 / p j)) := rfl
    have hs := V.2.2.1 j
    have hi := fs_in (show j < 16 by omega)
    refine br_f (nI_ge (by omega) (by omega)) (And.intro hi (nm_r (fs_Ai p (by omega)) (And.intro hi ?_)))
    refine pk_eq (st j) 0 (fun z => nm_r (nI_1 j) ?_) (fun z => ?_) (fs_Ai st (by omega))
    · rw [s1, if_pos z, Nat.add_zero] at ih'
      exact ih'
    · rw [s1, if_neg z] at ih'
      have hx := fs_V_x V z
      refine br_f (nI_nle (by omega) (by omega)) (And.intro hi (And.intro (nI_ne0 (by omega) (by omega)) (nm_r ?_ (nm_r (nI_1 j) ih'))))
      rw [fs_Ai e (by omega), fs_720, pk_div (by decide) (by omega) (by omega), pk_mul, nI_add]
theorem fy_load {post : Int32 → Prop} (V : fs_V N t st e p jn dn) (h : post (nI (fs_ld N st e p))) : wpY_load post ((nI M), (nI N), (nI t), ms, mg, ov, (fs_A st), (fs_A e), (fs_A p), (fs_A jn), (fs_A dn), yls, ylp, ydp, yrp, yrb, yo) :=
  ⟨N + 1, fy_load4 V h N 0 (by omega)⟩
theorem fy_inRange_n {post : Int32 → Prop} {v : Int32} (hv : v < 0 ∨ nI N ≤ v) (h : post 0) : wpY_inRange post ((nI M), (nI N), (nI t), ms, mg, ov, (fs_A st), (fs_A e), (fs_A p), (fs_A jn), (fs_A dn), yls, ylp, ydp, yrp, yrb, yo) v := by
  refine br_c (fun _ => h) (fun hn => ?_)
  rcases hv with z | z
  · exact absurd z hn
  · exact br_t z h
theorem fy_inRange_y {post : Int32 → Prop} {x : Nat} (hx : x < N) (hN : N ≤ 16) (h : post 1) : wpY_inRange post ((nI M), (nI N), (nI t), ms, mg, ov, (fs_A st), (fs_A e), (fs_A p), (fs_A jn), (fs_A dn), yls, ylp, ydp, yrp, yrb, yo) (nI x) :=
  br_f (nI_pos (by omega)) (br_f (nI_ge hx (by omega)) h)
theorem fy_present_n {post : Int32 → Prop} {v : Int32} (hv : v < 0 ∨ nI N ≤ v) (h : post 0) : wpY_present post ((nI M), (nI N), (nI t), ms, mg, ov, (fs_A st), (fs_A e), (fs_A p), (fs_A jn), (fs_A dn), yls, ylp, ydp, yrp, yrb, yo) v := by
  unfold wpY_present
  exact fy_inRange_n hv (br_t rfl h)
theorem fy_present_y {post : Int32 → Prop} {x : Nat} (hx : x < N) (hN : N ≤ 16) (hs : st x ≤ 2) (h0 : st x = 0 → post 0) (h1 : st x ≠ 0 → post 1) : wpY_present post ((nI M), (nI N), (nI t), ms, mg, ov, (fs_A st), (fs_A e), (fs_A p), (fs_A jn), (fs_A dn), yls, ylp, ydp, yrp, yrb, yo) (nI x) := by
  unfold wpY_present
  exact fy_inRange_y hx hN (br_f (by decide) (And.intro (fs_in (by omega)) (pk_eq (st x) 0 h0 h1 (fs_Ai st (by omega)))))
theorem fy_active_n {post : Int32 → Prop} {v : Int32} (hv : v < 0 ∨ nI N ≤ v) (h : post 0) : wpY_active post ((nI M), (nI N), (nI t), ms, mg, ov, (fs_A st), (fs_A e), (fs_A p), (fs_A jn), (fs_A dn), yls, ylp, ydp, yrp, yrb, yo) v := by
  unfold wpY_active
  exact fy_inRange_n hv (br_t rfl h)
theorem fy_active_y {post : Int32 → Prop} {x : Nat} (hx : x < N) (hN : N ≤ 16) (hs : st x ≤ 2) (h1 : st x = 1 → post 1) (h0 : st x ≠ 1 → post 0) : wpY_active post ((nI M), (nI N), (nI t), ms, mg, ov, (fs_A st), (fs_A e), (fs_A p), (fs_A jn), (fs_A dn), yls, ylp, ydp, yrp, yrb, yo) (nI x) := by
  unfold wpY_active
  exact fy_inRange_y hx hN (br_f (by decide) (And.intro (fs_in (by omega)) (pk_eq (st x) 1 h1 h0 (fs_Ai st (by omega)))))
end
end
section
/-! the pure picture of a slot: chosen places ord 0 .. ord (c - 1), their processors -/
def fs_iv (f : Nat → Nat) (y : Nat) : Nat → Nat
  | 0 => 0
  | c + 1 => if fs_iv f y c < c then fs_iv f y c else if f c = y then c else c + 1
theorem fs_iv_or (f : Nat → Nat) (y : Nat) : ∀ c, (fs_iv f y c < c ∧ f (fs_iv f y c) = y) ∨ (fs_iv f y c = c ∧ ∀ i, i < c → f i ≠ y) := by
  intro c
  induction c with
  | zero => exact Or.inr ⟨rfl, fun i hi => by omega⟩
  | succ c ih =>
    have e : fs_iv f y (c + 1) = if fs_iv f y c < c then fs_iv f y c else if f c = y then c else c + 1 := rfl
    rw [e]
    rcases ih with ⟨a, b⟩ | ⟨a, b⟩
    · rw [if_pos a]
      exact Or.inl ⟨by omega, b⟩
    · rw [if_neg (by omega)]
      by_cases z : f c = y
      · rw [if_pos z]
        exact Or.inl ⟨by omega, z⟩
      · rw [if_neg z]
        exact Or.inr ⟨rfl, lt_s b z⟩
theorem fs_iv_le (f : Nat → Nat) (y c : Nat) : fs_iv f y c ≤ c := by
  rcases fs_iv_or f y c with ⟨a, _⟩ | ⟨a, _⟩ <;> omega
theorem fs_iv_f {f : Nat → Nat} {y c : Nat} (h : fs_iv f y c < c) : f (fs_iv f y c) = y := by
  rcases fs_iv_or f y c with ⟨_, b⟩ | ⟨a, _⟩
  · exact b
  · omega
theorem fs_iv_i {f : Nat → Nat} {c i : Nat} (hf : ∀ i j, i < c → j < c → f i = f j → i = j) (hi : i < c) : fs_iv f (f i) c = i := by
  rcases fs_iv_or f (f i) c with ⟨a, b⟩ | ⟨_, b⟩
  · exact hf _ _ a hi b
  · exact absurd rfl (b i hi)
theorem fs_iv_n {f : Nat → Nat} {y c : Nat} (h : ¬ fs_iv f y c < c) : ∀ i, i < c → f i ≠ y := by
  rcases fs_iv_or f y c with ⟨a, _⟩ | ⟨_, b⟩
  · omega
  · exact b
theorem fs_iv_c {f : Nat → Nat} {y c : Nat} (h : ∀ i, i < c → f i ≠ y) : ¬ fs_iv f y c < c := fun z => h _ z (fs_iv_f z)
def fs_lo (G : Nat → Bool) : Nat → Nat → Nat
  | 0, q => q
  | d + 1, q => if G q = true then fs_lo G d (q + 1) else q
theorem fs_lo_s {G : Nat → Bool} : ∀ d q, (∃ r, q ≤ r ∧ r ≤ q + d ∧ G r = false) → q ≤ fs_lo G d q ∧ fs_lo G d q ≤ q + d ∧ G (fs_lo G d q) = false := by
  intro d
  induction d with
  | zero =>
    rintro q ⟨r, a, b, c⟩
    have : r = q := by omega
    subst this
    exact ⟨Nat.le_refl _, Nat.le_refl _, c⟩
  | succ d ih =>
    rintro q ⟨r, a, b, c⟩
    have e : fs_lo G (d + 1) q = if G q = true then fs_lo G d (q + 1) else q := rfl
    rw [e]
    by_cases z : G q = true
    · rw [if_pos z]
      have hne : r ≠ q := fun y => by rw [y, z] at c; cases c
      have := ih (q + 1) ⟨r, by omega, by omega, c⟩
      exact ⟨by omega, by omega, this.2.2⟩
    · rw [if_neg z]
      exact ⟨Nat.le_refl _, by omega, by cases h : G q; rfl; exact absurd h z⟩
def fs_pk (M : Nat) (G : Nat → Bool) (l : Nat) : Nat := if l ≠ 0 ∧ G (l - 1) = false then l - 1 else fs_lo G (M - 1) 0
theorem fs_pk_s {M l : Nat} {G : Nat → Bool} (hl : l ≤ M) (h : ∃ q, q < M ∧ G q = false) : fs_pk M G l < M ∧ G (fs_pk M G l) = false := by
  unfold fs_pk
  by_cases z : l ≠ 0 ∧ G (l - 1) = false
  · rw [if_pos z]
    exact ⟨by omega, z.2⟩
  · rw [if_neg z]
    obtain ⟨q, a, b⟩ := h
    have := fs_lo_s (G := G) (M - 1) 0 ⟨q, Nat.zero_le _, by omega, b⟩
    exact ⟨by omega, this.2.2⟩
def fs_G (M c : Nat) (ord lq : Nat → Nat) (kb : Nat → Bool) : Nat → Nat → Bool
  | 0 => fun q => fs_ex c (fun j => kb (ord j) && decide (lq (ord j) = q + 1))
  | i + 1 => fun q => fs_G M c ord lq kb i q || (!kb (ord i) && decide (q = fs_pk M (fs_G M c ord lq kb i) (lq (ord i))))
def fs_pr (M c : Nat) (ord lq : Nat → Nat) (kb : Nat → Bool) (i : Nat) : Nat := if kb (ord i) = true then lq (ord i) - 1 else fs_pk M (fs_G M c ord lq kb i) (lq (ord i))
def fs_AH (M c : Nat) (ord lq : Nat → Nat) (kb : Nat → Bool) : Prop := 1 ≤ M ∧ M ≤ 4 ∧ c ≤ M ∧ (∀ i, i < c → ord i < 16) ∧ (∀ i j, i < c → j < c → ord i = ord j → i = j) ∧ (∀ i, i < c → lq (ord i) ≤ M) ∧ (∀ i, i < c → kb (ord i) = true → lq (ord i) ≠ 0) ∧ (∀ i j, i < c → j < c → kb (ord i) = true → kb (ord j) = true → lq (ord i) = lq (ord j) → i = j)
section
variable {M c : Nat} {ord lq : Nat → Nat} {kb : Nat → Bool}
theorem fs_G0 (q : Nat) : fs_G M c ord lq kb 0 q = fs_ex c (fun j => kb (ord j) && decide (lq (ord j) = q + 1)) := rfl
theorem fs_G1 (i q : Nat) : fs_G M c ord lq kb (i + 1) q = (fs_G M c ord lq kb i q || (!kb (ord i) && decide (q = fs_pk M (fs_G M c ord lq kb i) (lq (ord i))))) := rfl
theorem fs_pr_k {i : Nat} (h : kb (ord i) = true) : fs_pr M c ord lq kb i = lq (ord i) - 1 := if_pos h
theorem fs_pr_n {i : Nat} (h : ¬ kb (ord i) = true) : fs_pr M c ord lq kb i = fs_pk M (fs_G M c ord lq kb i) (lq (ord i)) := if_neg h
def fs_a1 (M c : Nat) (ord lq : Nat → Nat) (kb : Nat → Bool) (i : Nat) : Prop := ∀ q, fs_G M c ord lq kb i q = true ↔ ∃ j, j < c ∧ (kb (ord j) = true ∨ j < i) ∧ fs_pr M c ord lq kb j = q
def fs_a2 (M c : Nat) (ord lq : Nat → Nat) (kb : Nat → Bool) (i : Nat) : Prop := ∀ j, j < c → (kb (ord j) = true ∨ j < i) → fs_pr M c ord lq kb j < M
def fs_a3 (M c : Nat) (ord lq : Nat → Nat) (kb : Nat → Bool) (i : Nat) : Prop := ∀ j k, j < c → k < c → (kb (ord j) = true ∨ j < i) → (kb (ord k) = true ∨ k < i) → fs_pr M c ord lq kb j = fs_pr M c ord lq kb k → j = k
theorem fs_a1_all (AH : fs_AH M c ord lq kb) : ∀ i, i ≤ c → fs_a1 M c ord lq kb i := by
  obtain ⟨h1, h2, h3, h4, h5, h6, h7, h8⟩ := AH
  intro i
  induction i with
  | zero =>
    intro _ q
    rw [fs_G0, fs_ex_iff]
    constructor
    · rintro ⟨j, hj, e⟩
      rw [Bool.and_eq_true, decide_eq_true_eq] at e
      exact ⟨j, hj, Or.inl e.1, by rw [fs_pr_k e.1]; omega⟩
    · rintro ⟨j, hj, hk, e⟩
      have hk' : kb (ord j) = true := by
        rcases hk with z | z
        · exact z
        · omega
      have := h7 j hj hk'
      rw [fs_pr_k hk'] at e
      exact ⟨j, hj, by rw [Bool.and_eq_true, decide_eq_true_eq]; exact ⟨hk', by omega⟩⟩
  | succ i ih =>
    intro hi q
    have := ih (by omega) q
    rw [fs_G1, Bool.or_eq_true, this, Bool.and_eq_true, decide_eq_true_eq]
    constructor
    · rintro (⟨j, a, b, e⟩ | ⟨a, e⟩)
      · exact ⟨j, a, by rcases b with b | b; exact Or.inl b; exact Or.inr (by omega), e⟩
      · have hn : ¬ kb (ord i) = true := by
          intro z
          rw [z] at a
          cases a
        exact ⟨i, by omega, Or.inr (by omega), by rw [fs_pr_n hn]; exact e.symm⟩
    · rintro ⟨j, a, b, e⟩
      by_cases z : j = i
      · subst z
        by_cases y : kb (ord j) = true
        · exact Or.inl ⟨j, a, Or.inl y, e⟩
        · refine Or.inr ⟨by cases w : kb (ord j); rfl; exact absurd w y, ?_⟩
          rw [fs_pr_n y] at e
          exact e.symm
      · exact Or.inl ⟨j, a, by rcases b with b | b; exact Or.inl b; exact Or.inr (by omega), e⟩
theorem fs_freeq (AH : fs_AH M c ord lq kb) {i : Nat} (hi : i < c) (hk : ¬ kb (ord i) = true) : ∃ q, q < M ∧ fs_G M c ord lq kb i q = false := by
  have a1 := fs_a1_all AH i (by omega)
  obtain ⟨h1, h2, h3, h4, h5, h6, h7, h8⟩ := AH
  refine Classical.byContradiction (fun hno => ?_)
  have hall : ∀ q, q < M → ∃ j, j < c ∧ (kb (ord j) = true ∨ j < i) ∧ fs_pr M c ord lq kb j = q := by
    intro q hq
    refine (a1 q).mp ?_
    cases z : fs_G M c ord lq kb i q
    · exact absurd ⟨q, hq, z⟩ hno
    · rfl
  have hf : ∃ f : Nat → Nat, ∀ q, q < M → f q < c ∧ f q ≠ i ∧ fs_pr M c ord lq kb (f q) = q := by
    refine ⟨fun q => if h : q < M then (hall q h).choose else 0, fun q hq => ?_⟩
    have := (hall q hq).choose_spec
    dsimp only
    rw [dif_pos hq]
    refine ⟨this.1, fun z => ?_, this.2.2⟩
    rcases this.2.1 with w | w
    · rw [z] at w; exact hk w
    · omega
  obtain ⟨f, hf⟩ := hf
  have := fs_pig (φ := fun q => if q = M then i else f q) (c := M + 1) (m := c) (fun q hq => by
    show (if q = M then i else f q) < c
    by_cases z : q = M
    · rw [if_pos z]; exact hi
    · rw [if_neg z]; exact (hf q (by omega)).1) (fun q r hq hr e => by
    have e' : (if q = M then i else f q) = (if r = M then i else f r) := e
    by_cases z : q = M
    · by_cases y : r = M
      · omega
      · rw [if_pos z, if_neg y] at e'
        exact absurd e'.symm (hf r (by omega)).2.1
    · by_cases y : r = M
      · rw [if_neg z, if_pos y] at e'
        exact absurd e' (hf q (by omega)).2.1
      · rw [if_neg z, if_neg y] at e'
        rw [← (hf q (by omega)).2.2, ← (hf r (by omega)).2.2, e'])
  omega
theorem fs_pr_free (AH : fs_AH M c ord lq kb) {i : Nat} (hi : i < c) (hk : ¬ kb (ord i) = true) : fs_pr M c ord lq kb i < M ∧ fs_G M c ord lq kb i (fs_pr M c ord lq kb i) = false := by
  have hf := fs_freeq AH hi hk
  rw [fs_pr_n hk]
  exact fs_pk_s (AH.2.2.2.2.2.1 i hi) hf
theorem fs_pr_lt (AH : fs_AH M c ord lq kb) {i : Nat} (hi : i < c) : fs_pr M c ord lq kb i < M := by
  by_cases z : kb (ord i) = true
  · have h1 := AH.2.2.2.2.2.1 i hi
    have h2 := AH.2.2.2.2.2.2.1 i hi z
    rw [fs_pr_k z]
    omega
  · exact (fs_pr_free AH hi z).1
theorem fs_a3_all (AH : fs_AH M c ord lq kb) : ∀ i, i ≤ c → fs_a3 M c ord lq kb i := by
  intro i
  induction i with
  | zero =>
    intro _ j k hj hk a b e
    have a' : kb (ord j) = true := by rcases a with a | a; exact a; omega
    have b' : kb (ord k) = true := by rcases b with b | b; exact b; omega
    have h1 := AH.2.2.2.2.2.2.1 j hj a'
    have h2 := AH.2.2.2.2.2.2.1 k hk b'
    rw [fs_pr_k a', fs_pr_k b'] at e
    exact AH.2.2.2.2.2.2.2 j k hj hk a' b' (by omega)
  | succ i ih =>
    intro hi j k hj hk a b e
    have a1 := fs_a1_all AH i (by omega)
    have ih' := ih (by omega)
    have nw : ∀ j, j < c → (kb (ord j) = true ∨ j < i) → ¬ kb (ord i) = true → fs_pr M c ord lq kb j = fs_pr M c ord lq kb i → False := by
      intro j hj hc hn e
      have := (fs_pr_free AH (by omega) hn).2
      rw [(a1 _).mpr ⟨j, hj, hc, e⟩] at this
      cases this
    by_cases z : kb (ord j) = true ∨ j < i
    · by_cases y : kb (ord k) = true ∨ k < i
      · exact ih' j k hj hk z y e
      · have hn : ¬ kb (ord k) = true := fun w => y (Or.inl w)
        have : k = i := by
          rcases b with b | b
          · exact absurd b hn
          · have : ¬ k < i := fun w => y (Or.inr w)
            omega
        subst this
        exact absurd e (fun w => nw j hj z hn w)
    · have hn : ¬ kb (ord j) = true := fun w => z (Or.inl w)
      have hj' : j = i := by
        rcases a with b | b
        · exact absurd b hn
        · have : ¬ j < i := fun w => z (Or.inr w)
          omega
      subst hj'
      by_cases y : kb (ord k) = true ∨ k < j
      · exact absurd e.symm (fun w => nw k hk y hn w)
      · have hn' : ¬ kb (ord k) = true := fun w => y (Or.inl w)
        rcases b with b | b
        · exact absurd b hn'
        · have : ¬ k < j := fun w => y (Or.inr w)
          omega
theorem fs_pr_inj (AH : fs_AH M c ord lq kb) : ∀ i j, i < c → j < c → fs_pr M c ord lq kb i = fs_pr M c ord lq kb j → i = j :=
  fun i j hi hj e => fs_a3_all AH c (Nat.le_refl _) i j hi hj (Or.inr hi) (Or.inr hj) e
end
/-! who is chosen: c places in order of their keys -/
def fs_CS (M N t : Nat) (st e p jn dn : Nat → Nat) (c : Nat) (ord : Nat → Nat) : Prop := c ≤ M ∧ (∀ i, i < c → fs_el t st e p jn dn (ord i) = true) ∧ (∀ i j, i < j → j < c → fs_K e p jn dn (ord i) < fs_K e p jn dn (ord j)) ∧ (∀ x, fs_el t st e p jn dn x = true → (∃ i, i < c ∧ ord i = x) ∨ (c = M ∧ ∀ i, i < c → fs_K e p jn dn (ord i) < fs_K e p jn dn x))
section
variable {M N t c : Nat} {st e p jn dn ord : Nat → Nat}
theorem fs_CS_inj (S : fs_CS M N t st e p jn dn c ord) : ∀ i j, i < c → j < c → ord i = ord j → i = j := by
  intro i j hi hj h
  rcases Nat.lt_trichotomy i j with z | z | z
  · have := S.2.2.1 i j z hj
    rw [h] at this
    exact absurd this (Nat.lt_irrefl _)
  · exact z
  · have := S.2.2.1 j i z hi
    rw [h] at this
    exact absurd this (Nat.lt_irrefl _)
theorem fs_CS_st (S : fs_CS M N t st e p jn dn c ord) {i : Nat} (hi : i < c) : st (ord i) = 1 := (fs_el_iff.mp (S.2.1 i hi)).1
theorem fs_CS_ca (V : fs_V N t st e p jn dn) (S : fs_CS M N t st e p jn dn c ord) {j : Nat} (hj : j < c) : fs_ca N t st e p jn dn (ord j) = j := by
  have inj := fs_CS_inj S
  have hst : ∀ i, i < c → ord i < N := fun i hi => (fs_V_x V (by rw [fs_CS_st S hi]; decide)).1
  obtain ⟨h1, h2, h3, h4⟩ := S
  unfold fs_ca
  rw [fs_S_inj (φ := ord) (f := fun _ => 1) (m := N) j (fun y => if (fs_el t st e p jn dn y && decide (fs_K e p jn dn y < fs_K e p jn dn (ord j))) = true then 1 else 0) (fun i hi => hst i (by omega)) (fun a b ha hb => inj a b (by omega) (by omega)) (fun i hi => if_pos (by rw [h2 i (by omega), decide_eq_true (h3 i j hi hj)]; rfl)) ?_, fs_S_const]
  intro q hq hn
  refine if_neg (fun z => ?_)
  rw [Bool.and_eq_true, decide_eq_true_eq] at z
  rcases h4 q z.1 with ⟨i, hi, e⟩ | ⟨_, hall⟩
  · rcases Nat.lt_or_ge i j with w | w
    · exact hn i w e
    · rcases Nat.lt_or_ge j i with v | v
      · have := h3 j i v hi
        rw [e] at this
        omega
      · have : i = j := by omega
        subst this
        rw [e] at z
        omega
  · have := hall j hj
    omega
theorem fs_CS_out (V : fs_V N t st e p jn dn) (S : fs_CS M N t st e p jn dn c ord) {x : Nat} (hx : fs_el t st e p jn dn x = true) (hn : ∀ i, i < c → ord i ≠ x) : M ≤ fs_ca N t st e p jn dn x := by
  have inj := fs_CS_inj S
  have hst : ∀ i, i < c → ord i < N := fun i hi => (fs_V_x V (by rw [fs_CS_st S hi]; decide)).1
  obtain ⟨h1, h2, h3, h4⟩ := S
  rcases h4 x hx with ⟨i, hi, e⟩ | ⟨hc, hall⟩
  · exact absurd e (hn i hi)
  · have a := fs_S_inj (φ := ord) (f := fun _ => 1) (m := N) c (fun q => if fs_ex c (fun i => ord i == q) = true then 1 else 0) hst inj
      (fun i hi => if_pos (fs_ex_iff.mpr ⟨i, hi, by simp⟩))
      (fun q _ hq => if_neg (by
        rw [fs_ex_iff]
        rintro ⟨i, hi, e⟩
        exact hq i hi (by simpa using e)))
    rw [fs_S_const] at a
    have b : ∀ n, fs_S (fun q => if fs_ex c (fun i => ord i == q) = true then 1 else 0) n ≤ fs_ca n t st e p jn dn x := by
      intro n
      induction n with
      | zero => exact Nat.le_refl _
      | succ n ih =>
        have e1 : fs_ca (n + 1) t st e p jn dn x = fs_ca n t st e p jn dn x + (if (fs_el t st e p jn dn n && decide (fs_K e p jn dn n < fs_K e p jn dn x)) = true then 1 else 0) := rfl
        rw [fs_S1, e1]
        by_cases z : fs_ex c (fun i => ord i == n) = true
        · rw [if_pos z]
          obtain ⟨i, hi, w⟩ := fs_ex_iff.mp z
          have w' : ord i = n := by simpa using w
          rw [if_pos (by rw [← w', h2 i hi, decide_eq_true (hall i hi)]; rfl)]
          omega
        · rw [if_neg z]
          omega
    have := b N
    omega
end
end
section
/-! pictures: arrays in which the chosen ones with P are written -/
def fs_RA {α : Type} (b c : Nat) (φ : Nat → Nat) (val : Nat → α) (P : Nat → Bool) (f : Nat → α) : Nat → α := fun s => if b ≤ s ∧ fs_iv φ (s - b) c < c ∧ P (fs_iv φ (s - b) c) = true then val (fs_iv φ (s - b) c) else f s
section
variable {α : Type} {b c : Nat} {φ : Nat → Nat} {val : Nat → α} {P P' : Nat → Bool} {f : Nat → α}
theorem fs_RA_c (hP : ∀ j, j < c → P j = P' j) : fs_RA b c φ val P f = fs_RA b c φ val P' f := by
  funext s
  unfold fs_RA
  by_cases z : fs_iv φ (s - b) c < c
  · rw [hP _ z]
  · rw [if_neg (fun w => z w.2.1), if_neg (fun w => z w.2.1)]
theorem fs_RA_0 (hP : ∀ j, j < c → P j = false) : fs_RA b c φ val P f = f := by
  funext s
  unfold fs_RA
  refine if_neg (fun w => ?_)
  rw [hP _ w.2.1] at w
  exact Bool.noConfusion w.2.2
theorem fs_RA_i (inj : ∀ i j, i < c → j < c → φ i = φ j → i = j) {i : Nat} (hi : i < c) : fs_RA b c φ val P f (b + φ i) = if P i = true then val i else f (b + φ i) := by
  unfold fs_RA
  rw [Nat.add_sub_cancel_left, fs_iv_i inj hi]
  by_cases z : P i = true
  · rw [if_pos z, if_pos ⟨Nat.le_add_right _ _, hi, z⟩]
  · rw [if_neg z, if_neg (fun w => z w.2.2)]
theorem fs_RA_n {q : Nat} (h : ¬ fs_iv φ q c < c) : fs_RA b c φ val P f (b + q) = f (b + q) := by
  unfold fs_RA
  rw [Nat.add_sub_cancel_left]
  exact if_neg (fun w => h w.2.1)
theorem fs_RA_o {s m : Nat} (hφ : ∀ i, i < c → φ i < m) (hs : s < b ∨ b + m ≤ s) : fs_RA b c φ val P f s = f s := by
  unfold fs_RA
  refine if_neg (fun w => ?_)
  have h1 := fs_iv_f w.2.1
  have h2 := hφ _ w.2.1
  omega
theorem fs_RA_s (inj : ∀ i j, i < c → j < c → φ i = φ j → i = j) {i : Nat} (hi : i < c) (hP : ∀ j, j < c → P' j = (P j || decide (j = i))) : (fun s => if s = b + φ i then val i else fs_RA b c φ val P f s) = fs_RA b c φ val P' f := by
  funext s
  by_cases z : s = b + φ i
  · rw [if_pos z, z, fs_RA_i inj hi, if_pos]
    rw [hP i hi, decide_eq_true rfl, Bool.or_true]
  · rw [if_neg z]
    unfold fs_RA
    by_cases y : b ≤ s ∧ fs_iv φ (s - b) c < c
    · have hne : fs_iv φ (s - b) c ≠ i := fun w => by
        have := fs_iv_f y.2
        rw [w] at this
        omega
      rw [hP _ y.2, decide_eq_false hne, Bool.or_false]
    · rw [if_neg (fun w => y ⟨w.1, w.2.1⟩), if_neg (fun w => y ⟨w.1, w.2.1⟩)]
end
theorem fs_RA_upd {b c : Nat} {φ : Nat → Nat} {val : Nat → Int32} {P P' : Nat → Bool} {f : Nat → Int32} (inj : ∀ i j, i < c → j < c → φ i = φ j → i = j) {i : Nat} (hi : i < c) (hP : ∀ j, j < c → P' j = (P j || decide (j = i))) : upd (fs_RA b c φ val P f) (b + φ i) (val i) = fs_RA b c φ val P' f := fs_RA_s inj hi hP
theorem fs_RA_u {b c : Nat} {φ : Nat → Nat} {val : Nat → Nat} {P P' : Nat → Bool} {f : Nat → Nat} (inj : ∀ i j, i < c → j < c → φ i = φ j → i = j) {i : Nat} (hi : i < c) (hP : ∀ j, j < c → P' j = (P j || decide (j = i))) : fs_u (fs_RA b c φ val P f) (b + φ i) (val i) = fs_RA b c φ val P' f := fs_RA_s inj hi hP
theorem fs_RA_upd0 {c : Nat} {φ : Nat → Nat} {val : Nat → Int32} {P P' : Nat → Bool} {f : Nat → Int32} (inj : ∀ i j, i < c → j < c → φ i = φ j → i = j) {i : Nat} (hi : i < c) (hP : ∀ j, j < c → P' j = (P j || decide (j = i))) : upd (fs_RA 0 c φ val P f) (φ i) (val i) = fs_RA 0 c φ val P' f := by
  have := fs_RA_upd (b := 0) (val := val) (f := f) inj hi hP
  rw [Nat.zero_add] at this
  exact this
theorem fs_RA_u0 {c : Nat} {φ : Nat → Nat} {val : Nat → Nat} {P P' : Nat → Bool} {f : Nat → Nat} (inj : ∀ i j, i < c → j < c → φ i = φ j → i = j) {i : Nat} (hi : i < c) (hP : ∀ j, j < c → P' j = (P j || decide (j = i))) : fs_u (fs_RA 0 c φ val P f) (φ i) (val i) = fs_RA 0 c φ val P' f := by
  have := fs_RA_u (b := 0) (val := val) (f := f) inj hi hP
  rw [Nat.zero_add] at this
  exact this
theorem fs_RA_i0 {α : Type} {c : Nat} {φ : Nat → Nat} {val : Nat → α} {P : Nat → Bool} {f : Nat → α} (inj : ∀ i j, i < c → j < c → φ i = φ j → i = j) {i : Nat} (hi : i < c) : fs_RA 0 c φ val P f (φ i) = if P i = true then val i else f (φ i) := by
  have := fs_RA_i (b := 0) (val := val) (P := P) (f := f) inj hi
  rw [Nat.zero_add] at this
  exact this
def fs_fill (f : Nat → Int32) (b n : Nat) (v : Int32) : Nat → Int32 := fun s => if b ≤ s ∧ s < b + n then v else f s
theorem fs_fill0 (f : Nat → Int32) (b : Nat) (v : Int32) : fs_fill f b 0 v = f := by
  funext s
  exact if_neg (by omega)
theorem fs_fill1 (f : Nat → Int32) (b n : Nat) (v : Int32) : upd (fs_fill f b n v) (b + n) v = fs_fill f b (n + 1) v := by
  funext s
  unfold upd fs_fill
  by_cases z : s = b + n
  · rw [if_pos z, if_pos (by omega)]
  · rw [if_neg z]
    by_cases y : b ≤ s ∧ s < b + n
    · rw [if_pos y, if_pos (by omega)]
    · rw [if_neg y, if_neg (by omega)]
theorem fs_fill_i (f : Nat → Int32) (b n : Nat) (v : Int32) {q : Nat} (h : q < n) : fs_fill f b n v (b + q) = v := if_pos (by omega)
theorem fs_fill_o (f : Nat → Int32) (b n : Nat) (v : Int32) {s : Nat} (h : s < b ∨ b + n ≤ s) : fs_fill f b n v s = f s := if_neg (by omega)
def fs_dep (i T : Nat) (dp st : Nat → Nat) : Nat → Nat := fun x => if x < i ∧ st x = 2 ∧ dp x ≤ T then 0 else st x
theorem fs_dep_i (i T : Nat) (dp st : Nat → Nat) : fs_dep i T dp st i = st i := if_neg (by omega)
theorem fs_dep_0 (T : Nat) (dp st : Nat → Nat) : fs_dep 0 T dp st = st := by
  funext x
  exact if_neg (by omega)
theorem fs_dep_n {i T : Nat} {dp st : Nat → Nat} (h : ¬ (st i = 2 ∧ dp i ≤ T)) : fs_dep (i + 1) T dp st = fs_dep i T dp st := by
  funext x
  unfold fs_dep
  by_cases z : x = i
  · rw [z, if_neg (fun w => h w.2), if_neg (by omega)]
  · by_cases y : x < i ∧ st x = 2 ∧ dp x ≤ T
    · rw [if_pos y, if_pos ⟨by omega, y.2⟩]
    · rw [if_neg y, if_neg (fun w => y ⟨by omega, w.2⟩)]
theorem fs_dep_y {i T : Nat} {dp st : Nat → Nat} (h : st i = 2 ∧ dp i ≤ T) : fs_u (fs_dep i T dp st) i 0 = fs_dep (i + 1) T dp st := by
  funext x
  by_cases z : x = i
  · rw [z, fs_us]
    exact (if_pos ⟨by omega, h⟩).symm
  · rw [fs_un z]
    unfold fs_dep
    by_cases y : x < i ∧ st x = 2 ∧ dp x ≤ T
    · rw [if_pos y, if_pos ⟨by omega, y.2⟩]
    · rw [if_neg y, if_neg (fun w => y ⟨by omega, w.2⟩)]
def fs_mi (p e j T k n : Nat) : Nat := fs_S (fun i => if j + fs_d p e (k + i) = T then 1 else 0) n
def fs_my (T : Nat) (st e p jn dn : Nat → Nat) (x : Nat) : Nat := if st x = 1 then fs_mi (p x) (e x) (jn x) T (dn x + 1) (T - jn x - dn x) else 0
def fs_mX (T : Nat) (st e p jn dn ai : Nat → Nat) (x : Nat) : Nat := if st x = 1 ∧ jn x + fs_d (p x) (e x) (ai x) = T ∧ dn x < ai x then 1 else 0
theorem fs_mi_0 {p e j T k : Nat} : ∀ n, (∀ i, i < n → j + fs_d p e (k + i) ≠ T) → fs_mi p e j T k n = 0 := fun n h => fs_S_zero (fun i hi => if_neg (h i hi))
theorem fs_mi_1 {p e j T k : Nat} (h0 : 0 < e) (he : e ≤ p) {n i : Nat} (hi : i < n) (h : j + fs_d p e (k + i) = T) : fs_mi p e j T k n = 1 := by
  unfold fs_mi
  rw [fs_S_one _ n hi, if_pos h, fs_S_zero]
  intro q hq
  by_cases z : q = i
  · rw [if_pos z]
  · rw [if_neg z]
    refine if_neg (fun w => ?_)
    rcases Nat.lt_trichotomy q i with y | y | y
    · have := fs_d_lt h0 he (show k + q < k + i by omega); omega
    · exact z y
    · have := fs_d_lt h0 he (show k + i < k + q by omega); omega
theorem fs_my_eq {t : Nat} {st e p jn dn ai : Nat → Nat} {x : Nat} (hv : st x = 1 → 1 ≤ e x ∧ e x ≤ p x ∧ 1 ≤ ai x ∧ t < jn x + fs_d (p x) (e x) (ai x) ∧ ∀ k, k < ai x → jn x + fs_d (p x) (e x) k ≤ t) : fs_my (t + 1) st e p jn dn x = fs_mX (t + 1) st e p jn dn ai x := by
  unfold fs_my fs_mX
  by_cases z : st x = 1
  · obtain ⟨h1, h2, h3, h4, h5⟩ := hv z
    rw [if_pos z]
    by_cases y : jn x + fs_d (p x) (e x) (ai x) = t + 1 ∧ dn x < ai x
    · rw [if_pos ⟨z, y⟩]
      have := fs_d_ge h1 h2 (ai x)
      refine fs_mi_1 h1 h2 (i := ai x - (dn x + 1)) (by omega) ?_
      rw [show dn x + 1 + (ai x - (dn x + 1)) = ai x by omega]
      exact y.1
    · rw [if_neg (fun w => y w.2)]
      refine fs_mi_0 _ (fun i hi w => ?_)
      rcases Nat.lt_trichotomy (dn x + 1 + i) (ai x) with u | u | u
      · have := h5 _ u; omega
      · rw [u] at w
        exact y ⟨w, by omega⟩
      · have := fs_d_lt h1 h2 u; omega
  · rw [if_neg z, if_neg (fun w => z w.1)]
/-! the order of the chosen -/
def fs_O (f : Nat → Int32) (c : Nat) (ord : Nat → Nat) (x : Nat) : Nat → Int32 := fun j => if j < c ∧ ord j < x then nI (ord j) else f j
theorem fs_O0 (f : Nat → Int32) (c : Nat) (ord : Nat → Nat) : fs_O f c ord 0 = f := by
  funext j
  exact if_neg (by omega)
theorem fs_O_n {f : Nat → Int32} {c : Nat} {ord : Nat → Nat} {x : Nat} (h : ∀ i, i < c → ord i ≠ x) : fs_O f c ord (x + 1) = fs_O f c ord x := by
  funext j
  unfold fs_O
  by_cases z : j < c
  · have := h j z
    by_cases y : ord j < x
    · rw [if_pos ⟨z, by omega⟩, if_pos ⟨z, y⟩]
    · rw [if_neg (fun w => by omega), if_neg (fun w => y w.2)]
  · rw [if_neg (fun w => z w.1), if_neg (fun w => z w.1)]
theorem fs_O_y {f : Nat → Int32} {c : Nat} {ord : Nat → Nat} {j : Nat} (inj : ∀ i j, i < c → j < c → ord i = ord j → i = j) (hj : j < c) : upd (fs_O f c ord (ord j)) j (nI (ord j)) = fs_O f c ord (ord j + 1) := by
  funext i
  by_cases z : i = j
  · rw [z, pk_us]
    exact (if_pos ⟨hj, by omega⟩).symm
  · rw [pk_un z]
    unfold fs_O
    by_cases y : i < c
    · have hne : ord i ≠ ord j := fun w => z (inj i j y hj w)
      by_cases w : ord i < ord j
      · rw [if_pos ⟨y, w⟩, if_pos ⟨y, by omega⟩]
      · rw [if_neg (fun v => w v.2), if_neg (fun v => by omega)]
    · rw [if_neg (fun w => y w.1), if_neg (fun w => y w.1)]
end
section
/-! Y: the slot's loops, last first -/
section
variable {M N t : Nat} {ms mg ov : Int32} {st e p jn dn : Nat → Nat} {yls ylp ydp yrp yrb yo : Nat → Int32}
theorem fy_519 {post : Int32 → SY → Prop} {r : Int32} {T : Nat} {dp : Nat → Nat} (hN : N ≤ 16) (hs : ∀ x, st x ≤ 2) (hT : T ≤ 600) (hd : ∀ x, st x = 2 → ydp x = nI (dp x) ∧ dp x < 2000) (K : post r ((nI M), (nI N), (nI t), ms, mg, ov, (fs_A (fs_dep N (T + 1) dp st)), (fs_A e), (fs_A p), (fs_A jn), (fs_A dn), yls, ylp, ydp, yrp, yrb, yo)) : ∀ d i, i + d = N → wY_runSlot_519 post (nI T) r (nI M) (nI N) (nI t) ms mg ov (d + 1) (nI i) (fs_A (fs_dep i (T + 1) dp st)) (fs_A e) (fs_A p) (fs_A jn) (fs_A dn) yls ylp ydp yrp yrb yo := by
  intro d
  induction d with
  | zero =>
    intro i hi
    have : i = N := by omega
    subst this
    exact br_t (nI_le (Nat.le_refl _) (by omega)) K
  | succ d ih =>
    intro i hi
    have ih' := ih (i + 1) (by omega)
    have hsi := hs i
    have e1 : fs_A (fs_dep i (T + 1) dp st) (nI i).toNatClampNeg = nI (st i) := by rw [fs_Ai _ (by omega), fs_dep_i]
    refine br_f (nI_ge (by omega) (by omega)) (And.intro (fs_in (by omega)) ?_)
    refine pk_eq (st i) 2 (fun z => And.intro (fs_in (by omega)) ?_) (fun z => nm_r (nI_1 i) ?_) e1
    · obtain ⟨d1, d2⟩ := hd i z
      refine pk_lt (T + 1) (dp i) (fun y => nm_r (nI_1 i) ?_) (fun y => And.intro (fs_in (by omega)) (nm_r (e' := fs_A (fs_dep (i + 1) (T + 1) dp st)) ?_ (nm_r (nI_1 i) ih'))) (nI_1 T) (by rw [nI_clamp (by omega), d1])
      · rw [fs_dep_n (by omega)] at ih'
        exact ih'
      · rw [nI_clamp (by omega), ← nI_0, fs_up, fs_dep_y ⟨z, y⟩]
    · rw [fs_dep_n (by omega)] at ih'
      exact ih'
theorem fy_456 {post : Int32 → SY → Prop} {J : Int32 → Int32 → Prop} {r : Int32} {x T : Nat} (hx : x < 16) (h1 : 1 ≤ e x) (he : e x ≤ p x) (hp : p x ≤ 16) (hj : jn x ≤ T) (hT : T ≤ 600) (hd : dn x ≤ 700) (h : J (nI (x + 1)) (ms + nI (fs_mi (p x) (e x) (jn x) (T + 1) (dn x + 1) (T + 1 - jn x - dn x)))) : ∀ d i, i + d = T + 1 - jn x - dn x → wY_runSlot_456 post J (nI T) r (nI x) (nI M) (nI N) (nI t) mg ov (fs_A st) (fs_A e) (fs_A p) (fs_A jn) (fs_A dn) yls ylp ydp yrp yrb yo (d + 1) (nI (dn x + 1 + i)) (ms + nI (fs_mi (p x) (e x) (jn x) (T + 1) (dn x + 1) i)) := by
  have e1 : nI T + 1 - fs_A jn (nI x).toNatClampNeg = nI (T + 1 - jn x) := by rw [fs_Ai jn (by omega), nI_1, pk_sub (by omega)]
  intro d
  induction d with
  | zero =>
    intro i hi
    rw [← show i = T + 1 - jn x - dn x by omega] at h
    refine And.intro (fs_in hx) (br_t ?_ (nm_r (nI_1 x) h))
    rw [e1]
    exact nI_lt (by omega) (by omega)
  | succ d ih =>
    intro i hi
    have ih' := ih (i + 1) (by omega)
    have s1 : fs_mi (p x) (e x) (jn x) (T + 1) (dn x + 1) (i + 1) = fs_mi (p x) (e x) (jn x) (T + 1) (dn x + 1) i + (if jn x + fs_d (p x) (e x) (dn x + 1 + i) = T + 1 then 1 else 0) := rfl
    have hdl := fs_d_le (e := e x) (k := dn x + 1 + i) hp (by omega) (by omega)
    refine And.intro (fs_in hx) (br_f ?_ (And.intro (fs_in hx) ?_))
    · rw [e1]
      exact nI_nlt (by omega) (by omega)
    · refine fy_dead hx h1 (by omega) hp (by omega) ?_
      refine pk_eq (jn x + fs_d (p x) (e x) (dn x + 1 + i)) (T + 1) (fun z => ?_) (fun z => ?_) (by rw [fs_Ai jn (by omega), nI_add]) (nI_1 T)
      · rw [s1, if_pos z] at ih'
        refine nm_r (e' := ms + nI (fs_mi (p x) (e x) (jn x) (T + 1) (dn x + 1) i + 1)) ?_ (nm_r (nI_1 _) ih')
        rw [Int32.add_assoc, nI_1]
      · rw [s1, if_neg z, Nat.add_zero] at ih'
        exact nm_r (nI_1 _) ih'
theorem fs_add0 (a : Int32) : a + nI 0 = a := Int32.add_zero a
theorem fy_425 {post : Int32 → SY → Prop} {r : Int32} {T : Nat} (hN : N ≤ 16) (hs : ∀ x, st x ≤ 2) (hT : T ≤ 600) (hv : ∀ x, st x = 1 → 1 ≤ e x ∧ e x ≤ p x ∧ p x ≤ 16 ∧ jn x ≤ T ∧ dn x ≤ 700) (K : ∃ n519, wY_runSlot_519 post (nI T) r (nI M) (nI N) (nI t) (ms + nI (fs_S (fs_my (T + 1) st e p jn dn) N)) mg ov n519 0 (fs_A st) (fs_A e) (fs_A p) (fs_A jn) (fs_A dn) yls ylp ydp yrp yrb yo) : ∀ d i, i + d = N → wY_runSlot_425 post (nI T) r (nI M) (nI N) (nI t) mg ov (fs_A st) (fs_A e) (fs_A p) (fs_A jn) (fs_A dn) yls ylp ydp yrp yrb yo (d + 1) (nI i) (ms + nI (fs_S (fs_my (T + 1) st e p jn dn) i)) := by
  intro d
  induction d with
  | zero =>
    intro i hi
    have : i = N := by omega
    subst this
    exact br_t (nI_le (Nat.le_refl _) (by omega)) K
  | succ d ih =>
    intro i hi
    have ih' := ih (i + 1) (by omega)
    have hsi := hs i
    rw [fs_S1] at ih'
    refine br_f (nI_ge (by omega) (by omega)) (And.intro (fs_in (by omega)) ?_)
    refine pk_eq (st i) 1 (fun z => And.intro (fs_in (by omega)) (nm_r (e' := nI (dn i + 1)) (by rw [fs_Ai dn (by omega), nI_1]) ⟨T + 1 - jn i - dn i + 1, ?_⟩)) (fun z => nm_r (nI_1 i) ?_) (fs_Ai st (by omega))
    · obtain ⟨a, b, c, d1, f⟩ := hv i z
      have e1 : fs_my (T + 1) st e p jn dn i = fs_mi (p i) (e i) (jn i) (T + 1) (dn i + 1) (T + 1 - jn i - dn i) := if_pos z
      rw [e1, ← nI_add (fs_S (fs_my (T + 1) st e p jn dn) i), ← Int32.add_assoc] at ih'
      have := fy_456 (post := post) (r := r) (M := M) (N := N) (t := t) (mg := mg) (ov := ov) (yls := yls) (ylp := ylp) (ydp := ydp) (yrp := yrp) (yrb := yrb) (yo := yo) (st := st) (ms := ms + nI (fs_S (fs_my (T + 1) st e p jn dn) i)) (x := i) (by omega) a b c d1 hT f ih' (T + 1 - jn i - dn i) 0 (by omega)
      rw [show fs_mi (p i) (e i) (jn i) (T + 1) (dn i + 1) 0 = 0 from rfl, fs_add0] at this
      exact this
    · rw [show fs_my (T + 1) st e p jn dn i = 0 from if_neg z, Nat.add_zero] at ih'
      exact ih'
theorem fy_362 {post : Int32 → SY → Prop} {J : Int32 → Int32 → Int32 → (Nat → Int32) → (Nat → Int32) → (Nat → Int32) → (Nat → Int32) → (Nat → Int32) → (Nat → Int32) → (Nat → Int32) → (Nat → Int32) → (Nat → Int32) → (Nat → Int32) → (Nat → Int32) → Prop} {x3 : Int32} {T b q x : Nat} (hx : x < 16) (hb : b + q < 2400) (K : J (x3 + 1) (nI (q + 1)) mg (fs_A st) (fs_A e) (fs_A p) (fs_A jn) (fs_A (fs_u dn x (dn x + 1))) (upd yls x (nI T)) (upd ylp x (nI q)) ydp yrp (upd yrb (b + q) (nI (dn x + 1))) yo) : wY_runSlot_362 post J (nI T) (nI b) x3 (nI q) (nI x) (nI M) (nI N) (nI t) ms mg ov (fs_A st) (fs_A e) (fs_A p) (fs_A jn) (fs_A dn) yls ylp ydp yrp yrb yo := by
  have hi := fs_in hx
  have hc : (nI x).toNatClampNeg = x := nI_clamp (by omega)
  refine And.intro hi (And.intro hi (nm_r (e' := fs_A (fs_u dn x (dn x + 1))) ?_ (And.intro hi (nm_r (e' := upd yls x (nI T)) (by rw [hc]) (And.intro hi (nm_r (e' := upd ylp x (nI q)) (by rw [hc]) (And.intro hi (And.intro ?_ (nm_r (e' := upd yrb (b + q) (nI (dn x + 1))) ?_ (nm_e (nm_r (nI_1 q) K)))))))))))
  · rw [fs_Ai dn (by omega), hc, nI_1, fs_up]
  · rw [nI_add]
    exact vp_in_nI hb (by decide)
  · rw [nI_add, nI_clamp (by omega), fs_Ai _ (by omega), fs_us]
/-- the counts of one slot -/
def fs_cY (c : Nat) (pr : Nat → Nat) (q : Nat) : Nat := if fs_iv pr q c < c then 1 else 0
def fs_gY (c : Nat) (ord pr lq : Nat → Nat) (q : Nat) : Nat := if fs_iv pr q c < c ∧ lq (ord (fs_iv pr q c)) ≠ 0 ∧ lq (ord (fs_iv pr q c)) ≠ q + 1 then 1 else 0
theorem fy_305 {post : Int32 → SY → Prop} {T b c : Nat} {ord pr lq : Nat → Nat} (hM : M ≤ 4) (hb : b + 4 ≤ 2400) (hc : c ≤ M) (ho : ∀ i, i < c → ord i < 16) (oinj : ∀ i j, i < c → j < c → ord i = ord j → i = j) (pinj : ∀ i j, i < c → j < c → pr i = pr j → i = j) (hlq : ∀ i, i < c → lq (ord i) ≤ 4) (hlp : ∀ i, i < c → ylp (ord i) = fs_pI (lq (ord i))) (hrp : ∀ q, q < M → yrp (b + q) = if fs_iv pr q c < c then nI (ord (fs_iv pr q c)) else -1)
    (K : ∃ n425, wY_runSlot_425 post (nI T) (nI (fs_S (fs_cY c pr) M)) (nI M) (nI N) (nI (T + 1)) (mg + nI (fs_S (fs_gY c ord pr lq) M)) ov (fs_A st) (fs_A e) (fs_A p) (fs_A jn) (fs_A (fs_RA 0 c ord (fun i => dn (ord i) + 1) (fun i => decide (pr i < M)) dn)) (fs_RA 0 c ord (fun _ => nI T) (fun i => decide (pr i < M)) yls) (fs_RA 0 c ord (fun i => nI (pr i)) (fun i => decide (pr i < M)) ylp) ydp yrp (fs_RA b c pr (fun i => nI (dn (ord i) + 1)) (fun i => decide (pr i < M)) yrb) yo n425 0 ms) :
    ∀ d q, q + d = M → wY_runSlot_305 post (nI T) (nI b) (nI M) (nI N) (nI t) ms ov (d + 1) (nI (fs_S (fs_cY c pr) q)) (nI q) (mg + nI (fs_S (fs_gY c ord pr lq) q)) (fs_A st) (fs_A e) (fs_A p) (fs_A jn) (fs_A (fs_RA 0 c ord (fun i => dn (ord i) + 1) (fun i => decide (pr i < q)) dn)) (fs_RA 0 c ord (fun _ => nI T) (fun i => decide (pr i < q)) yls) (fs_RA 0 c ord (fun i => nI (pr i)) (fun i => decide (pr i < q)) ylp) ydp yrp (fs_RA b c pr (fun i => nI (dn (ord i) + 1)) (fun i => decide (pr i < q)) yrb) yo := by
  intro d
  induction d with
  | zero =>
    intro q hq
    have : q = M := by omega
    subst this
    exact br_t (nI_le (Nat.le_refl _) (by omega)) (nm_r (nI_1 T) K)
  | succ d ih =>
    intro q hq
    have ih' := ih (q + 1) (by omega)
    rw [fs_S1, fs_S1] at ih'
    refine br_f (nI_ge (by omega) (by omega)) (And.intro (by rw [nI_add]; exact vp_in_nI (by omega) (by decide)) (nm_r (e' := if fs_iv pr q c < c then nI (ord (fs_iv pr q c)) else -1) (by rw [nI_add, nI_clamp (by omega), hrp q (by omega)]) ?_))
    by_cases z : fs_iv pr q c < c
    · rw [if_pos z]
      have hpr := fs_iv_f z
      have e1 : fs_cY c pr q = 1 := if_pos z
      have e2 : fs_gY c ord pr lq q = if lq (ord (fs_iv pr q c)) ≠ 0 ∧ lq (ord (fs_iv pr q c)) ≠ q + 1 then 1 else 0 := by
        unfold fs_gY
        by_cases y : lq (ord (fs_iv pr q c)) ≠ 0 ∧ lq (ord (fs_iv pr q c)) ≠ q + 1
        · rw [if_pos y, if_pos ⟨z, y⟩]
        · rw [if_neg y, if_neg (fun w => y w.2)]
      rw [e1, e2] at ih'
      generalize hi : fs_iv pr q c = i at z hpr ih' ⊢
      have hP : ∀ j, j < c → decide (pr j < q + 1) = (decide (pr j < q) || decide (j = i)) := by
        intro j hj
        rw [Bool.eq_iff_iff, Bool.or_eq_true, decide_eq_true_eq, decide_eq_true_eq, decide_eq_true_eq]
        constructor
        · intro w
          rcases Nat.lt_or_ge (pr j) q with v | v
          · exact Or.inl v
          · exact Or.inr (pinj j i hj z (by omega))
        · rintro (w | w)
          · omega
          · rw [w, hpr]; omega
      have nP : ¬ decide (pr i < q) = true := by rw [decide_eq_true_eq, hpr]; omega
      have r1 : fs_RA 0 c ord (fun i => dn (ord i) + 1) (fun i => decide (pr i < q)) dn (ord i) = dn (ord i) := by rw [fs_RA_i0 oinj z, if_neg nP]
      have r2 : fs_RA 0 c ord (fun i => nI (pr i)) (fun i => decide (pr i < q)) ylp (nI (ord i)).toNatClampNeg = fs_pI (lq (ord i)) := by
        have := ho i z
        rw [nI_clamp (by omega), fs_RA_i0 oinj z, if_neg nP, hlp i z]
      have hoi := ho i z
      have fin : ∀ g : Nat, (if lq (ord i) ≠ 0 ∧ lq (ord i) ≠ q + 1 then 1 else 0) = g → wY_runSlot_362 post (wY_runSlot_305 post (nI T) (nI b) (nI M) (nI N) (nI t) ms ov (d + 1)) (nI T) (nI b) (nI (fs_S (fs_cY c pr) q)) (nI q) (nI (ord i)) (nI M) (nI N) (nI t) ms (mg + nI (fs_S (fs_gY c ord pr lq) q + g)) ov (fs_A st) (fs_A e) (fs_A p) (fs_A jn) (fs_A (fs_RA 0 c ord (fun i => dn (ord i) + 1) (fun i => decide (pr i < q)) dn)) (fs_RA 0 c ord (fun _ => nI T) (fun i => decide (pr i < q)) yls) (fs_RA 0 c ord (fun i => nI (pr i)) (fun i => decide (pr i < q)) ylp) ydp yrp (fs_RA b c pr (fun i => nI (dn (ord i) + 1)) (fun i => decide (pr i < q)) yrb) yo := by
        intro g hg
        rw [hg] at ih'
        refine fy_362 hoi (by omega) ?_
        rw [r1, nI_1]
        have u1 := fs_RA_u0 (val := fun i => dn (ord i) + 1) (f := dn) oinj z hP
        have u2 := fs_RA_upd0 (val := fun _ => nI T) (f := yls) oinj z hP
        have u3 := fs_RA_upd0 (val := fun i => nI (pr i)) (f := ylp) oinj z hP
        have u4 := fs_RA_upd (b := b) (val := fun i => nI (dn (ord i) + 1)) (f := yrb) pinj z hP
        rw [hpr] at u3 u4
        rw [u1, u2, u3, u4]
        exact ih'
      refine br_f (nI_pos (by omega)) (And.intro (fs_in hoi) ?_)
      have hl := hlq i z
      refine br_c (fun w => ?_) (fun w => And.intro (fs_in hoi) ?_)
      · rw [r2, fs_pI_neg (by omega)] at w
        exact fin 0 (if_neg (fun v => v.1 w))
      · rw [r2, fs_pI_neg (by omega)] at w
        obtain ⟨l, hl'⟩ : ∃ l, lq (ord i) = l + 1 := ⟨lq (ord i) - 1, by omega⟩
        have r3 : fs_RA 0 c ord (fun i => nI (pr i)) (fun i => decide (pr i < q)) ylp (nI (ord i)).toNatClampNeg = nI l := by rw [r2, hl', fs_pI1]
        refine pk_eq l q (fun v => ?_) (fun v => ?_) r3
        · exact fin 0 (if_neg (fun u => u.2 (by omega)))
        · refine nm_r (e' := mg + nI (fs_S (fs_gY c ord pr lq) q + 1)) (by rw [Int32.add_assoc, nI_1]) ?_
          exact fin 1 (if_pos ⟨w, by omega⟩)
    · rw [if_neg z]
      refine br_t fs_m1_neg (nm_r (nI_1 q) ?_)
      have hn := fs_iv_n z
      have e1 : fs_cY c pr q = 0 := if_neg z
      have e2 : fs_gY c ord pr lq q = 0 := if_neg (fun w => z w.1)
      have hP : ∀ j, j < c → decide (pr j < q + 1) = decide (pr j < q) := by
        intro j hj
        have := hn j hj
        rw [Bool.eq_iff_iff, decide_eq_true_eq, decide_eq_true_eq]
        omega
      rw [e1, e2, Nat.add_zero, Nat.add_zero] at ih'
      rw [fs_RA_c (val := fun i => dn (ord i) + 1) hP, fs_RA_c (val := fun _ => nI T) hP, fs_RA_c (val := fun i => nI (pr i)) hP, fs_RA_c (val := fun i => nI (dn (ord i) + 1)) hP] at ih'
      exact ih'
theorem fy_285 {post : Int32 → SY → Prop} {J : Int32 → (Nat → Int32) → (Nat → Int32) → (Nat → Int32) → (Nat → Int32) → (Nat → Int32) → (Nat → Int32) → (Nat → Int32) → (Nat → Int32) → (Nat → Int32) → (Nat → Int32) → (Nat → Int32) → Prop} {x1 x3 : Int32} {b q x i : Nat} (hb : b + q < 2400) (K : J (nI (i + 1)) (fs_A st) (fs_A e) (fs_A p) (fs_A jn) (fs_A dn) yls ylp ydp (upd yrp (b + q) (nI x)) yrb yo) : wY_runSlot_285 post J x1 (nI b) x3 (nI i) (nI x) (nI q) (nI M) (nI N) (nI t) ms mg ov (fs_A st) (fs_A e) (fs_A p) (fs_A jn) (fs_A dn) yls ylp ydp yrp yrb yo := by
  refine And.intro (by rw [nI_add]; exact vp_in_nI hb (by decide)) (nm_r ?_ (nm_r (nI_1 i) K))
  rw [nI_add, nI_clamp (by omega)]
theorem fy_256 {post : Int32 → SY → Prop} {J : Int32 → (Nat → Int32) → (Nat → Int32) → (Nat → Int32) → (Nat → Int32) → (Nat → Int32) → (Nat → Int32) → (Nat → Int32) → (Nat → Int32) → (Nat → Int32) → (Nat → Int32) → (Nat → Int32) → Prop} {x1 x3 : Int32} {b x i : Nat} {G : Nat → Bool} (hM1 : 1 ≤ M) (hM : M ≤ 4) (hb : b + 4 ≤ 2400) (hG : ∀ q, q < M → (yrp (b + q) < 0 ↔ G q = false)) : ∀ d q, q + d = M - 1 → J (nI (i + 1)) (fs_A st) (fs_A e) (fs_A p) (fs_A jn) (fs_A dn) yls ylp ydp (upd yrp (b + fs_lo G d q) (nI x)) yrb yo → wY_runSlot_256 post J x1 (nI b) x3 (nI i) (nI x) (nI M) (nI N) (nI t) ms mg ov (fs_A st) (fs_A e) (fs_A p) (fs_A jn) (fs_A dn) yls ylp ydp yrp yrb yo (d + 1) (nI q) := by
  intro d
  induction d with
  | zero =>
    intro q hq K
    refine br_t ?_ (fy_285 (by omega) K)
    rw [fs_s1 hM1]
    exact nI_le (by omega) (by omega)
  | succ d ih =>
    intro q hq K
    have e : fs_lo G (d + 1) q = if G q = true then fs_lo G d (q + 1) else q := rfl
    rw [e] at K
    have hg := hG q (by omega)
    refine br_f ?_ (And.intro (by rw [nI_add]; exact vp_in_nI (by omega) (by decide)) ?_)
    · rw [fs_s1 hM1]
      exact nI_ge (by omega) (by omega)
    · rw [nI_add, nI_clamp (by omega)]
      refine br_c (fun w => ?_) (fun w => nm_r (nI_1 q) (ih (q + 1) (by omega) ?_))
      · rw [if_neg (by rw [hg.mp w]; decide)] at K
        exact fy_285 (by omega) K
      · have : G q = true := by
          cases z : G q
          · exact absurd (hg.mpr z) w
          · rfl
        rw [if_pos this] at K
        exact K
theorem fy_227 {post : Int32 → SY → Prop} {J : Int32 → (Nat → Int32) → (Nat → Int32) → (Nat → Int32) → (Nat → Int32) → (Nat → Int32) → (Nat → Int32) → (Nat → Int32) → (Nat → Int32) → (Nat → Int32) → (Nat → Int32) → (Nat → Int32) → Prop} {x1 x3 : Int32} {b x i l : Nat} {G : Nat → Bool} (hx : x < 16) (hM1 : 1 ≤ M) (hM : M ≤ 4) (hb : b + 4 ≤ 2400) (hl : l ≤ M) (hlp : ylp x = fs_pI l) (hG : ∀ q, q < M → (yrp (b + q) < 0 ↔ G q = false)) (K : J (nI (i + 1)) (fs_A st) (fs_A e) (fs_A p) (fs_A jn) (fs_A dn) yls ylp ydp (upd yrp (b + fs_pk M G l) (nI x)) yrb yo) : wY_runSlot_227 post J x1 (nI b) x3 (nI i) (nI x) (nI M) (nI N) (nI t) ms mg ov (fs_A st) (fs_A e) (fs_A p) (fs_A jn) (fs_A dn) yls ylp ydp yrp yrb yo := by
  unfold fs_pk at K
  refine And.intro (fs_in hx) (nm_r (e' := fs_pI l) (by rw [nI_clamp (by omega), hlp]) ?_)
  refine br_c (fun w => ⟨M - 1 + 1, ?_⟩) (fun w => ?_)
  · rw [fs_pI_neg (by omega)] at w
    rw [if_neg (fun v => v.1 w)] at K
    exact fy_256 hM1 hM hb hG (M - 1) 0 (by omega) K
  · rw [fs_pI_neg (by omega)] at w
    obtain ⟨q, rfl⟩ : ∃ q, l = q + 1 := ⟨l - 1, by omega⟩
    rw [fs_pI1]
    have hg := hG q (by omega)
    refine And.intro (by rw [nI_add]; exact vp_in_nI (by omega) (by decide)) ?_
    rw [nI_add, nI_clamp (by omega)]
    refine br_c (fun v => ?_) (fun v => ⟨M - 1 + 1, ?_⟩)
    · rw [if_pos ⟨w, hg.mp v⟩] at K
      exact fy_285 (by omega) K
    · rw [if_neg (fun u => v (hg.mpr u.2))] at K
      exact fy_256 hM1 hM hb hG (M - 1) 0 (by omega) K
end
end
section
/-! Y: the first loops of the slot and the slot as a whole -/
theorem fs_RG {M c b i : Nat} {ord lq : Nat → Nat} {kb : Nat → Bool} {f : Nat → Int32} (AH : fs_AH M c ord lq kb) (hi : i ≤ c) (hf : ∀ q, q < M → f (b + q) = -1) : ∀ q, q < M → (fs_RA b c (fs_pr M c ord lq kb) (fun j => nI (ord j)) (fun j => kb (ord j) || decide (j < i)) f (b + q) < 0 ↔ fs_G M c ord lq kb i q = false) := by
  intro q hq
  have a1 := fs_a1_all AH i hi q
  have pinj := fs_pr_inj AH
  have ho := AH.2.2.2.1
  by_cases z : fs_iv (fs_pr M c ord lq kb) q c < c
  · have hpr := fs_iv_f z
    generalize fs_iv (fs_pr M c ord lq kb) q c = j at z hpr
    subst hpr
    rw [fs_RA_i pinj z]
    by_cases y : (kb (ord j) || decide (j < i)) = true
    · rw [if_pos y]
      rw [Bool.or_eq_true, decide_eq_true_eq] at y
      have := ho j z
      rw [a1.mpr ⟨j, z, y, rfl⟩]
      exact ⟨fun w => absurd w (nI_pos (by omega)), fun w => by cases w⟩
    · rw [if_neg y, hf _ hq]
      refine ⟨fun _ => ?_, fun _ => fs_m1_neg⟩
      rw [← Bool.not_eq_true, a1]
      rintro ⟨k, hk, hc, e⟩
      have := pinj k j hk z e
      subst this
      exact y (by rw [Bool.or_eq_true, decide_eq_true_eq]; exact hc)
  · rw [fs_RA_n z, hf q hq]
    refine ⟨fun _ => ?_, fun _ => fs_m1_neg⟩
    rw [← Bool.not_eq_true, a1]
    rintro ⟨k, hk, hc, e⟩
    exact fs_iv_n z k hk e
section
variable {M N t : Nat} {ms mg ov : Int32} {st e p jn dn : Nat → Nat} {yls ylp ydp yrp yrb yo : Nat → Int32} {c b : Nat} {ord lq : Nat → Nat} {kb : Nat → Bool}
theorem fy_181 {post : Int32 → SY → Prop} {r : Int32} {T : Nat} (AH : fs_AH M c ord lq kb) (hb : b + 4 ≤ 2400) (hf : ∀ q, q < M → yrp (b + q) = -1) (hyo : ∀ i, i < M → yo i = if i < c then nI (ord i) else -1) (hlp : ∀ i, i < c → ylp (ord i) = fs_pI (lq (ord i))) (hls : ∀ i, i < c → lq (ord i) ≠ 0 → (yls (ord i) = nI T - 1 ↔ kb (ord i) = true))
    (K : ∃ n305, wY_runSlot_305 post (nI T) (nI b) (nI M) (nI N) (nI t) ms ov n305 r 0 mg (fs_A st) (fs_A e) (fs_A p) (fs_A jn) (fs_A dn) yls ylp ydp (fs_RA b c (fs_pr M c ord lq kb) (fun j => nI (ord j)) (fun j => kb (ord j) || decide (j < M)) yrp) yrb yo) :
    ∀ d i, i + d = M → wY_runSlot_181 post (nI T) (nI b) r (nI M) (nI N) (nI t) ms mg ov (d + 1) (nI i) (fs_A st) (fs_A e) (fs_A p) (fs_A jn) (fs_A dn) yls ylp ydp (fs_RA b c (fs_pr M c ord lq kb) (fun j => nI (ord j)) (fun j => kb (ord j) || decide (j < i)) yrp) yrb yo := by
  have hM1 := AH.1
  have hM := AH.2.1
  have hcM := AH.2.2.1
  have pinj := fs_pr_inj AH
  intro d
  induction d with
  | zero =>
    intro i hi
    have : i = M := by omega
    subst this
    exact br_t (nI_le (Nat.le_refl _) (by omega)) K
  | succ d ih =>
    intro i hi
    have ih' := ih (i + 1) (by omega)
    refine br_f (nI_ge (by omega) (by omega)) (And.intro (fs_in4 (by omega)) (nm_r (e' := if i < c then nI (ord i) else -1) (by rw [nI_clamp (by omega), hyo i (by omega)]) ?_))
    by_cases z : i < c
    · rw [if_pos z]
      have hoi := AH.2.2.2.1 i z
      have hl := AH.2.2.2.2.2.1 i z
      have hkl := AH.2.2.2.2.2.2.1 i z
      have RG := fs_RG (b := b) (f := yrp) AH (Nat.le_of_lt z) hf
      have hl1 := hlp i z
      have hl2 := hls i z
      have go : ¬ kb (ord i) = true → wY_runSlot_227 post (wY_runSlot_181 post (nI T) (nI b) r (nI M) (nI N) (nI t) ms mg ov (d + 1)) (nI T) (nI b) r (nI i) (nI (ord i)) (nI M) (nI N) (nI t) ms mg ov (fs_A st) (fs_A e) (fs_A p) (fs_A jn) (fs_A dn) yls ylp ydp (fs_RA b c (fs_pr M c ord lq kb) (fun j => nI (ord j)) (fun j => kb (ord j) || decide (j < i)) yrp) yrb yo := by
        intro hk
        refine fy_227 (G := fs_G M c ord lq kb i) (l := lq (ord i)) hoi hM1 hM hb hl hl1 RG ?_
        rw [← fs_pr_n hk]
        have u := fs_RA_upd (b := b) (val := fun j => nI (ord j)) (f := yrp) (P := fun j => kb (ord j) || decide (j < i)) (P' := fun j => kb (ord j) || decide (j < i + 1)) pinj z (fun j hj => by
          try dsimp only
          rw [Bool.or_assoc]
          congr 1
          rw [Bool.eq_iff_iff, Bool.or_eq_true, decide_eq_true_eq, decide_eq_true_eq, decide_eq_true_eq]
          omega)
        try dsimp only at u
        rw [u]
        exact ih'
      refine br_f (nI_pos (by omega)) (And.intro (fs_in hoi) ?_)
      have r1 : ylp (nI (ord i)).toNatClampNeg = fs_pI (lq (ord i)) := by rw [nI_clamp (by omega), hl1]
      refine br_c (fun w => ?_) (fun w => And.intro (fs_in hoi) ?_)
      · rw [r1, fs_pI_neg (by omega)] at w
        exact go (fun v => hkl v w)
      · rw [r1, fs_pI_neg (by omega)] at w
        rw [nI_clamp (by omega)]
        refine br_c (fun v => nm_r (nI_1 i) ?_) (fun v => ?_)
        · have hk := (hl2 w).mp v
          rw [fs_RA_c (P := fun j => kb (ord j) || decide (j < i + 1)) (P' := fun j => kb (ord j) || decide (j < i)) (fun j hj => by
            try dsimp only
            by_cases x : j = i
            · rw [x, hk]; rfl
            · congr 1
              rw [Bool.eq_iff_iff, decide_eq_true_eq, decide_eq_true_eq]
              omega)] at ih'
          exact ih'
        · exact go (fun u => v ((hl2 w).mpr u))
    · rw [if_neg z]
      refine br_t fs_m1_neg (nm_r (nI_1 i) ?_)
      rw [fs_RA_c (P := fun j => kb (ord j) || decide (j < i + 1)) (P' := fun j => kb (ord j) || decide (j < i)) (fun j hj => by
        try dsimp only
        congr 1
        rw [Bool.eq_iff_iff, decide_eq_true_eq, decide_eq_true_eq]
        omega)] at ih'
      exact ih'
theorem fy_110 {post : Int32 → SY → Prop} {r : Int32} {T : Nat} (AH : fs_AH M c ord lq kb) (hb : b + 4 ≤ 2400) (hyo : ∀ i, i < M → yo i = if i < c then nI (ord i) else -1) (hlp : ∀ i, i < c → ylp (ord i) = fs_pI (lq (ord i))) (hls : ∀ i, i < c → lq (ord i) ≠ 0 → (yls (ord i) = nI T - 1 ↔ kb (ord i) = true))
    (K : ∃ n181, wY_runSlot_181 post (nI T) (nI b) r (nI M) (nI N) (nI t) ms mg ov n181 0 (fs_A st) (fs_A e) (fs_A p) (fs_A jn) (fs_A dn) yls ylp ydp (fs_RA b c (fs_pr M c ord lq kb) (fun j => nI (ord j)) (fun j => kb (ord j) && decide (j < M)) yrp) yrb yo) :
    ∀ d i, i + d = M → wY_runSlot_110 post (nI T) (nI b) r (nI M) (nI N) (nI t) ms mg ov (d + 1) (nI i) (fs_A st) (fs_A e) (fs_A p) (fs_A jn) (fs_A dn) yls ylp ydp (fs_RA b c (fs_pr M c ord lq kb) (fun j => nI (ord j)) (fun j => kb (ord j) && decide (j < i)) yrp) yrb yo := by
  have hM1 := AH.1
  have hM := AH.2.1
  have hcM := AH.2.2.1
  have pinj := fs_pr_inj AH
  intro d
  induction d with
  | zero =>
    intro i hi
    have : i = M := by omega
    subst this
    exact br_t (nI_le (Nat.le_refl _) (by omega)) K
  | succ d ih =>
    intro i hi
    have ih' := ih (i + 1) (by omega)
    refine br_f (nI_ge (by omega) (by omega)) (And.intro (fs_in4 (by omega)) (nm_r (e' := if i < c then nI (ord i) else -1) (by rw [nI_clamp (by omega), hyo i (by omega)]) ?_))
    by_cases z : i < c
    · rw [if_pos z]
      have hoi := AH.2.2.2.1 i z
      have hl := AH.2.2.2.2.2.1 i z
      have hkl := AH.2.2.2.2.2.2.1 i z
      have hl1 := hlp i z
      have hl2 := hls i z
      have go : ¬ kb (ord i) = true → wY_runSlot_110 post (nI T) (nI b) r (nI M) (nI N) (nI t) ms mg ov (d + 1) (nI (i + 1)) (fs_A st) (fs_A e) (fs_A p) (fs_A jn) (fs_A dn) yls ylp ydp (fs_RA b c (fs_pr M c ord lq kb) (fun j => nI (ord j)) (fun j => kb (ord j) && decide (j < i)) yrp) yrb yo := by
        intro hk
        rw [fs_RA_c (P := fun j => kb (ord j) && decide (j < i + 1)) (P' := fun j => kb (ord j) && decide (j < i)) (fun j hj => by
          try dsimp only
          by_cases x : j = i
          · rw [x, eq_false_of_ne_true hk]; rfl
          · congr 1
            rw [Bool.eq_iff_iff, decide_eq_true_eq, decide_eq_true_eq]
            omega)] at ih'
        exact ih'
      refine br_f (nI_pos (by omega)) (And.intro (fs_in hoi) ?_)
      have r1 : ylp (nI (ord i)).toNatClampNeg = fs_pI (lq (ord i)) := by rw [nI_clamp (by omega), hl1]
      refine br_c (fun w => nm_r (nI_1 i) ?_) (fun w => And.intro (fs_in hoi) ?_)
      · rw [r1, fs_pI_neg (by omega)] at w
        exact go (fun v => hkl v w)
      · rw [r1, fs_pI_neg (by omega)] at w
        obtain ⟨q, hq⟩ : ∃ q, lq (ord i) = q + 1 := ⟨lq (ord i) - 1, by omega⟩
        rw [r1, hq, fs_pI1, nI_clamp (show ord i < 2 ^ 31 by omega)]
        refine br_c (fun v => And.intro (fs_in hoi) (And.intro (by rw [nI_add]; exact vp_in_nI (by omega) (by decide)) (nm_r (e' := fs_RA b c (fs_pr M c ord lq kb) (fun j => nI (ord j)) (fun j => kb (ord j) && decide (j < i + 1)) yrp) ?_ (nm_r (nI_1 i) ih')))) (fun v => nm_r (nI_1 i) (go (fun u => v ((hl2 w).mpr u))))
        have hk := (hl2 w).mp v
        have u := fs_RA_upd (b := b) (val := fun j => nI (ord j)) (f := yrp) (P := fun j => kb (ord j) && decide (j < i)) (P' := fun j => kb (ord j) && decide (j < i + 1)) pinj z (fun j hj => by
          try dsimp only
          by_cases x : j = i
          · rw [x, hk, decide_eq_true rfl, Bool.or_true, decide_eq_true (by omega)]; rfl
          · rw [decide_eq_false x, Bool.or_false]
            congr 1
            rw [Bool.eq_iff_iff, decide_eq_true_eq, decide_eq_true_eq]
            omega)
        try dsimp only at u
        rw [← u, fs_pr_k hk, hq, nI_add, nI_clamp (by omega)]
        rfl
    · rw [if_neg z]
      refine br_t fs_m1_neg (nm_r (nI_1 i) ?_)
      rw [fs_RA_c (P := fun j => kb (ord j) && decide (j < i + 1)) (P' := fun j => kb (ord j) && decide (j < i)) (fun j hj => by
        try dsimp only
        congr 1
        rw [Bool.eq_iff_iff, decide_eq_true_eq, decide_eq_true_eq]
        omega)] at ih'
      exact ih'
theorem fs_ca_le {N t : Nat} {st e p jn dn : Nat → Nat} {x : Nat} : fs_ca N t st e p jn dn x ≤ N := by
  have := fs_S_le (f := fun y => if (fs_el t st e p jn dn y && decide (fs_K e p jn dn y < fs_K e p jn dn x)) = true then 1 else 0) (n := N) (B := 1) (fun i _ => by
    try dsimp only
    split <;> omega)
  rw [Nat.mul_one] at this
  exact this
theorem fy_57 {post : Int32 → SY → Prop} {r : Int32} (V : fs_V N t st e p jn dn) (S : fs_CS M N t st e p jn dn c ord) (hM : M ≤ 4) (K : ∃ n110, wY_runSlot_110 post (nI t) (nI b) r (nI M) (nI N) (nI t) ms mg ov n110 0 (fs_A st) (fs_A e) (fs_A p) (fs_A jn) (fs_A dn) yls ylp ydp yrp yrb (fs_O yo c ord N)) : ∀ d x, x + d = N → wY_runSlot_57 post (nI t) (nI b) r (nI M) (nI N) (nI t) ms mg ov (d + 1) (nI x) (fs_A st) (fs_A e) (fs_A p) (fs_A jn) (fs_A dn) yls ylp ydp yrp yrb (fs_O yo c ord x) := by
  have hN := V.1
  have inj := fs_CS_inj S
  intro d
  induction d with
  | zero =>
    intro i hi
    have : i = N := by omega
    subst this
    exact br_t (nI_le (Nat.le_refl _) (by omega)) K
  | succ d ih =>
    intro x hx
    have ih' := ih (x + 1) (by omega)
    have no : (∀ i, i < c → ord i ≠ x) → wY_runSlot_57 post (nI t) (nI b) r (nI M) (nI N) (nI t) ms mg ov (d + 1) (nI (x + 1)) (fs_A st) (fs_A e) (fs_A p) (fs_A jn) (fs_A dn) yls ylp ydp yrp yrb (fs_O yo c ord x) := by
      intro hn
      rw [fs_O_n hn] at ih'
      exact ih'
    refine br_f (nI_ge (by omega) (by omega)) (fy_elig V (by omega) (fun z => br_f (by decide) ?_) (fun z => br_t rfl (nm_r (nI_1 x) (no (fun i hi y => ?_)))))
    · have sx : st x ≠ 0 := by have := (fs_el_iff.mp z).1; omega
      refine fy_ca V sx ?_
      have hle := fs_ca_le (N := N) (t := t) (st := st) (e := e) (p := p) (jn := jn) (dn := dn) (x := x)
      by_cases y : ∃ i, i < c ∧ ord i = x
      · obtain ⟨i, hi, rfl⟩ := y
        have hc := S.1
        rw [fs_CS_ca V S hi]
        refine br_f (nI_ge (by omega) (by omega)) (And.intro (fs_in4 (by omega)) (nm_r (e' := fs_O yo c ord (ord i + 1)) ?_ (nm_r (nI_1 _) ih')))
        rw [nI_clamp (by omega), fs_O_y inj hi]
      · have hn : ∀ i, i < c → ord i ≠ x := fun i hi w => y ⟨i, hi, w⟩
        have := fs_CS_out V S z hn
        exact br_t (nI_le this (by omega)) (nm_r (nI_1 x) (no hn))
    · have := S.2.1 i hi
      rw [y, z] at this
      cases this
theorem fy_14 {post : Int32 → SY → Prop} {r : Int32} {T : Nat} (hb : b + 4 ≤ 2400) (K : ∃ n57, wY_runSlot_57 post (nI T) (nI b) r (nI M) (nI N) (nI t) ms mg ov n57 0 (fs_A st) (fs_A e) (fs_A p) (fs_A jn) (fs_A dn) yls ylp ydp (fs_fill yrp b 4 (-1)) (fs_fill yrb b 4 0) (fs_fill yo 0 4 (-1))) : ∀ d j, j + d = 4 → wY_runSlot_14 post (nI T) (nI b) r (nI M) (nI N) (nI t) ms mg ov (d + 1) (nI j) (fs_A st) (fs_A e) (fs_A p) (fs_A jn) (fs_A dn) yls ylp ydp (fs_fill yrp b j (-1)) (fs_fill yrb b j 0) (fs_fill yo 0 j (-1)) := by
  intro d
  induction d with
  | zero =>
    intro j hj
    have : j = 4 := by omega
    subst this
    exact br_t (nI_le (a := 4) (Nat.le_refl _) (by decide)) K
  | succ d ih =>
    intro j hj
    have ih' := ih (j + 1) (by omega)
    have e1 : nI b + nI j = nI (b + j) := nI_add b j
    refine br_f (nI_ge (b := 4) (by omega) (by decide)) (And.intro (fs_in4 (by omega)) (nm_r (e' := fs_fill yo 0 (j + 1) (-1)) ?_ (And.intro (by rw [e1]; exact vp_in_nI (by omega) (by decide)) (nm_r (e' := fs_fill yrp b (j + 1) (-1)) ?_ (And.intro (by rw [e1]; exact vp_in_nI (by omega) (by decide)) (nm_r (e' := fs_fill yrb b (j + 1) 0) ?_ (nm_r (nI_1 j) ih')))))))
    · have := fs_fill1 yo 0 j (-1)
      rw [Nat.zero_add] at this
      rw [nI_clamp (by omega), this]
    · rw [e1, nI_clamp (by omega), fs_fill1]
    · rw [e1, nI_clamp (by omega), fs_fill1]
end
end
section
/-! Y: one slot as a whole -/
def fs_gX (ord pr lq : Nat → Nat) (i : Nat) : Nat := if lq (ord i) ≠ 0 ∧ lq (ord i) ≠ pr i + 1 then 1 else 0
theorem fs_cY_sum {M c : Nat} {pr : Nat → Nat} (hp : ∀ i, i < c → pr i < M) (inj : ∀ i j, i < c → j < c → pr i = pr j → i = j) : fs_S (fs_cY c pr) M = c := by
  rw [fs_S_inj (φ := pr) (f := fun _ => 1) c (fs_cY c pr) hp inj (fun i hi => ?_) (fun q _ hn => ?_), fs_S_const]
  · unfold fs_cY
    rw [fs_iv_i inj hi, if_pos hi]
  · exact if_neg (fs_iv_c hn)
theorem fs_gY_sum {M c : Nat} {ord pr lq : Nat → Nat} (hp : ∀ i, i < c → pr i < M) (inj : ∀ i j, i < c → j < c → pr i = pr j → i = j) : fs_S (fs_gY c ord pr lq) M = fs_S (fs_gX ord pr lq) c := by
  refine fs_S_inj (φ := pr) c (fs_gY c ord pr lq) hp inj (fun i hi => ?_) (fun q _ hn => ?_)
  · unfold fs_gY fs_gX
    rw [fs_iv_i inj hi]
    by_cases y : lq (ord i) ≠ 0 ∧ lq (ord i) ≠ pr i + 1
    · rw [if_pos y, if_pos ⟨hi, y⟩]
    · rw [if_neg y, if_neg (fun w => y w.2)]
  · exact if_neg (fun w => fs_iv_c hn w.1)
section
variable {M N t : Nat} {ms mg ov : Int32} {st e p jn dn : Nat → Nat} {yls ylp ydp yrp yrb yo : Nat → Int32} {c : Nat} {ord lq : Nat → Nat} {kb : Nat → Bool} {dp : Nat → Nat}
theorem fy_runSlot {post : Int32 → SY → Prop} (V : fs_V N t st e p jn dn) (S : fs_CS M N t st e p jn dn c ord) (AH : fs_AH M c ord lq kb) (ht : t < 600)
    (hlp : ∀ i, i < c → ylp (ord i) = fs_pI (lq (ord i))) (hls : ∀ i, i < c → lq (ord i) ≠ 0 → (yls (ord i) = nI t - 1 ↔ kb (ord i) = true)) (hdp : ∀ x, st x = 2 → ydp x = nI (dp x) ∧ dp x < 2000)
    (K : post (nI c) ((nI M), (nI N), (nI (t + 1)), (ms + nI (fs_S (fs_my (t + 1) st e p jn (fs_RA 0 c ord (fun i => dn (ord i) + 1) (fun _ => true) dn)) N)), (mg + nI (fs_S (fs_gX ord (fs_pr M c ord lq kb) lq) c)), ov, (fs_A (fs_dep N (t + 1) dp st)), (fs_A e), (fs_A p), (fs_A jn), (fs_A (fs_RA 0 c ord (fun i => dn (ord i) + 1) (fun _ => true) dn)), (fs_RA 0 c ord (fun _ => nI t) (fun _ => true) yls), (fs_RA 0 c ord (fun i => nI (fs_pr M c ord lq kb i)) (fun _ => true) ylp), ydp, (fs_RA (t * 4) c (fs_pr M c ord lq kb) (fun j => nI (ord j)) (fun _ => true) (fs_fill yrp (t * 4) 4 (-1))), (fs_RA (t * 4) c (fs_pr M c ord lq kb) (fun i => nI (dn (ord i) + 1)) (fun _ => true) (fs_fill yrb (t * 4) 4 0)), (fs_O (fs_fill yo 0 4 (-1)) c ord N))) : wpY_runSlot post ((nI M), (nI N), (nI t), ms, mg, ov, (fs_A st), (fs_A e), (fs_A p), (fs_A jn), (fs_A dn), yls, ylp, ydp, yrp, yrb, yo) := by
  have hN := V.1
  have hM1 := AH.1
  have hM := AH.2.1
  have hcM := AH.2.2.1
  have ho := AH.2.2.2.1
  have oinj := AH.2.2.2.2.1
  have hlq := AH.2.2.2.2.2.1
  have plt := fun i hi => fs_pr_lt AH (i := i) hi
  have pinj := fs_pr_inj AH
  have hON : ∀ i, i < c → ord i < N := fun i hi => (fs_V_x V (by rw [fs_CS_st S hi]; decide)).1
  have hb : t * 4 + 4 ≤ 2400 := by omega
  -- the last two loops
  have s519 : ∃ n519, wY_runSlot_519 post (nI t) (nI c) (nI M) (nI N) (nI (t + 1)) (ms + nI (fs_S (fs_my (t + 1) st e p jn (fs_RA 0 c ord (fun i => dn (ord i) + 1) (fun _ => true) dn)) N)) (mg + nI (fs_S (fs_gX ord (fs_pr M c ord lq kb) lq) c)) ov n519 0 (fs_A st) (fs_A e) (fs_A p) (fs_A jn) (fs_A (fs_RA 0 c ord (fun i => dn (ord i) + 1) (fun _ => true) dn)) (fs_RA 0 c ord (fun _ => nI t) (fun _ => true) yls) (fs_RA 0 c ord (fun i => nI (fs_pr M c ord lq kb i)) (fun _ => true) ylp) ydp (fs_RA (t * 4) c (fs_pr M c ord lq kb) (fun j => nI (ord j)) (fun _ => true) (fs_fill yrp (t * 4) 4 (-1))) (fs_RA (t * 4) c (fs_pr M c ord lq kb) (fun i => nI (dn (ord i) + 1)) (fun _ => true) (fs_fill yrb (t * 4) 4 0)) (fs_O (fs_fill yo 0 4 (-1)) c ord N) := by
    refine ⟨N + 1, ?_⟩
    have := fy_519 (T := t) (dp := dp) hN V.2.2.1 V.2.1 hdp K N 0 (by omega)
    rw [fs_dep_0] at this
    exact this
  have hv2 : ∀ x, st x = 1 → 1 ≤ e x ∧ e x ≤ p x ∧ p x ≤ 16 ∧ jn x ≤ t ∧ fs_RA 0 c ord (fun i => dn (ord i) + 1) (fun _ => true) dn x ≤ 700 := by
    intro x hx
    have hvx := fs_V_x V (show st x ≠ 0 by omega)
    have h5 := V.2.2.2.2 x (by omega)
    refine ⟨by omega, by omega, by omega, by omega, ?_⟩
    unfold fs_RA
    by_cases z : 0 ≤ x ∧ fs_iv ord (x - 0) c < c ∧ true = true
    · rw [if_pos z]
      show dn (ord (fs_iv ord (x - 0) c)) + 1 ≤ 700
      rw [fs_iv_f z.2.1, Nat.sub_zero]
      omega
    · rw [if_neg z]
      omega
  have s425 := fy_425 (T := t) (t := t + 1) hN V.2.2.1 V.2.1 hv2 s519 N 0 (by omega)
  rw [fs_S0, fs_add0] at s425
  -- the others
  refine nm_r (e' := nI (t * 4)) (pk_mul t 4) ⟨5, ?_⟩
  have s305 : ∃ n305, wY_runSlot_305 post (nI t) (nI (t * 4)) (nI M) (nI N) (nI t) ms ov n305 0 0 mg (fs_A st) (fs_A e) (fs_A p) (fs_A jn) (fs_A dn) yls ylp ydp (fs_RA (t * 4) c (fs_pr M c ord lq kb) (fun j => nI (ord j)) (fun _ => true) (fs_fill yrp (t * 4) 4 (-1))) (fs_fill yrb (t * 4) 4 0) (fs_O (fs_fill yo 0 4 (-1)) c ord N) := by
    refine ⟨M + 1, ?_⟩
    have k1 := fy_305 (post := post) (M := M) (N := N) (t := t) (ms := ms) (mg := mg) (ov := ov) (st := st) (e := e) (p := p) (jn := jn) (dn := dn) (yls := yls) (ylp := ylp) (ydp := ydp) (yrp := fs_RA (t * 4) c (fs_pr M c ord lq kb) (fun j => nI (ord j)) (fun _ => true) (fs_fill yrp (t * 4) 4 (-1))) (yrb := fs_fill yrb (t * 4) 4 0) (yo := fs_O (fs_fill yo 0 4 (-1)) c ord N) (T := t) (b := t * 4) (c := c) (ord := ord) (pr := fs_pr M c ord lq kb) (lq := lq) hM hb hcM ho oinj pinj (fun i hi => by have := hlq i hi; omega) hlp ?_ ⟨N + 1, ?_⟩ M 0 (by omega)
    · have z1 : ∀ j, j < c → decide (fs_pr M c ord lq kb j < 0) = false := fun j _ => decide_eq_false (by omega)
      rw [fs_RA_0 (val := fun i => dn (ord i) + 1) z1, fs_RA_0 (val := fun _ => nI t) z1, fs_RA_0 (val := fun i => nI (fs_pr M c ord lq kb i)) z1, fs_RA_0 (val := fun i => nI (dn (ord i) + 1)) z1, fs_S0, fs_S0, fs_add0] at k1
      exact k1
    · intro q hq
      by_cases z : fs_iv (fs_pr M c ord lq kb) q c < c
      · rw [if_pos z]
        have hpr := fs_iv_f z
        generalize fs_iv (fs_pr M c ord lq kb) q c = j at z hpr
        subst hpr
        rw [fs_RA_i pinj z, if_pos rfl]
      · rw [if_neg z, fs_RA_n z, fs_fill_i _ _ _ _ (by omega)]
    · have z1 : ∀ j, j < c → decide (fs_pr M c ord lq kb j < M) = true := fun j hj => decide_eq_true (plt j hj)
      rw [fs_RA_c (val := fun i => dn (ord i) + 1) z1, fs_RA_c (val := fun _ => nI t) z1, fs_RA_c (val := fun i => nI (fs_pr M c ord lq kb i)) z1, fs_RA_c (val := fun i => nI (dn (ord i) + 1)) z1, fs_cY_sum plt pinj, fs_gY_sum plt pinj]
      exact s425
  have hyo : ∀ i, i < M → fs_O (fs_fill yo 0 4 (-1)) c ord N i = if i < c then nI (ord i) else -1 := by
    intro i hi
    unfold fs_O
    by_cases z : i < c
    · rw [if_pos ⟨z, hON i z⟩, if_pos z]
    · rw [if_neg (fun w => z w.1), if_neg z]
      have := fs_fill_i yo 0 4 (-1) (q := i) (by omega)
      rw [Nat.zero_add] at this
      exact this
  have s181 : ∃ n181, wY_runSlot_181 post (nI t) (nI (t * 4)) 0 (nI M) (nI N) (nI t) ms mg ov n181 0 (fs_A st) (fs_A e) (fs_A p) (fs_A jn) (fs_A dn) yls ylp ydp (fs_RA (t * 4) c (fs_pr M c ord lq kb) (fun j => nI (ord j)) (fun j => kb (ord j) && decide (j < M)) (fs_fill yrp (t * 4) 4 (-1))) (fs_fill yrb (t * 4) 4 0) (fs_O (fs_fill yo 0 4 (-1)) c ord N) := by
    refine ⟨M + 1, ?_⟩
    have z1 : ∀ j, j < c → (fun j => kb (ord j) || decide (j < M)) j = (fun _ => true) j := fun j hj => by
      try dsimp only
      rw [decide_eq_true (show j < M by omega), Bool.or_true]
    have z2 : ∀ j, j < c → (fun j => kb (ord j) || decide (j < 0)) j = (fun j => kb (ord j) && decide (j < M)) j := fun j hj => by
      try dsimp only
      rw [decide_eq_true (show j < M by omega), decide_eq_false (show ¬ j < 0 by omega), Bool.or_false, Bool.and_true]
    rw [← fs_RA_c (val := fun j => nI (ord j)) z1] at s305
    rw [← fs_RA_c (val := fun j => nI (ord j)) z2]
    exact fy_181 AH hb (fun q hq => fs_fill_i _ _ _ _ (by omega)) hyo hlp hls s305 M 0 (by omega)
  have s110 : ∃ n110, wY_runSlot_110 post (nI t) (nI (t * 4)) 0 (nI M) (nI N) (nI t) ms mg ov n110 0 (fs_A st) (fs_A e) (fs_A p) (fs_A jn) (fs_A dn) yls ylp ydp (fs_fill yrp (t * 4) 4 (-1)) (fs_fill yrb (t * 4) 4 0) (fs_O (fs_fill yo 0 4 (-1)) c ord N) := by
    refine ⟨M + 1, ?_⟩
    have := fy_110 AH hb hyo hlp hls s181 M 0 (by omega)
    rw [fs_RA_0 (fun j _ => by rw [decide_eq_false (show ¬ j < 0 by omega), Bool.and_false])] at this
    exact this
  have s57 : ∃ n57, wY_runSlot_57 post (nI t) (nI (t * 4)) 0 (nI M) (nI N) (nI t) ms mg ov n57 0 (fs_A st) (fs_A e) (fs_A p) (fs_A jn) (fs_A dn) yls ylp ydp (fs_fill yrp (t * 4) 4 (-1)) (fs_fill yrb (t * 4) 4 0) (fs_fill yo 0 4 (-1)) := by
    refine ⟨N + 1, ?_⟩
    have := fy_57 V S hM s110 N 0 (by omega)
    rw [fs_O0] at this
    exact this
  have := fy_14 hb s57 4 0 rfl
  rw [fs_fill0, fs_fill0, fs_fill0] at this
  exact this
end
end
section
/-! X: choose, keepProcessors, assignOthers, clearMemory -/
/-- content of the heap when the first i of ord are taken out -/
def fs_Ci (t : Nat) (st e p jn dn ord : Nat → Nat) (i : Nat) (z : Nat) : Prop := ∃ x, fs_el t st e p jn dn x = true ∧ (∀ j, j < i → ord j ≠ x) ∧ z = fs_K e p jn dn x
theorem fs_K_inj {N t : Nat} {st e p jn dn : Nat → Nat} (V : fs_V N t st e p jn dn) {x y : Nat} (hx : st x ≠ 0) (hy : st y ≠ 0) (h : fs_K e p jn dn x = fs_K e p jn dn y) : x = y := by
  have a := fs_V_x V hx
  have b := fs_V_x V hy
  have c := congrArg (fun z => z % 16) h
  try dsimp only at c
  rw [fs_K_mod a.2.1, fs_K_mod b.2.1] at c
  exact c
theorem fs_el_st {t : Nat} {st e p jn dn : Nat → Nat} {x : Nat} (h : fs_el t st e p jn dn x = true) : st x ≠ 0 := by
  have := (fs_el_iff.mp h).1
  omega
section
variable {M N t h : Nat} {cap ld ov ms mg cc gm : Int32} {st e p sh jn dn dp sw sr rl ed rs ai ae ar hp ky : Nat → Nat} {ls lp rc dc pc se ch cp rp rb : Nat → Int32} {c : Nat} {ord lq : Nat → Nat} {kb : Nat → Bool}
theorem fx_choose12 {post : SX → Prop} (V : fs_V N t st e p jn dn) (hM : M ≤ 4) (K : ∀ (c : Nat) (ord : Nat → Nat) (h : Nat) (hp : Nat → Nat) (se ch cp : Nat → Int32), fs_CS M N t st e p jn dn c ord → (∀ j, j < c → ch j = nI (ord j)) → (∀ j, j < c → cp j = -1) → fs_H h hp se (fs_Ci t st e p jn dn ord c) → post ((nI M), (nI N), cap, (nI t), ld, ov, ms, mg, (nI h), (nI c), gm, (fs_A st), (fs_A e), (fs_A p), (fs_A sh), (fs_A jn), (fs_A dn), ls, lp, (fs_A dp), (fs_A sw), (fs_A sr), (fs_A rl), (fs_A ed), (fs_A rs), (fs_A ai), (fs_A ae), (fs_A ar), rc, dc, pc, (fs_A hp), (fs_A ky), se, ch, cp, rp, rb)) : ∀ (d i : Nat) (ord : Nat → Nat) (h : Nat) (hp : Nat → Nat) (se ch cp : Nat → Int32), i + d = M → (∀ j, j < i → fs_el t st e p jn dn (ord j) = true) → (∀ j k, j < k → k < i → fs_K e p jn dn (ord j) < fs_K e p jn dn (ord k)) → (∀ x, fs_el t st e p jn dn x = true → (∀ j, j < i → ord j ≠ x) → ∀ j, j < i → fs_K e p jn dn (ord j) < fs_K e p jn dn x) → (∀ j, j < i → ch j = nI (ord j)) → (∀ j, j < i → cp j = -1) → fs_H h hp se (fs_Ci t st e p jn dn ord i) → wX_choose_12 post (d + 1) (nI i) (nI M) (nI N) cap (nI t) ld ov ms mg (nI h) (nI i) gm (fs_A st) (fs_A e) (fs_A p) (fs_A sh) (fs_A jn) (fs_A dn) ls lp (fs_A dp) (fs_A sw) (fs_A sr) (fs_A rl) (fs_A ed) (fs_A rs) (fs_A ai) (fs_A ae) (fs_A ar) rc dc pc (fs_A hp) (fs_A ky) se ch cp rp rb := by
  intro d
  induction d with
  | zero =>
    intro i ord h hp se ch cp hi h1 h2 h3 h4 h5 H
    have hiM : i = M := by omega
    refine br_t (nI_le (by omega) (by omega)) (K i ord h hp se ch cp ⟨by omega, h1, h2, fun x hx => ?_⟩ h4 h5 H)
    by_cases z : ∃ j, j < i ∧ ord j = x
    · exact Or.inl z
    · exact Or.inr ⟨hiM, h3 x hx (fun j hj w => z ⟨j, hj, w⟩)⟩
  | succ d ih =>
    intro i ord h hp se ch cp hi h1 h2 h3 h4 h5 H
    have h16 := H.1
    refine br_f (nI_ge (by omega) (by omega)) ?_
    refine pk_le h 0 (fun z => ?_) (fun z => ?_)
    · refine K i ord h hp se ch cp ⟨by omega, h1, h2, fun x hx => Or.inl ?_⟩ h4 h5 H
      refine Classical.byContradiction (fun w => ?_)
      obtain ⟨k, hk, _⟩ := H.2.1.2.1 (fs_K e p jn dn x) ⟨x, hx, fun j hj v => w ⟨j, hj, v⟩, rfl⟩
      omega
    · obtain ⟨h', rfl⟩ : ∃ h', h = h' + 1 := ⟨h - 1, by omega⟩
      obtain ⟨x, hx, hnx, hw⟩ := H.2.1.1 0 (by omega)
      have vx := fs_V_x V (fs_el_st hx)
      have kl := fs_K_lt V (fs_el_st hx)
      have e1 : fs_A hp 0 &&& 15 = nI x := by
        rw [fs_Ae, fs_15 (by omega), hw, fs_K_mod vx.2.1]
      have hmin : ∀ y, fs_el t st e p jn dn y = true → (∀ j, j < i → ord j ≠ y) → y ≠ x → fs_K e p jn dn x < fs_K e p jn dn y := by
        intro y hy hny hne
        obtain ⟨k, hk, ek⟩ := H.2.1.2.1 (fs_K e p jn dn y) ⟨y, hy, hny, rfl⟩
        have a := fs_min H.2.2.2.2 k k (Nat.le_refl _) hk
        rw [ek, hw] at a
        have : fs_K e p jn dn x ≠ fs_K e p jn dn y := fun v => hne (fs_K_inj V (fs_el_st hy) (fs_el_st hx) v.symm)
        omega
      refine And.intro (fs_in4 (by omega)) (nm_r (e' := upd ch i (nI x)) (by rw [e1, nI_clamp (by omega)]) (And.intro (fs_in4 (by omega)) (nm_r (e' := upd cp i (-1)) (by rw [nI_clamp (by omega)]) (nm_r (nI_1 i) ?_))))
      refine fx_removeAt (a := 0) H (by omega) (fun hp' se' H' => nm_r (nI_1 i) ?_)
      have o1 : ∀ j, j < i → fs_u ord i x j = ord j := fun j hj => fs_un (by omega)
      refine ih (i + 1) (fs_u ord i x) h' hp' se' (upd ch i (nI x)) (upd cp i (-1)) (by omega) ?_ ?_ ?_ ?_ ?_ ?_
      · intro j hj
        by_cases w : j = i
        · rw [w, fs_us]; exact hx
        · rw [o1 j (by omega)]; exact h1 j (by omega)
      · intro j k hjk hk
        rw [o1 j (by omega)]
        by_cases w : k = i
        · rw [w, fs_us]; exact h3 x hx hnx j (by omega)
        · rw [o1 k (by omega)]; exact h2 j k hjk (by omega)
      · intro y hy hny j hj
        have hyx : y ≠ x := fun v => hny i (by omega) (by rw [fs_us, v])
        have hny' : ∀ j, j < i → ord j ≠ y := fun j hj v => hny j (by omega) (by rw [o1 j hj]; exact v)
        by_cases w : j = i
        · rw [w, fs_us]; exact hmin y hy hny' hyx
        · rw [o1 j (by omega)]; exact h3 y hy hny' j (by omega)
      · intro j hj
        by_cases w : j = i
        · rw [w, pk_us, fs_us]
        · rw [pk_un w, o1 j (by omega)]; exact h4 j (by omega)
      · intro j hj
        by_cases w : j = i
        · rw [w, pk_us]
        · rw [pk_un w]; exact h5 j (by omega)
      · refine fs_H_congr (fun z => ?_) H'
        constructor
        · rintro ⟨⟨y, hy, hny, e2⟩, hne⟩
          refine ⟨y, hy, fun j hj v => ?_, e2⟩
          by_cases w : j = i
          · rw [w, fs_us] at v
            rw [hw, v] at hne
            exact hne e2
          · rw [o1 j (by omega)] at v
            exact hny j (by omega) v
        · rintro ⟨y, hy, hny, e2⟩
          refine ⟨⟨y, hy, fun j hj v => hny j (by omega) (by rw [o1 j hj]; exact v), e2⟩, fun v => ?_⟩
          rw [e2, hw] at v
          have := fs_K_inj V (fs_el_st hy) (fs_el_st hx) v
          exact hny i (by omega) (by rw [fs_us, this])
theorem fx_choose {post : SX → Prop} (V : fs_V N t st e p jn dn) (hM : M ≤ 4) (H : fs_H h hp se (fun z => ∃ x, fs_el t st e p jn dn x = true ∧ z = fs_K e p jn dn x)) (K : ∀ (c : Nat) (ord : Nat → Nat) (h : Nat) (hp : Nat → Nat) (se ch cp : Nat → Int32), fs_CS M N t st e p jn dn c ord → (∀ j, j < c → ch j = nI (ord j)) → (∀ j, j < c → cp j = -1) → fs_H h hp se (fs_Ci t st e p jn dn ord c) → post ((nI M), (nI N), cap, (nI t), ld, ov, ms, mg, (nI h), (nI c), (0), (fs_A st), (fs_A e), (fs_A p), (fs_A sh), (fs_A jn), (fs_A dn), ls, lp, (fs_A dp), (fs_A sw), (fs_A sr), (fs_A rl), (fs_A ed), (fs_A rs), (fs_A ai), (fs_A ae), (fs_A ar), rc, dc, pc, (fs_A hp), (fs_A ky), se, ch, cp, rp, rb)) : wpX_choose post ((nI M), (nI N), cap, (nI t), ld, ov, ms, mg, (nI h), cc, gm, (fs_A st), (fs_A e), (fs_A p), (fs_A sh), (fs_A jn), (fs_A dn), ls, lp, (fs_A dp), (fs_A sw), (fs_A sr), (fs_A rl), (fs_A ed), (fs_A rs), (fs_A ai), (fs_A ae), (fs_A ar), rc, dc, pc, (fs_A hp), (fs_A ky), se, ch, cp, rp, rb) :=
  ⟨M + 1, fx_choose12 V hM K M 0 (fun _ => 0) h hp se ch cp (by omega) lt_0 (fun j k hj hk => by omega) (fun x hx hn j hj => by omega) lt_0 lt_0 (fs_H_congr (fun z => ⟨fun ⟨x, a, b⟩ => ⟨x, a, lt_0, b⟩, fun ⟨x, a, _, b⟩ => ⟨x, a, b⟩⟩) H)⟩
theorem fs_ex_s {c : Nat} {P : Nat → Bool} : fs_ex (c + 1) P = (fs_ex c P || P c) := by
  rw [Bool.eq_iff_iff, Bool.or_eq_true, fs_ex_iff, fs_ex_iff]
  constructor
  · rintro ⟨i, hi, h⟩
    by_cases z : i = c
    · rw [z] at h; exact Or.inr h
    · exact Or.inl ⟨i, by omega, h⟩
  · rintro (⟨i, hi, h⟩ | h)
    · exact ⟨i, by omega, h⟩
    · exact ⟨c, by omega, h⟩
theorem fx_keep2 {post : SX → Prop} (AH : fs_AH M c ord lq kb) (ht : t ≤ 600) (hch : ∀ j, j < c → ch j = nI (ord j)) (hlp : ∀ i, i < c → lp (ord i) = fs_pI (lq (ord i))) (hls : ∀ i, i < c → lq (ord i) ≠ 0 → (ls (ord i) = nI t - 1 ↔ kb (ord i) = true)) (K : ∀ gm, (∀ q, q < 32 → bt gm q = fs_G M c ord lq kb 0 q) → post ((nI M), (nI N), cap, (nI t), ld, ov, ms, mg, (nI h), (nI c), gm, (fs_A st), (fs_A e), (fs_A p), (fs_A sh), (fs_A jn), (fs_A dn), ls, lp, (fs_A dp), (fs_A sw), (fs_A sr), (fs_A rl), (fs_A ed), (fs_A rs), (fs_A ai), (fs_A ae), (fs_A ar), rc, dc, pc, (fs_A hp), (fs_A ky), se, ch, (fs_RA 0 c (fun j => j) (fun j => nI (fs_pr M c ord lq kb j)) (fun j => kb (ord j) && decide (j < c)) cp), rp, rb)) : ∀ d i gm, i + d = c → (∀ q, q < 32 → bt gm q = fs_ex i (fun j => kb (ord j) && decide (lq (ord j) = q + 1))) → wX_keepProcessors_2 post (nI M) (nI N) cap (nI t) ld ov ms mg (nI h) (nI c) (d + 1) (nI i) gm (fs_A st) (fs_A e) (fs_A p) (fs_A sh) (fs_A jn) (fs_A dn) ls lp (fs_A dp) (fs_A sw) (fs_A sr) (fs_A rl) (fs_A ed) (fs_A rs) (fs_A ai) (fs_A ae) (fs_A ar) rc dc pc (fs_A hp) (fs_A ky) se ch (fs_RA 0 c (fun j => j) (fun j => nI (fs_pr M c ord lq kb j)) (fun j => kb (ord j) && decide (j < i)) cp) rp rb := by
  have hM := AH.2.1
  have hcM := AH.2.2.1
  intro d
  induction d with
  | zero =>
    intro i gm hi hg
    have : i = c := by omega
    subst this
    exact br_t (nI_le (Nat.le_refl _) (by omega)) (K gm (fun q hq => by rw [hg q hq, fs_G0]))
  | succ d ih =>
    intro i gm hi hg
    have z : i < c := by omega
    have hoi := AH.2.2.2.1 i z
    have hl := AH.2.2.2.2.2.1 i z
    have hkl := AH.2.2.2.2.2.2.1 i z
    have hl1 := hlp i z
    have hl2 := hls i z
    have go : ¬ kb (ord i) = true → wX_keepProcessors_2 post (nI M) (nI N) cap (nI t) ld ov ms mg (nI h) (nI c) (d + 1) (nI (i + 1)) gm (fs_A st) (fs_A e) (fs_A p) (fs_A sh) (fs_A jn) (fs_A dn) ls lp (fs_A dp) (fs_A sw) (fs_A sr) (fs_A rl) (fs_A ed) (fs_A rs) (fs_A ai) (fs_A ae) (fs_A ar) rc dc pc (fs_A hp) (fs_A ky) se ch (fs_RA 0 c (fun j => j) (fun j => nI (fs_pr M c ord lq kb j)) (fun j => kb (ord j) && decide (j < i)) cp) rp rb := by
      intro hk
      have ih' := ih (i + 1) gm (by omega) (fun q hq => by
        rw [hg q hq, fs_ex_s, eq_false_of_ne_true hk, Bool.false_and, Bool.or_false])
      rw [fs_RA_c (P := fun j => kb (ord j) && decide (j < i + 1)) (P' := fun j => kb (ord j) && decide (j < i)) (fun j hj => by
        try dsimp only
        by_cases x : j = i
        · rw [x, eq_false_of_ne_true hk]; rfl
        · congr 1
          rw [Bool.eq_iff_iff, decide_eq_true_eq, decide_eq_true_eq]
          omega)] at ih'
      exact ih'
    refine br_f (nI_ge (by omega) (by omega)) (And.intro (fs_in4 (by omega)) (nm_r (e' := nI (ord i)) (by rw [nI_clamp (by omega), hch i z]) (And.intro (fs_in hoi) (nm_r (e' := fs_pI (lq (ord i))) (by rw [nI_clamp (by omega), hl1]) ?_))))
    refine br_c (fun w => nm_r (nI_1 i) ?_) (fun w => And.intro (fs_in hoi) ?_)
    · rw [fs_pI_neg (by omega)] at w
      exact go (fun v => hkl v w)
    · rw [fs_pI_neg (by omega)] at w
      obtain ⟨q, hq⟩ : ∃ q, lq (ord i) = q + 1 := ⟨lq (ord i) - 1, by omega⟩
      rw [hq, fs_pI1, nI_clamp (show ord i < 2 ^ 31 by omega)]
      refine br_c (fun v => And.intro (fs_in4 (by omega)) (nm_r (e' := fs_RA 0 c (fun j => j) (fun j => nI (fs_pr M c ord lq kb j)) (fun j => kb (ord j) && decide (j < i + 1)) cp) ?_ (nm_r (e' := gm ||| fs_1 q) rfl (nm_r (nI_1 i) (ih (i + 1) _ (by omega) (fun r hr => ?_)))))) (fun v => nm_r (nI_1 i) (go (fun u => v ((hl2 w).mpr u))))
      · have hk := (hl2 w).mp v
        have u := fs_RA_upd0 (φ := fun j => j) (val := fun j => nI (fs_pr M c ord lq kb j)) (f := cp) (P := fun j => kb (ord j) && decide (j < i)) (P' := fun j => kb (ord j) && decide (j < i + 1)) (fun _ _ _ _ w => w) z (fun j hj => by
          try dsimp only
          by_cases x : j = i
          · rw [x, hk, decide_eq_true rfl, Bool.or_true, decide_eq_true (by omega)]; rfl
          · rw [decide_eq_false x, Bool.or_false]
            congr 1
            rw [Bool.eq_iff_iff, decide_eq_true_eq, decide_eq_true_eq]
            omega)
        try dsimp only at u
        rw [← u, fs_pr_k hk, hq, nI_clamp (by omega)]
        rfl
      · have hk := (hl2 w).mp v
        rw [b_or, hg r hr, fs_ex_s, hk, Bool.true_and, hq, fs_1b (by omega) hr]
        congr 1
        rw [Bool.eq_iff_iff, decide_eq_true_eq, decide_eq_true_eq]
        omega
theorem fx_keep {post : SX → Prop} (AH : fs_AH M c ord lq kb) (ht : t ≤ 600) (hch : ∀ j, j < c → ch j = nI (ord j)) (hlp : ∀ i, i < c → lp (ord i) = fs_pI (lq (ord i))) (hls : ∀ i, i < c → lq (ord i) ≠ 0 → (ls (ord i) = nI t - 1 ↔ kb (ord i) = true)) (K : ∀ gm, (∀ q, q < 32 → bt gm q = fs_G M c ord lq kb 0 q) → post ((nI M), (nI N), cap, (nI t), ld, ov, ms, mg, (nI h), (nI c), gm, (fs_A st), (fs_A e), (fs_A p), (fs_A sh), (fs_A jn), (fs_A dn), ls, lp, (fs_A dp), (fs_A sw), (fs_A sr), (fs_A rl), (fs_A ed), (fs_A rs), (fs_A ai), (fs_A ae), (fs_A ar), rc, dc, pc, (fs_A hp), (fs_A ky), se, ch, (fs_RA 0 c (fun j => j) (fun j => nI (fs_pr M c ord lq kb j)) (fun j => kb (ord j) && decide (j < c)) cp), rp, rb)) : wpX_keepProcessors post ((nI M), (nI N), cap, (nI t), ld, ov, ms, mg, (nI h), (nI c), (0), (fs_A st), (fs_A e), (fs_A p), (fs_A sh), (fs_A jn), (fs_A dn), ls, lp, (fs_A dp), (fs_A sw), (fs_A sr), (fs_A rl), (fs_A ed), (fs_A rs), (fs_A ai), (fs_A ae), (fs_A ar), rc, dc, pc, (fs_A hp), (fs_A ky), se, ch, cp, rp, rb) := by
  refine ⟨c + 1, ?_⟩
  have := fx_keep2 AH ht hch hlp hls K c 0 0 (by omega) (fun q _ => by
    rw [b_0]
    exact (fs_ex_not.mpr (fun i hi => by omega)).symm)
  rw [fs_RA_0 (fun j _ => by rw [decide_eq_false (show ¬ j < 0 by omega), Bool.and_false])] at this
  exact this
theorem fx_pick19 {post : Int32 → Prop} {G : Nat → Bool} (hM : M ≤ 4) (hG : ∀ q, q < M → bt gm q = G q) : ∀ d q, q + d = M → (∃ r, q ≤ r ∧ r < M ∧ G r = false) → post (nI (fs_lo G (M - 1 - q) q)) → wX_pickProcessor_19 post (nI M) (nI N) cap (nI t) ld ov ms mg (nI h) cc gm (fs_A st) (fs_A e) (fs_A p) (fs_A sh) (fs_A jn) (fs_A dn) ls lp (fs_A dp) (fs_A sw) (fs_A sr) (fs_A rl) (fs_A ed) (fs_A rs) (fs_A ai) (fs_A ae) (fs_A ar) rc dc pc (fs_A hp) (fs_A ky) se ch cp rp rb (d + 1) (nI q) := by
  intro d
  induction d with
  | zero =>
    rintro q hq ⟨r, a, b, _⟩ _
    omega
  | succ d ih =>
    rintro q hq ⟨r, a, b, hr⟩ K
    refine br_f (nI_ge (by omega) (by omega)) ?_
    refine br_c (fun w => ?_) (fun w => nm_r (nI_1 q) (ih (q + 1) (by omega) ?_ ?_))
    · have w' : G q = false := by rw [← hG q (by omega)]; exact (fs_t0 (by omega)).mp w
      have : fs_lo G (M - 1 - q) q = q := by
        cases h : M - 1 - q with
        | zero => rfl
        | succ n => exact if_neg (by rw [w']; decide)
      rw [this] at K
      exact K
    · have w' : ¬ G q = false := by
        intro v
        rw [← hG q (by omega)] at v
        exact w ((fs_t0 (by omega)).mpr v)
      refine ⟨r, ?_, b, hr⟩
      have : r ≠ q := fun v => by rw [v] at hr; exact w' hr
      omega
    · have w' : G q = true := by
        cases v : G q
        · rw [← hG q (by omega)] at v
          exact absurd ((fs_t0 (by omega)).mpr v) w
        · rfl
      have hne : r ≠ q := fun v => by rw [v, w'] at hr; cases hr
      have : fs_lo G (M - 1 - q) q = fs_lo G (M - 1 - (q + 1)) (q + 1) := by
        rw [show M - 1 - q = (M - 1 - (q + 1)) + 1 by omega]
        exact if_pos w'
      rw [this] at K
      exact K
theorem fx_pick {post : Int32 → Prop} {G : Nat → Bool} {l : Nat} (hM : M ≤ 4) (hl : l ≤ M) (hG : ∀ q, q < M → bt gm q = G q) (hf : ∃ q, q < M ∧ G q = false) (K : post (nI (fs_pk M G l))) : wpX_pickProcessor post ((nI M), (nI N), cap, (nI t), ld, ov, ms, mg, (nI h), cc, gm, (fs_A st), (fs_A e), (fs_A p), (fs_A sh), (fs_A jn), (fs_A dn), ls, lp, (fs_A dp), (fs_A sw), (fs_A sr), (fs_A rl), (fs_A ed), (fs_A rs), (fs_A ai), (fs_A ae), (fs_A ar), rc, dc, pc, (fs_A hp), (fs_A ky), se, ch, cp, rp, rb) (fs_pI l) := by
  obtain ⟨r, hr, hr2⟩ := hf
  have go : post (nI (fs_lo G (M - 1) 0)) → ∃ n, wX_pickProcessor_19 post (nI M) (nI N) cap (nI t) ld ov ms mg (nI h) cc gm (fs_A st) (fs_A e) (fs_A p) (fs_A sh) (fs_A jn) (fs_A dn) ls lp (fs_A dp) (fs_A sw) (fs_A sr) (fs_A rl) (fs_A ed) (fs_A rs) (fs_A ai) (fs_A ae) (fs_A ar) rc dc pc (fs_A hp) (fs_A ky) se ch cp rp rb n 0 := fun k => ⟨M + 1, fx_pick19 hM hG M 0 (by omega) ⟨r, Nat.zero_le _, hr, hr2⟩ k⟩
  unfold fs_pk at K
  refine br_c (fun w => go ?_) (fun w => ?_)
  · rw [fs_pI_neg (by omega)] at w
    rw [if_neg (fun v => v.1 w)] at K
    exact K
  · rw [fs_pI_neg (by omega)] at w
    obtain ⟨q, rfl⟩ : ∃ q, l = q + 1 := ⟨l - 1, by omega⟩
    rw [fs_pI1]
    refine br_c (fun v => ?_) (fun v => go ?_)
    · have v' : G q = false := by rw [← hG q (by omega)]; exact (fs_t0 (by omega)).mp v
      rw [if_pos ⟨w, v'⟩] at K
      exact K
    · rw [if_neg (fun u => ?_)] at K
      · exact K
      · have u' : G q = false := u.2
        rw [← hG q (by omega)] at u'
        exact v ((fs_t0 (by omega)).mpr u')
theorem fx_assign2 {post : SX → Prop} (AH : fs_AH M c ord lq kb) (hch : ∀ j, j < c → ch j = nI (ord j)) (hcp : ∀ j, j < c → cp j = -1) (hlp : ∀ i, i < c → lp (ord i) = fs_pI (lq (ord i))) (K : ∀ gm cp, (∀ j, j < c → cp j = nI (fs_pr M c ord lq kb j)) → post ((nI M), (nI N), cap, (nI t), ld, ov, ms, mg, (nI h), (nI c), gm, (fs_A st), (fs_A e), (fs_A p), (fs_A sh), (fs_A jn), (fs_A dn), ls, lp, (fs_A dp), (fs_A sw), (fs_A sr), (fs_A rl), (fs_A ed), (fs_A rs), (fs_A ai), (fs_A ae), (fs_A ar), rc, dc, pc, (fs_A hp), (fs_A ky), se, ch, cp, rp, rb)) : ∀ d i gm, i + d = c → (∀ q, q < 32 → bt gm q = fs_G M c ord lq kb i q) → wX_assignOthers_2 post (nI M) (nI N) cap (nI t) ld ov ms mg (nI h) (nI c) (d + 1) (nI i) gm (fs_A st) (fs_A e) (fs_A p) (fs_A sh) (fs_A jn) (fs_A dn) ls lp (fs_A dp) (fs_A sw) (fs_A sr) (fs_A rl) (fs_A ed) (fs_A rs) (fs_A ai) (fs_A ae) (fs_A ar) rc dc pc (fs_A hp) (fs_A ky) se ch (fs_RA 0 c (fun j => j) (fun j => nI (fs_pr M c ord lq kb j)) (fun j => kb (ord j) || decide (j < i)) cp) rp rb := by
  have hM := AH.2.1
  have hcM := AH.2.2.1
  intro d
  induction d with
  | zero =>
    intro i gm hi hg
    have : i = c := by omega
    subst this
    refine br_t (nI_le (Nat.le_refl _) (by omega)) (K gm _ (fun j hj => ?_))
    have := fs_RA_i0 (φ := fun j => j) (val := fun j => nI (fs_pr M i ord lq kb j)) (P := fun j => kb (ord j) || decide (j < i)) (f := cp) (fun _ _ _ _ w => w) hj
    try dsimp only at this
    rw [this, decide_eq_true hj, Bool.or_true, if_pos rfl]
  | succ d ih =>
    intro i gm hi hg
    have z : i < c := by omega
    have hoi := AH.2.2.2.1 i z
    have hl := AH.2.2.2.2.2.1 i z
    have hl1 := hlp i z
    have r0 := fs_RA_i0 (φ := fun j => j) (val := fun j => nI (fs_pr M c ord lq kb j)) (P := fun j => kb (ord j) || decide (j < i)) (f := cp) (fun _ _ _ _ w => w) z
    try dsimp only at r0
    rw [decide_eq_false (Nat.lt_irrefl i), Bool.or_false] at r0
    have hpl := fs_pr_lt AH z
    refine br_f (nI_ge (by omega) (by omega)) (And.intro (fs_in4 (by omega)) ?_)
    by_cases hk : kb (ord i) = true
    · rw [if_pos hk] at r0
      refine br_t (by rw [nI_clamp (by omega), r0]; exact nI_pos' (by omega)) (nm_r (nI_1 i) ?_)
      have ih' := ih (i + 1) gm (by omega) (fun q hq => by rw [hg q hq, fs_G1, hk]; simp)
      rw [fs_RA_c (P := fun j => kb (ord j) || decide (j < i + 1)) (P' := fun j => kb (ord j) || decide (j < i)) (fun j hj => by
        try dsimp only
        by_cases x : j = i
        · rw [x, hk]; rfl
        · congr 1
          rw [Bool.eq_iff_iff, decide_eq_true_eq, decide_eq_true_eq]
          omega)] at ih'
      exact ih'
    · rw [if_neg hk, hcp i z] at r0
      refine br_f (by rw [nI_clamp (by omega), r0]; exact fs_m1_nn) (And.intro (fs_in4 (by omega)) ?_)
      have e1 : ch (nI i).toNatClampNeg = nI (ord i) := by rw [nI_clamp (by omega), hch i z]
      have e2 : lp (nI (ord i)).toNatClampNeg = fs_pI (lq (ord i)) := by rw [nI_clamp (by omega), hl1]
      rw [e1, e2]
      refine And.intro (fs_in hoi) (fx_pick (G := fs_G M c ord lq kb i) hM hl (fun q hq => hg q (by omega)) (fs_freeq AH z hk) ?_)
      rw [← fs_pr_n hk]
      refine And.intro (fs_in4 (by omega)) (nm_r (e' := fs_RA 0 c (fun j => j) (fun j => nI (fs_pr M c ord lq kb j)) (fun j => kb (ord j) || decide (j < i + 1)) cp) ?_ (nm_r (e' := gm ||| fs_1 (fs_pr M c ord lq kb i)) rfl (nm_r (nI_1 i) (ih (i + 1) _ (by omega) (fun r hr => ?_)))))
      · have u := fs_RA_upd0 (φ := fun j => j) (val := fun j => nI (fs_pr M c ord lq kb j)) (f := cp) (P := fun j => kb (ord j) || decide (j < i)) (P' := fun j => kb (ord j) || decide (j < i + 1)) (fun _ _ _ _ w => w) z (fun j hj => by
          try dsimp only
          rw [Bool.or_assoc]
          congr 1
          rw [Bool.eq_iff_iff, Bool.or_eq_true, decide_eq_true_eq, decide_eq_true_eq, decide_eq_true_eq]
          omega)
        try dsimp only at u
        rw [← u, nI_clamp (by omega)]
      · rw [b_or, hg r hr, fs_1b (by omega) hr, fs_G1, ← fs_pr_n hk, eq_false_of_ne_true hk]
        rfl
theorem fx_assign {post : SX → Prop} (AH : fs_AH M c ord lq kb) (hch : ∀ j, j < c → ch j = nI (ord j)) (hcp : ∀ j, j < c → cp j = -1) (hlp : ∀ i, i < c → lp (ord i) = fs_pI (lq (ord i))) (hg : ∀ q, q < 32 → bt gm q = fs_G M c ord lq kb 0 q) (K : ∀ gm cp, (∀ j, j < c → cp j = nI (fs_pr M c ord lq kb j)) → post ((nI M), (nI N), cap, (nI t), ld, ov, ms, mg, (nI h), (nI c), gm, (fs_A st), (fs_A e), (fs_A p), (fs_A sh), (fs_A jn), (fs_A dn), ls, lp, (fs_A dp), (fs_A sw), (fs_A sr), (fs_A rl), (fs_A ed), (fs_A rs), (fs_A ai), (fs_A ae), (fs_A ar), rc, dc, pc, (fs_A hp), (fs_A ky), se, ch, cp, rp, rb)) : wpX_assignOthers post ((nI M), (nI N), cap, (nI t), ld, ov, ms, mg, (nI h), (nI c), gm, (fs_A st), (fs_A e), (fs_A p), (fs_A sh), (fs_A jn), (fs_A dn), ls, lp, (fs_A dp), (fs_A sw), (fs_A sr), (fs_A rl), (fs_A ed), (fs_A rs), (fs_A ai), (fs_A ae), (fs_A ar), rc, dc, pc, (fs_A hp), (fs_A ky), se, ch, (fs_RA 0 c (fun j => j) (fun j => nI (fs_pr M c ord lq kb j)) (fun j => kb (ord j) && decide (j < c)) cp), rp, rb) := by
  refine ⟨c + 1, ?_⟩
  have := fx_assign2 AH hch hcp hlp K c 0 gm (by omega) hg
  rw [fs_RA_c (P := fun j => kb (ord j) || decide (j < 0)) (P' := fun j => kb (ord j) && decide (j < c)) (fun j hj => by
    try dsimp only
    rw [decide_eq_true hj, decide_eq_false (show ¬ j < 0 by omega), Bool.or_false, Bool.and_true])] at this
  exact this
theorem fx_clear12 {post : SX → Prop} {b : Nat} (hb : b + 4 ≤ 256) (K : post ((nI M), (nI N), cap, (nI t), ld, ov, ms, mg, (nI h), cc, gm, (fs_A st), (fs_A e), (fs_A p), (fs_A sh), (fs_A jn), (fs_A dn), ls, lp, (fs_A dp), (fs_A sw), (fs_A sr), (fs_A rl), (fs_A ed), (fs_A rs), (fs_A ai), (fs_A ae), (fs_A ar), rc, dc, pc, (fs_A hp), (fs_A ky), se, ch, cp, (fs_fill rp b 4 (-1)), (fs_fill rb b 4 0))) : ∀ d j, j + d = 4 → wX_clearMemory_12 post (nI b) (nI M) (nI N) cap (nI t) ld ov ms mg (nI h) cc gm (d + 1) (nI j) (fs_A st) (fs_A e) (fs_A p) (fs_A sh) (fs_A jn) (fs_A dn) ls lp (fs_A dp) (fs_A sw) (fs_A sr) (fs_A rl) (fs_A ed) (fs_A rs) (fs_A ai) (fs_A ae) (fs_A ar) rc dc pc (fs_A hp) (fs_A ky) se ch cp (fs_fill rp b j (-1)) (fs_fill rb b j 0) := by
  intro d
  induction d with
  | zero =>
    intro j hj
    have : j = 4 := by omega
    subst this
    exact br_t (nI_le (a := 4) (Nat.le_refl _) (by decide)) K
  | succ d ih =>
    intro j hj
    have ih' := ih (j + 1) (by omega)
    have e1 : nI b + nI j = nI (b + j) := nI_add b j
    refine br_f (nI_ge (b := 4) (by omega) (by decide)) (And.intro (by rw [e1]; exact vp_in_nI (by omega) (by decide)) (nm_r (e' := fs_fill rp b (j + 1) (-1)) ?_ (And.intro (by rw [e1]; exact vp_in_nI (by omega) (by decide)) (nm_r (e' := fs_fill rb b (j + 1) 0) ?_ (nm_r (nI_1 j) ih')))))
    · rw [e1, nI_clamp (by omega), fs_fill1]
    · rw [e1, nI_clamp (by omega), fs_fill1]
theorem fx_clear {post : SX → Prop} (ht : t ≤ 600) (K : post ((nI M), (nI N), cap, (nI t), ld, ov, ms, mg, (nI h), cc, gm, (fs_A st), (fs_A e), (fs_A p), (fs_A sh), (fs_A jn), (fs_A dn), ls, lp, (fs_A dp), (fs_A sw), (fs_A sr), (fs_A rl), (fs_A ed), (fs_A rs), (fs_A ai), (fs_A ae), (fs_A ar), rc, dc, pc, (fs_A hp), (fs_A ky), se, ch, cp, (fs_fill rp (t % 64 * 4) 4 (-1)), (fs_fill rb (t % 64 * 4) 4 0))) : wpX_clearMemory post ((nI M), (nI N), cap, (nI t), ld, ov, ms, mg, (nI h), cc, gm, (fs_A st), (fs_A e), (fs_A p), (fs_A sh), (fs_A jn), (fs_A dn), ls, lp, (fs_A dp), (fs_A sw), (fs_A sr), (fs_A rl), (fs_A ed), (fs_A rs), (fs_A ai), (fs_A ae), (fs_A ar), rc, dc, pc, (fs_A hp), (fs_A ky), se, ch, cp, rp, rb) := by
  refine nm_r (e' := nI (t % 64 * 4)) ?_ ⟨5, ?_⟩
  · rw [fs_63 (by omega)]
    exact pk_mul _ 4
  · have := fx_clear12 (b := t % 64 * 4) (by omega) K 4 0 rfl
    rw [fs_fill0, fs_fill0] at this
    exact this
end
end
section
/-! X: execute -/
def fs_W (st e p jn dn sw sr rl ed rs ky : Nat → Nat) : Prop := ∀ x, st x = 1 → sw x = p x / e x ∧ sr x = p x % e x ∧ rl x = jn x + fs_r (p x) (e x) (dn x) ∧ ed x = jn x + fs_r (p x) (e x) (dn x + 1) ∧ rs x = fs_m (p x) (e x) (dn x + 1) ∧ ky x = fs_K e p jn dn x
def fs_Rc (t : Nat) (st e p jn dn : Nat → Nat) (rc : Nat → Int32) : Prop := ∀ s i, s ≤ 600 → i < 32 → bt (rc s) i = decide (st i = 1 ∧ jn i + fs_r (p i) (e i) (dn i) = s ∧ t < s)
def fs_Ce (t : Nat) (st e p jn dn ord : Nat → Nat) (c i : Nat) (z : Nat) : Prop := ∃ x, fs_el t st e p jn dn x = true ∧ (∀ j, i ≤ j → j < c → ord j ≠ x) ∧ z = fs_K e p jn dn x
theorem fs_el_un {t : Nat} {st e p jn dn : Nat → Nat} {x y v : Nat} (h : y ≠ x) : fs_el t st e p jn (fs_u dn x v) y = fs_el t st e p jn dn y := by
  unfold fs_el
  rw [fs_un h]
theorem fs_K_un {e p jn dn : Nat → Nat} {x y v : Nat} (h : y ≠ x) : fs_K e p jn (fs_u dn x v) y = fs_K e p jn dn y := by
  unfold fs_K
  rw [fs_un h]
theorem fs_K_us {e p jn dn : Nat → Nat} {x v : Nat} : fs_K e p jn (fs_u dn x v) x = fs_k (p x) (e x) (jn x) v x := by
  unfold fs_K
  rw [fs_us]
theorem fs_W_s {st e p jn dn sw sr rl ed rs ky : Nat → Nat} {x : Nat} (Wf : fs_W st e p jn dn sw sr rl ed rs ky) : fs_W st e p jn (fs_u dn x (dn x + 1)) sw sr (fs_u rl x (jn x + fs_r (p x) (e x) (dn x + 1))) (fs_u ed x (jn x + fs_r (p x) (e x) (dn x + 1 + 1))) (fs_u rs x (fs_m (p x) (e x) (dn x + 1 + 1))) (fs_u ky x (fs_k (p x) (e x) (jn x) (dn x + 1) x)) := by
  intro y hy
  obtain ⟨a, b, c, d, f, g⟩ := Wf y hy
  by_cases z : y = x
  · subst z
    rw [fs_us, fs_us, fs_us, fs_us, fs_us, fs_K_us]
    exact ⟨a, b, rfl, rfl, rfl, rfl⟩
  · rw [fs_un z, fs_un z, fs_un z, fs_un z, fs_un z, fs_K_un z]
    exact ⟨a, b, c, d, f, g⟩
theorem fs_Rc_push {t : Nat} {st e p jn dn : Nat → Nat} {rc : Nat → Int32} {x : Nat} (R : fs_Rc t st e p jn dn rc) (h1 : jn x + fs_r (p x) (e x) (dn x) ≤ t) (h2 : jn x + fs_r (p x) (e x) (dn x + 1) ≤ t) : fs_Rc t st e p jn (fs_u dn x (dn x + 1)) rc := by
  intro s i hs hi
  rw [R s i hs hi]
  by_cases z : i = x
  · subst z
    rw [fs_us, decide_eq_false (by omega), decide_eq_false (by omega)]
  · rw [fs_un z]
theorem fs_Rc_cal {t : Nat} {st e p jn dn : Nat → Nat} {rc : Nat → Int32} {x : Nat} (hx : x < 32) (sx : st x = 1) (R : fs_Rc t st e p jn dn rc) (h1 : jn x + fs_r (p x) (e x) (dn x) ≤ t) (h2 : t < jn x + fs_r (p x) (e x) (dn x + 1)) : fs_Rc t st e p jn (fs_u dn x (dn x + 1)) (fs_set rc (jn x + fs_r (p x) (e x) (dn x + 1)) x) := by
  intro s i hs hi
  rw [fs_set_b hx hi hs, R s i hs hi]
  by_cases z : i = x
  · subst z
    rw [fs_us, decide_eq_false (show ¬ (st i = 1 ∧ jn i + fs_r (p i) (e i) (dn i) = s ∧ t < s) by omega), decide_eq_true (show i = i from rfl), Bool.and_true, Bool.false_or]
    rw [Bool.eq_iff_iff, decide_eq_true_eq, decide_eq_true_eq]
    omega
  · rw [fs_un z, decide_eq_false z, Bool.and_false, Bool.or_false]
section
variable {M N t h : Nat} {cap ld ov ms mg cc gm : Int32} {st e p sh jn dn dp sw sr rl ed rs ai ae ar hp ky : Nat → Nat} {ls lp rc dc pc se ch cp rp rb : Nat → Int32} {c : Nat} {ord lq pr : Nat → Nat}
theorem fx_exec65 {post : SX → Prop} {J : Int32 → Int32 → Int32 → Int32 → Int32 → Int32 → Int32 → Int32 → Int32 → Int32 → Int32 → Int32 → (Nat → Int32) → (Nat → Int32) → (Nat → Int32) → (Nat → Int32) → (Nat → Int32) → (Nat → Int32) → (Nat → Int32) → (Nat → Int32) → (Nat → Int32) → (Nat → Int32) → (Nat → Int32) → (Nat → Int32) → (Nat → Int32) → (Nat → Int32) → (Nat → Int32) → (Nat → Int32) → (Nat → Int32) → (Nat → Int32) → (Nat → Int32) → (Nat → Int32) → (Nat → Int32) → (Nat → Int32) → (Nat → Int32) → (Nat → Int32) → (Nat → Int32) → (Nat → Int32) → (Nat → Int32) → Prop} {C : Nat → Prop} {b i x q : Nat} (hx : x < 16) (sx : st x = 1) (h1 : 1 ≤ e x) (he : e x ≤ p x) (hp16 : p x ≤ 16) (ht : t ≤ 600) (hr : jn x + fs_r (p x) (e x) (dn x) ≤ t) (hb : b + q < 256) (Wf : fs_W st e p jn dn sw sr rl ed rs ky) (R : fs_Rc t st e p jn dn rc) (H : fs_H h hp se C) (hC : ∀ z, C z → z % 16 ≠ x)
    (K : ∀ (h : Nat) (hp rl ed rs ky : Nat → Nat) (se rc : Nat → Int32), fs_W st e p jn (fs_u dn x (dn x + 1)) sw sr rl ed rs ky → fs_Rc t st e p jn (fs_u dn x (dn x + 1)) rc → fs_H h hp se (fun z => C z ∨ (jn x + fs_r (p x) (e x) (dn x + 1) ≤ t ∧ z = fs_K e p jn (fs_u dn x (dn x + 1)) x)) → J (nI (i + 1)) (nI M) (nI N) cap (nI t) ld ov ms mg (nI h) cc gm (fs_A st) (fs_A e) (fs_A p) (fs_A sh) (fs_A jn) (fs_A (fs_u dn x (dn x + 1))) (upd ls x (nI t)) (upd lp x (nI q)) (fs_A dp) (fs_A sw) (fs_A sr) (fs_A rl) (fs_A ed) (fs_A rs) (fs_A ai) (fs_A ae) (fs_A ar) rc dc pc (fs_A hp) (fs_A ky) se ch cp (upd rp (b + q) (nI x)) (upd rb (b + q) (nI (dn x + 1)))) : wX_execute_65 post J (nI b) (nI i) (nI x) (nI q) (nI M) (nI N) cap (nI t) ld ov ms mg (nI h) cc gm (fs_A st) (fs_A e) (fs_A p) (fs_A sh) (fs_A jn) (fs_A dn) ls lp (fs_A dp) (fs_A sw) (fs_A sr) (fs_A rl) (fs_A ed) (fs_A rs) (fs_A ai) (fs_A ae) (fs_A ar) rc dc pc (fs_A hp) (fs_A ky) se ch cp rp rb := by
  have hi := fs_in hx
  have hc : (nI x).toNatClampNeg = x := nI_clamp (by omega)
  obtain ⟨w1, w2, w3, w4, w5, w6⟩ := Wf x sx
  have r1 := fs_r_up (p := p x) h1 hp16 (dn x)
  have r2 := fs_r_up (p := p x) h1 hp16 (dn x + 1)
  have r3 := (fs_rd (p := p x) h1 (dn x + 1 + 1)).2
  have e1 : nI b + nI q = nI (b + q) := nI_add b q
  have Ws := fs_W_s (x := x) Wf
  refine And.intro hi (And.intro hi (nm_r (e' := fs_A (fs_u dn x (dn x + 1))) (by rw [fs_Ai dn (by omega), hc, nI_1, fs_up]) (And.intro hi (nm_r (e' := upd ls x (nI t)) (by rw [hc]) (And.intro hi (nm_r (e' := upd lp x (nI q)) (by rw [hc]) (And.intro (by rw [e1]; exact vp_in_nI hb (by decide)) (nm_r (e' := upd rp (b + q) (nI x)) (by rw [e1, nI_clamp (by omega)]) (And.intro hi (And.intro (by rw [e1]; exact vp_in_nI hb (by decide)) (nm_r (e' := upd rb (b + q) (nI (dn x + 1))) (by rw [e1, nI_clamp (by omega), fs_Ai _ (by omega), fs_us]) ?_)))))))))))
  refine fx_open (n := dn x + 1) hx h1 he hp16 (by omega) w4 w5 w1 w2 ?_
  by_cases z : jn x + fs_r (p x) (e x) (dn x + 1) ≤ t
  · have kl : fs_k (p x) (e x) (jn x) (dn x + 1) x < 2 ^ 30 := fs_k_lt hx (by omega)
    refine fx_enq_push (x := x) hx (by rw [fs_us]; exact z) ht H ?_ (by rw [fs_us]; exact kl) (fun hp' se' H' => nm_r (nI_1 i) ?_)
    · intro y hy
      rw [fs_us, fs_k_mod hx]
      exact hC y hy
    · refine K _ _ _ _ _ _ _ _ Ws (fs_Rc_push R hr z) (fs_H_congr (fun y => ?_) H')
      rw [fs_us, fs_K_us]
      constructor
      · rintro (a | a)
        · exact Or.inl a
        · exact Or.inr ⟨z, a⟩
      · rintro (a | a)
        · exact Or.inl a
        · exact Or.inr a.2
  · refine fx_enq_cal (x := x) hx (by rw [fs_us]; omega) (by rw [fs_us]; omega) ht (nm_r (nI_1 i) ?_)
    refine K _ _ _ _ _ _ _ _ Ws ?_ (fs_H_congr (fun y => ?_) H)
    · rw [fs_us]
      exact fs_Rc_cal (by omega) sx R hr (by omega)
    · constructor
      · exact fun a => Or.inl a
      · rintro (a | a)
        · exact a
        · exact absurd a.1 z
theorem fx_exec12 {post : SX → Prop} {b : Nat} (V : fs_V N t st e p jn dn) (S : fs_CS M N t st e p jn dn c ord) (hM : M ≤ 4) (hb : b + 4 ≤ 256) (hpl : ∀ i, i < c → pr i < M) (pinj : ∀ i j, i < c → j < c → pr i = pr j → i = j) (hlq : ∀ i, i < c → lq (ord i) ≤ M) (hch : ∀ j, j < c → ch j = nI (ord j)) (hcp : ∀ j, j < c → cp j = nI (pr j)) (hlp : ∀ i, i < c → lp (ord i) = fs_pI (lq (ord i)))
    (K : ∀ (h : Nat) (hp rl ed rs ky : Nat → Nat) (se rc : Nat → Int32), fs_W st e p jn (fs_RA 0 c ord (fun i => dn (ord i) + 1) (fun j => decide (j < c)) dn) sw sr rl ed rs ky → fs_Rc t st e p jn (fs_RA 0 c ord (fun i => dn (ord i) + 1) (fun j => decide (j < c)) dn) rc → fs_H h hp se (fs_Ce t st e p jn (fs_RA 0 c ord (fun i => dn (ord i) + 1) (fun j => decide (j < c)) dn) ord c c) → post ((nI M), (nI N), cap, (nI t), ld, ov, ms, (mg + nI (fs_S (fs_gX ord pr lq) c)), (nI h), (nI c), gm, (fs_A st), (fs_A e), (fs_A p), (fs_A sh), (fs_A jn), (fs_A (fs_RA 0 c ord (fun i => dn (ord i) + 1) (fun j => decide (j < c)) dn)), (fs_RA 0 c ord (fun _ => nI t) (fun j => decide (j < c)) ls), (fs_RA 0 c ord (fun i => nI (pr i)) (fun j => decide (j < c)) lp), (fs_A dp), (fs_A sw), (fs_A sr), (fs_A rl), (fs_A ed), (fs_A rs), (fs_A ai), (fs_A ae), (fs_A ar), rc, dc, pc, (fs_A hp), (fs_A ky), se, ch, cp, (fs_RA b c pr (fun j => nI (ord j)) (fun j => decide (j < c)) rp), (fs_RA b c pr (fun i => nI (dn (ord i) + 1)) (fun j => decide (j < c)) rb))) :
    ∀ (d i h : Nat) (hp rl ed rs ky : Nat → Nat) (se rc : Nat → Int32), i + d = c → fs_W st e p jn (fs_RA 0 c ord (fun i => dn (ord i) + 1) (fun j => decide (j < i)) dn) sw sr rl ed rs ky → fs_Rc t st e p jn (fs_RA 0 c ord (fun i => dn (ord i) + 1) (fun j => decide (j < i)) dn) rc → fs_H h hp se (fs_Ce t st e p jn (fs_RA 0 c ord (fun i => dn (ord i) + 1) (fun j => decide (j < i)) dn) ord c i) → wX_execute_12 post (nI b) (d + 1) (nI i) (nI M) (nI N) cap (nI t) ld ov ms (mg + nI (fs_S (fs_gX ord pr lq) i)) (nI h) (nI c) gm (fs_A st) (fs_A e) (fs_A p) (fs_A sh) (fs_A jn) (fs_A (fs_RA 0 c ord (fun i => dn (ord i) + 1) (fun j => decide (j < i)) dn)) (fs_RA 0 c ord (fun _ => nI t) (fun j => decide (j < i)) ls) (fs_RA 0 c ord (fun i => nI (pr i)) (fun j => decide (j < i)) lp) (fs_A dp) (fs_A sw) (fs_A sr) (fs_A rl) (fs_A ed) (fs_A rs) (fs_A ai) (fs_A ae) (fs_A ar) rc dc pc (fs_A hp) (fs_A ky) se ch cp (fs_RA b c pr (fun j => nI (ord j)) (fun j => decide (j < i)) rp) (fs_RA b c pr (fun i => nI (dn (ord i) + 1)) (fun j => decide (j < i)) rb) := by
  have oinj := fs_CS_inj S
  have hcM := S.1
  intro d
  induction d with
  | zero =>
    intro i h hp rl ed rs ky se rc hi Wf R H
    have : i = c := by omega
    subst this
    exact br_t (nI_le (Nat.le_refl _) (by omega)) (K h hp rl ed rs ky se rc Wf R H)
  | succ d ih =>
    intro i h hp rl ed rs ky se rc hi Wf R H
    have z : i < c := by omega
    have hel := S.2.1 i z
    have sx := fs_CS_st S z
    have vx := fs_V_x V (show st (ord i) ≠ 0 by omega)
    have hr := (fs_el_iff.mp hel).2
    have hoi := vx.2.1
    have hp1 := hpl i z
    have hl := hlq i z
    have nP : ¬ decide (i < i) = true := by rw [decide_eq_true_eq]; omega
    have hP : ∀ j, j < c → decide (j < i + 1) = (decide (j < i) || decide (j = i)) := by
      intro j hj
      rw [Bool.eq_iff_iff, Bool.or_eq_true, decide_eq_true_eq, decide_eq_true_eq, decide_eq_true_eq]
      omega
    have d1 : fs_RA 0 c ord (fun i => dn (ord i) + 1) (fun j => decide (j < i)) dn (ord i) = dn (ord i) := by rw [fs_RA_i0 oinj z, if_neg nP]
    have u1 := fs_RA_u0 (val := fun i => dn (ord i) + 1) (f := dn) oinj z hP
    have u2 := fs_RA_upd0 (val := fun _ => nI t) (f := ls) oinj z hP
    have u3 := fs_RA_upd0 (val := fun i => nI (pr i)) (f := lp) oinj z hP
    have u4 := fs_RA_upd (b := b) (val := fun i => nI (dn (ord i) + 1)) (f := rb) pinj z hP
    have u5 := fs_RA_upd (b := b) (val := fun i => nI (ord i)) (f := rp) pinj z hP
    try dsimp only at u1 u2 u3 u4 u5
    have r2 : fs_RA 0 c ord (fun i => nI (pr i)) (fun j => decide (j < i)) lp (nI (ord i)).toNatClampNeg = fs_pI (lq (ord i)) := by
      rw [nI_clamp (by omega), fs_RA_i0 oinj z, if_neg nP, hlp i z]
    have s1 := fs_S1 (fs_gX ord pr lq) i
    generalize hD : fs_RA 0 c ord (fun i => dn (ord i) + 1) (fun j => decide (j < i)) dn = D at Wf R H d1 u1 ⊢
    rw [← d1] at u1 hr
    have fin : ∀ g : Nat, fs_gX ord pr lq i = g → wX_execute_65 post (wX_execute_12 post (nI b) (d + 1)) (nI b) (nI i) (nI (ord i)) (nI (pr i)) (nI M) (nI N) cap (nI t) ld ov ms (mg + nI (fs_S (fs_gX ord pr lq) i + g)) (nI h) (nI c) gm (fs_A st) (fs_A e) (fs_A p) (fs_A sh) (fs_A jn) (fs_A D) (fs_RA 0 c ord (fun _ => nI t) (fun j => decide (j < i)) ls) (fs_RA 0 c ord (fun i => nI (pr i)) (fun j => decide (j < i)) lp) (fs_A dp) (fs_A sw) (fs_A sr) (fs_A rl) (fs_A ed) (fs_A rs) (fs_A ai) (fs_A ae) (fs_A ar) rc dc pc (fs_A hp) (fs_A ky) se ch cp (fs_RA b c pr (fun j => nI (ord j)) (fun j => decide (j < i)) rp) (fs_RA b c pr (fun i => nI (dn (ord i) + 1)) (fun j => decide (j < i)) rb) := by
      intro g hg
      rw [hg] at s1
      refine fx_exec65 hoi sx vx.2.2.1 vx.2.2.2.1 vx.2.2.2.2.1 V.2.1 hr (by omega) Wf R H ?_ ?_
      · rintro y ⟨x, hx, hn, rfl⟩
        have vy := fs_V_x V (show st x ≠ 0 from fs_el_st hx)
        rw [fs_K_mod vy.2.1]
        exact fun w => hn i (Nat.le_refl _) z w.symm
      · intro h hp rl ed rs ky se rc Wf' R' H'
        rw [u1] at Wf' R'
        rw [u1, u2, u3, u5, d1, u4, ← s1]
        refine ih (i + 1) h hp rl ed rs ky se rc (by omega) Wf' R' (fs_H_congr (fun y => ?_) H')
        rw [← u1]
        constructor
        · rintro (⟨x, hx, hn, e2⟩ | ⟨a, e2⟩)
          · have hne : x ≠ ord i := fun w => hn i (Nat.le_refl _) z w.symm
            refine ⟨x, by rw [fs_el_un hne]; exact hx, fun j h1 h2 => hn j (by omega) h2, by rw [fs_K_un hne]; exact e2⟩
          · refine ⟨ord i, fs_el_iff.mpr ⟨sx, by rw [fs_us]; exact a⟩, fun j h1 h2 w => ?_, e2⟩
            have := oinj j i h2 z w
            omega
        · rintro ⟨x, hx, hn, e2⟩
          by_cases w : x = ord i
          · subst w
            have := (fs_el_iff.mp hx).2
            rw [fs_us] at this
            exact Or.inr ⟨this, e2⟩
          · rw [fs_el_un w] at hx
            rw [fs_K_un w] at e2
            refine Or.inl ⟨x, hx, fun j h1 h2 => ?_, e2⟩
            by_cases v : j = i
            · rw [v]; exact fun u => w u.symm
            · exact hn j (by omega) h2
    refine br_f (nI_ge (by omega) (by omega)) (And.intro (fs_in4 (by omega)) (nm_r (e' := nI (ord i)) (by rw [nI_clamp (by omega), hch i z]) (And.intro (fs_in4 (by omega)) (nm_r (e' := nI (pr i)) (by rw [nI_clamp (by omega), hcp i z]) (And.intro (fs_in hoi) ?_)))))
    refine br_c (fun w => ?_) (fun w => And.intro (fs_in hoi) ?_)
    · rw [r2, fs_pI_neg (by omega)] at w
      exact fin 0 (if_neg (fun v => v.1 w))
    · rw [r2, fs_pI_neg (by omega)] at w
      obtain ⟨l, hl'⟩ : ∃ l, lq (ord i) = l + 1 := ⟨lq (ord i) - 1, by omega⟩
      have r3 : fs_RA 0 c ord (fun i => nI (pr i)) (fun j => decide (j < i)) lp (nI (ord i)).toNatClampNeg = nI l := by rw [r2, hl', fs_pI1]
      refine pk_eq l (pr i) (fun v => ?_) (fun v => ?_) r3
      · exact fin 0 (if_neg (fun u => u.2 (by omega)))
      · refine nm_r (e' := mg + nI (fs_S (fs_gX ord pr lq) i + 1)) (by rw [Int32.add_assoc, nI_1]) ?_
        exact fin 1 (if_pos ⟨w, by omega⟩)
theorem fx_exec {post : SX → Prop} (V : fs_V N t st e p jn dn) (S : fs_CS M N t st e p jn dn c ord) (hM : M ≤ 4) (hpl : ∀ i, i < c → pr i < M) (pinj : ∀ i j, i < c → j < c → pr i = pr j → i = j) (hlq : ∀ i, i < c → lq (ord i) ≤ M) (hch : ∀ j, j < c → ch j = nI (ord j)) (hcp : ∀ j, j < c → cp j = nI (pr j)) (hlp : ∀ i, i < c → lp (ord i) = fs_pI (lq (ord i))) (Wf : fs_W st e p jn dn sw sr rl ed rs ky) (R : fs_Rc t st e p jn dn rc) (H : fs_H h hp se (fs_Ci t st e p jn dn ord c))
    (K : ∀ (h : Nat) (hp rl ed rs ky : Nat → Nat) (se rc : Nat → Int32), fs_W st e p jn (fs_RA 0 c ord (fun i => dn (ord i) + 1) (fun _ => true) dn) sw sr rl ed rs ky → fs_Rc t st e p jn (fs_RA 0 c ord (fun i => dn (ord i) + 1) (fun _ => true) dn) rc → fs_H h hp se (fun z => ∃ x, fs_el t st e p jn (fs_RA 0 c ord (fun i => dn (ord i) + 1) (fun _ => true) dn) x = true ∧ z = fs_K e p jn (fs_RA 0 c ord (fun i => dn (ord i) + 1) (fun _ => true) dn) x) → post ((nI M), (nI N), cap, (nI t), ld, ov, ms, (mg + nI (fs_S (fs_gX ord pr lq) c)), (nI h), (nI c), gm, (fs_A st), (fs_A e), (fs_A p), (fs_A sh), (fs_A jn), (fs_A (fs_RA 0 c ord (fun i => dn (ord i) + 1) (fun _ => true) dn)), (fs_RA 0 c ord (fun _ => nI t) (fun _ => true) ls), (fs_RA 0 c ord (fun i => nI (pr i)) (fun _ => true) lp), (fs_A dp), (fs_A sw), (fs_A sr), (fs_A rl), (fs_A ed), (fs_A rs), (fs_A ai), (fs_A ae), (fs_A ar), rc, dc, pc, (fs_A hp), (fs_A ky), se, ch, cp, (fs_RA (t % 64 * 4) c pr (fun j => nI (ord j)) (fun _ => true) rp), (fs_RA (t % 64 * 4) c pr (fun i => nI (dn (ord i) + 1)) (fun _ => true) rb))) : wpX_execute post ((nI M), (nI N), cap, (nI t), ld, ov, ms, mg, (nI h), (nI c), gm, (fs_A st), (fs_A e), (fs_A p), (fs_A sh), (fs_A jn), (fs_A dn), ls, lp, (fs_A dp), (fs_A sw), (fs_A sr), (fs_A rl), (fs_A ed), (fs_A rs), (fs_A ai), (fs_A ae), (fs_A ar), rc, dc, pc, (fs_A hp), (fs_A ky), se, ch, cp, rp, rb) := by
  have z1 : ∀ j, j < c → (fun _ => true) j = decide (j < c) := fun j hj => (decide_eq_true hj).symm
  have z0 : ∀ j, j < c → decide (j < 0) = false := fun j _ => decide_eq_false (by omega)
  have ht := V.2.1
  rw [fs_RA_c (val := fun i => dn (ord i) + 1) z1, fs_RA_c (val := fun _ => nI t) z1, fs_RA_c (val := fun i => nI (pr i)) z1, fs_RA_c (val := fun j => nI (ord j)) z1, fs_RA_c (val := fun i => nI (dn (ord i) + 1)) z1] at K
  refine nm_r (e' := nI (t % 64 * 4)) ?_ ⟨c + 1, ?_⟩
  · rw [fs_63 (by omega)]
    exact pk_mul _ 4
  · have := fx_exec12 (mg := mg) (ls := ls) (lp := lp) (rp := rp) (rb := rb) (b := t % 64 * 4) V S hM (by omega) hpl pinj hlq hch hcp hlp (fun h hp rl ed rs ky se rc Wf' R' H' => K h hp rl ed rs ky se rc Wf' R' (fs_H_congr (fun z => ⟨fun ⟨x, a, _, b⟩ => ⟨x, a, b⟩, fun ⟨x, a, b⟩ => ⟨x, a, fun j h1 h2 => by omega, b⟩⟩) H')) c 0 h hp rl ed rs ky se rc (by omega)
    rw [fs_RA_0 (val := fun i => dn (ord i) + 1) z0, fs_RA_0 (val := fun _ => nI t) z0, fs_RA_0 (val := fun i => nI (pr i)) z0, fs_RA_0 (val := fun j => nI (ord j)) z0, fs_RA_0 (val := fun i => nI (dn (ord i) + 1)) z0, fs_S0, fs_add0] at this
    exact this Wf R (fs_H_congr (fun z => ⟨fun ⟨x, a, b, d⟩ => ⟨x, a, fun j _ h2 => b j h2, d⟩, fun ⟨x, a, b, d⟩ => ⟨x, a, fun j h2 => b j (Nat.zero_le _) h2, d⟩⟩) H)
end
end
section
/-! X: auditDeadlines, releaseDue, departDue at the new clock t + 1 -/
def fs_Au (t : Nat) (st e p jn ai ae ar : Nat → Nat) : Prop := ∀ x, st x = 1 → 1 ≤ ai x ∧ t < jn x + fs_d (p x) (e x) (ai x) ∧ (∀ k, k < ai x → jn x + fs_d (p x) (e x) k ≤ t) ∧ ae x = jn x + fs_r (p x) (e x) (ai x) ∧ ar x = fs_m (p x) (e x) (ai x)
def fs_Dc (st e p jn ai : Nat → Nat) (dc : Nat → Int32) : Prop := ∀ s i, s ≤ 600 → i < 32 → bt (dc s) i = decide (st i = 1 ∧ jn i + fs_d (p i) (e i) (ai i) = s)
def fs_Pc (st dp : Nat → Nat) (pc : Nat → Int32) : Prop := ∀ s i, s ≤ 600 → i < 32 → bt (pc s) i = decide (st i = 2 ∧ dp i = s)
/-- who is due at T, and the cursors when the places below i are served -/
def fs_du (T : Nat) (st e p jn ai : Nat → Nat) (x : Nat) : Bool := decide (st x = 1 ∧ jn x + fs_d (p x) (e x) (ai x) = T)
def fs_ai (D : Nat → Bool) (A : Nat → Nat) (i : Nat) : Nat → Nat := fun x => if x < i ∧ D x = true then A x + 1 else A x
theorem fs_ai_i (D : Nat → Bool) (A : Nat → Nat) (i : Nat) : fs_ai D A i i = A i := if_neg (by omega)
theorem fs_ai_n {D : Nat → Bool} {A : Nat → Nat} {i : Nat} (h : D i = false) : fs_ai D A (i + 1) = fs_ai D A i := by
  funext x
  unfold fs_ai
  by_cases z : x = i
  · rw [z, if_neg (fun w => by rw [h] at w; exact Bool.noConfusion w.2), if_neg (by omega)]
  · by_cases y : x < i ∧ D x = true
    · rw [if_pos y, if_pos ⟨by omega, y.2⟩]
    · rw [if_neg y, if_neg (fun w => y ⟨by omega, w.2⟩)]
theorem fs_ai_y {D : Nat → Bool} {A : Nat → Nat} {i : Nat} (h : D i = true) : fs_u (fs_ai D A i) i (A i + 1) = fs_ai D A (i + 1) := by
  funext x
  by_cases z : x = i
  · rw [z, fs_us]
    exact (if_pos ⟨by omega, h⟩).symm
  · rw [fs_un z]
    unfold fs_ai
    by_cases y : x < i ∧ D x = true
    · rw [if_pos y, if_pos ⟨by omega, y.2⟩]
    · rw [if_neg y, if_neg (fun w => y ⟨by omega, w.2⟩)]
theorem fs_ai_0 (D : Nat → Bool) (A : Nat → Nat) : fs_ai D A 0 = A := by
  funext x
  exact if_neg (by omega)
theorem fs_m0 {m : Int32} {D : Nat → Bool} (hm : ∀ i, i < 32 → bt m i = D i) (h : m = 0) : ∀ i, i < 32 → D i = false := by
  intro i hi
  rw [← hm i hi, h, b_0]
section
variable {M N t h : Nat} {cap ld ov ms mg cc gm : Int32} {st e p sh jn dn dp sw sr rl ed rs ai ae ar hp ky : Nat → Nat} {ls lp rc dc pc se ch cp rp rb : Nat → Int32}
theorem fx_aud22 {post : SX → Prop} {m : Int32} {D : Nat → Bool} (V : fs_V N t st e p jn dn) (ht : t < 600) (Au : fs_Au t st e p jn ai ae ar) (hsw : ∀ x, st x = 1 → sw x = p x / e x ∧ sr x = p x % e x) (hdn : ∀ x, st x = 1 → dn x ≤ 1000) (hD : D = fs_du (t + 1) st e p jn ai) (hm : ∀ i, i < 32 → bt m i = D i)
    (K : ∀ (ae ar : Nat → Nat) (dc : Nat → Int32), (∀ x, st x = 1 → ae x = jn x + fs_r (p x) (e x) (fs_ai D ai N x) ∧ ar x = fs_m (p x) (e x) (fs_ai D ai N x)) → (∀ s i, s ≤ 600 → i < 32 → bt (dc s) i = decide (st i = 1 ∧ jn i + fs_d (p i) (e i) (fs_ai D ai N i) = s ∧ s ≠ t + 1)) → post ((nI M), (nI N), cap, (nI (t + 1)), ld, ov, (ms + nI (fs_S (fs_mX (t + 1) st e p jn dn ai) N)), mg, (nI h), cc, gm, (fs_A st), (fs_A e), (fs_A p), (fs_A sh), (fs_A jn), (fs_A dn), ls, lp, (fs_A dp), (fs_A sw), (fs_A sr), (fs_A rl), (fs_A ed), (fs_A rs), (fs_A (fs_ai D ai N)), (fs_A ae), (fs_A ar), rc, dc, pc, (fs_A hp), (fs_A ky), se, ch, cp, rp, rb)) :
    ∀ (d i : Nat) (ae' ar' : Nat → Nat) (dc : Nat → Int32), i + d = N → (∀ x, st x = 1 → ae' x = jn x + fs_r (p x) (e x) (fs_ai D ai i x) ∧ ar' x = fs_m (p x) (e x) (fs_ai D ai i x)) → (∀ s y, s ≤ 600 → y < 32 → bt (dc s) y = decide (st y = 1 ∧ jn y + fs_d (p y) (e y) (fs_ai D ai i y) = s ∧ s ≠ t + 1)) → wX_auditDeadlines_22 post m (d + 1) (nI i) (nI M) (nI N) cap (nI (t + 1)) ld ov (ms + nI (fs_S (fs_mX (t + 1) st e p jn dn ai) i)) mg (nI h) cc gm (fs_A st) (fs_A e) (fs_A p) (fs_A sh) (fs_A jn) (fs_A dn) ls lp (fs_A dp) (fs_A sw) (fs_A sr) (fs_A rl) (fs_A ed) (fs_A rs) (fs_A (fs_ai D ai i)) (fs_A ae') (fs_A ar') rc dc pc (fs_A hp) (fs_A ky) se ch cp rp rb := by
  have hN := V.1
  intro d
  induction d with
  | zero =>
    intro i ae' ar' dc hi h1 h2
    have : i = N := by omega
    subst this
    exact br_t (nI_le (Nat.le_refl _) (by omega)) (K ae' ar' dc h1 h2)
  | succ d ih =>
    intro i ae' ar' dc hi h1 h2
    refine br_f (nI_ge (by omega) (by omega)) ?_
    refine br_c (fun z => ?_) (fun z => ?_)
    · have hz := fs_m0 hm z
      have a0 : ∀ n, n ≤ N → fs_ai D ai n = ai := by
        intro n hn
        funext x
        unfold fs_ai
        refine if_neg (fun w => ?_)
        rw [hz x (by omega)] at w
        exact Bool.noConfusion w.2
      have s0 : ∀ n, n ≤ N → fs_S (fs_mX (t + 1) st e p jn dn ai) n = 0 := by
        intro n hn
        refine fs_S_zero (fun x hx => if_neg (fun w => ?_))
        have := hz x (by omega)
        rw [hD] at this
        exact absurd ⟨w.1, w.2.1⟩ (of_decide_eq_false this)
      have K' := K ae' ar' dc
      rw [a0 N (Nat.le_refl _), s0 N (Nat.le_refl _)] at K'
      rw [a0 i (by omega)] at h1 h2
      rw [a0 i (by omega), s0 i (by omega)]
      exact K' h1 h2
    · refine br_c (fun w => nm_r (nI_1 i) ?_) (fun w => ?_)
      · have w' : D i = false := by rw [← hm i (by omega)]; exact (fs_t0 (by omega)).mp w
        have ih' := ih (i + 1) ae' ar' dc (by omega)
        have m0 : fs_mX (t + 1) st e p jn dn ai i = 0 := by
          refine if_neg (fun v => ?_)
          rw [hD] at w'
          exact absurd ⟨v.1, v.2.1⟩ (of_decide_eq_false w')
        rw [fs_ai_n w', fs_S1, m0, Nat.add_zero] at ih'
        exact ih' h1 h2
      · have w' : D i = true := by
          cases v : D i
          · rw [← hm i (by omega)] at v
            exact absurd ((fs_t0 (by omega)).mpr v) w
          · rfl
        have hd : st i = 1 ∧ jn i + fs_d (p i) (e i) (ai i) = t + 1 := by
          rw [hD] at w'
          exact of_decide_eq_true w'
        have vx := fs_V_x V (show st i ≠ 0 by omega)
        obtain ⟨a1, a2, a3, a4, a5⟩ := Au i hd.1
        have aig := fs_d_ge vx.2.2.1 vx.2.2.2.1 (ai i)
        have r1 := fs_r_up (p := p i) vx.2.2.1 vx.2.2.2.2.1 (ai i)
        have r2 := fs_rd (p := p i) vx.2.2.1 (ai i)
        have r3 := fs_rd (p := p i) vx.2.2.1 (ai i + 1)
        have r4 := fs_d_mono vx.2.2.1 vx.2.2.2.1 (ai i)
        have hsi := hsw i hd.1
        have hdi := hdn i hd.1
        have h1i := h1 i hd.1
        rw [fs_ai_i] at h1i
        have fin : ∀ g : Nat, fs_mX (t + 1) st e p jn dn ai i = g → wX_auditDeadlines_67 post (wX_auditDeadlines_22 post m (d + 1)) m (nI i) (nI M) (nI N) cap (nI (t + 1)) ld ov (ms + nI (fs_S (fs_mX (t + 1) st e p jn dn ai) i + g)) mg (nI h) cc gm (fs_A st) (fs_A e) (fs_A p) (fs_A sh) (fs_A jn) (fs_A dn) ls lp (fs_A dp) (fs_A sw) (fs_A sr) (fs_A rl) (fs_A ed) (fs_A rs) (fs_A (fs_ai D ai i)) (fs_A ae') (fs_A ar') rc dc pc (fs_A hp) (fs_A ky) se ch cp rp rb := by
          intro g hg
          refine fx_aud (k := ai i) (x := i) (by omega) vx.2.2.1 vx.2.2.2.1 vx.2.2.2.2.1 (by omega) (fs_ai_i _ _ _) h1i.1 h1i.2 hsi.1 hsi.2 (nm_r (nI_1 i) ?_)
          rw [fs_ai_y w']
          have ih' := ih (i + 1) (fs_u ae' i (jn i + fs_r (p i) (e i) (ai i + 1))) (fs_u ar' i (fs_m (p i) (e i) (ai i + 1))) (fs_set dc (jn i + fs_d (p i) (e i) (ai i + 1)) i) (by omega)
          rw [fs_S1, hg] at ih'
          refine ih' (fun x hx => ?_) (fun s y hs hy => ?_)
          · rw [← fs_ai_y w']
            by_cases v : x = i
            · subst v
              rw [fs_us, fs_us, fs_us]
              exact ⟨rfl, rfl⟩
            · rw [fs_un v, fs_un v, fs_un v]
              exact h1 x hx
          · rw [fs_set_b (by omega) hy hs, h2 s y hs hy, ← fs_ai_y w']
            by_cases v : y = i
            · subst v
              rw [fs_us, fs_ai_i, decide_eq_false (show ¬ (st y = 1 ∧ jn y + fs_d (p y) (e y) (ai y) = s ∧ s ≠ t + 1) by omega), decide_eq_true (show y = y from rfl), Bool.and_true, Bool.false_or]
              rw [Bool.eq_iff_iff, decide_eq_true_eq, decide_eq_true_eq]
              omega
            · rw [fs_un v, decide_eq_false v, Bool.and_false, Bool.or_false]
        refine And.intro (fs_in (by omega)) (And.intro (fs_in (by omega)) ?_)
        refine pk_le (ai i) (dn i) (fun v => fin 0 (if_neg (fun u => by omega))) (fun v => nm_r (e' := ms + nI (fs_S (fs_mX (t + 1) st e p jn dn ai) i + 1)) (by rw [Int32.add_assoc, nI_1]) (fin 1 (if_pos ⟨hd.1, hd.2, v⟩))) (by rw [fs_Ai _ (by omega), fs_ai_i]) (fs_Ai dn (by omega))
theorem fs_Au_next {t : Nat} {st e p jn ai ae ar : Nat → Nat} {N : Nat} {D : Nat → Bool} {ae' ar' : Nat → Nat} (hv : ∀ x, st x = 1 → x < N ∧ 1 ≤ e x ∧ e x ≤ p x) (Au : fs_Au t st e p jn ai ae ar) (hD : D = fs_du (t + 1) st e p jn ai) (h : ∀ x, st x = 1 → ae' x = jn x + fs_r (p x) (e x) (fs_ai D ai N x) ∧ ar' x = fs_m (p x) (e x) (fs_ai D ai N x)) : fs_Au (t + 1) st e p jn (fs_ai D ai N) ae' ar' := by
  intro x hx
  obtain ⟨a1, a2, a3, a4, a5⟩ := Au x hx
  obtain ⟨v1, v2, v3⟩ := hv x hx
  have hh := h x hx
  have r4 := fs_d_mono v2 v3 (ai x)
  by_cases z : D x = true
  · have e1 : fs_ai D ai N x = ai x + 1 := if_pos ⟨v1, z⟩
    rw [hD] at z
    have hd := of_decide_eq_true z
    rw [e1] at hh ⊢
    refine ⟨by omega, by omega, fun k hk => ?_, hh.1, hh.2⟩
    by_cases w : k = ai x
    · rw [w]; omega
    · have := a3 k (by omega); omega
  · have e1 : fs_ai D ai N x = ai x := if_neg (fun w => z w.2)
    rw [hD] at z
    have hd : ¬ (st x = 1 ∧ jn x + fs_d (p x) (e x) (ai x) = t + 1) := fun w => z (decide_eq_true w)
    rw [e1] at hh ⊢
    refine ⟨a1, by omega, fun k hk => ?_, hh.1, hh.2⟩
    have := a3 k hk; omega
theorem fx_audit {post : SX → Prop} (V : fs_V N t st e p jn dn) (ht : t < 600) (Au : fs_Au t st e p jn ai ae ar) (Dc : fs_Dc st e p jn ai dc) (hsw : ∀ x, st x = 1 → sw x = p x / e x ∧ sr x = p x % e x)
    (K : ∀ (ai' ae' ar' : Nat → Nat) (dc' : Nat → Int32), fs_Au (t + 1) st e p jn ai' ae' ar' → fs_Dc st e p jn ai' dc' → post ((nI M), (nI N), cap, (nI (t + 1)), ld, ov, (ms + nI (fs_S (fs_mX (t + 1) st e p jn dn ai) N)), mg, (nI h), cc, gm, (fs_A st), (fs_A e), (fs_A p), (fs_A sh), (fs_A jn), (fs_A dn), ls, lp, (fs_A dp), (fs_A sw), (fs_A sr), (fs_A rl), (fs_A ed), (fs_A rs), (fs_A ai'), (fs_A ae'), (fs_A ar'), rc, dc', pc, (fs_A hp), (fs_A ky), se, ch, cp, rp, rb)) : wpX_auditDeadlines post ((nI M), (nI N), cap, (nI (t + 1)), ld, ov, ms, mg, (nI h), cc, gm, (fs_A st), (fs_A e), (fs_A p), (fs_A sh), (fs_A jn), (fs_A dn), ls, lp, (fs_A dp), (fs_A sw), (fs_A sr), (fs_A rl), (fs_A ed), (fs_A rs), (fs_A ai), (fs_A ae), (fs_A ar), rc, dc, pc, (fs_A hp), (fs_A ky), se, ch, cp, rp, rb) := by
  have hdn : ∀ x, st x = 1 → dn x ≤ 1000 := fun x hx => by have := fs_V_x V (show st x ≠ 0 by omega); omega
  have hv : ∀ x, st x = 1 → x < N ∧ 1 ≤ e x ∧ e x ≤ p x := fun x hx => by have := fs_V_x V (show st x ≠ 0 by omega); exact ⟨this.1, this.2.2.1, this.2.2.2.1⟩
  refine And.intro (fs_inC (by omega)) (nm_r (e' := dc (t + 1)) (by rw [nI_clamp (by omega)]) (And.intro (fs_inC (by omega)) (nm_r (e' := upd dc (t + 1) 0) (by rw [nI_clamp (by omega)]) ⟨N + 1, ?_⟩)))
  have := fx_aud22 (post := post) (m := dc (t + 1)) (ms := ms) V ht Au hsw hdn (D := fs_du (t + 1) st e p jn ai) rfl (fun i hi => Dc (t + 1) i (by omega) hi) (fun ae' ar' dc' h1 h2 => K _ ae' ar' dc' (fs_Au_next hv Au rfl h1) (fun s i hs hi => ?_)) N 0 ae ar (upd dc (t + 1) 0) (by omega)
  · rw [fs_ai_0, fs_S0, fs_add0] at this
    refine this (fun x hx => ⟨(Au x hx).2.2.2.1, (Au x hx).2.2.2.2⟩) (fun s y hs hy => ?_)
    by_cases z : s = t + 1
    · rw [z, pk_us, b_0, decide_eq_false (by omega)]
    · rw [pk_un z, Dc s y hs hy, Bool.eq_iff_iff, decide_eq_true_eq, decide_eq_true_eq]
      exact ⟨fun w => ⟨w.1, w.2, z⟩, fun w => ⟨w.1, w.2.1⟩⟩
  · rw [h2 s i hs hi, Bool.eq_iff_iff, decide_eq_true_eq, decide_eq_true_eq]
    refine ⟨fun w => ⟨w.1, w.2.1⟩, fun w => ⟨w.1, w.2, ?_⟩⟩
    have := (fs_Au_next hv Au rfl h1 i w.1).2.1
    omega
theorem fx_rel22 {post : SX → Prop} {m : Int32} {D : Nat → Bool} {C : Nat → Prop} (hN : N ≤ 16) (hm : ∀ i, i < 32 → bt m i = D i) (hk : ∀ x, x < 16 → D x = true → ky x < 2 ^ 30 ∧ ky x % 16 = x ∧ ∀ z, C z → z % 16 ≠ x)
    (K : ∀ (h : Nat) (hp : Nat → Nat) (se : Nat → Int32), fs_H h hp se (fun z => C z ∨ ∃ x, x < N ∧ D x = true ∧ z = ky x) → post ((nI M), (nI N), cap, (nI t), ld, ov, ms, mg, (nI h), cc, gm, (fs_A st), (fs_A e), (fs_A p), (fs_A sh), (fs_A jn), (fs_A dn), ls, lp, (fs_A dp), (fs_A sw), (fs_A sr), (fs_A rl), (fs_A ed), (fs_A rs), (fs_A ai), (fs_A ae), (fs_A ar), rc, dc, pc, (fs_A hp), (fs_A ky), se, ch, cp, rp, rb)) :
    ∀ (d i h : Nat) (hp : Nat → Nat) (se : Nat → Int32), i + d = N → fs_H h hp se (fun z => C z ∨ ∃ x, x < i ∧ D x = true ∧ z = ky x) → wX_releaseDue_22 post m (d + 1) (nI i) (nI M) (nI N) cap (nI t) ld ov ms mg (nI h) cc gm (fs_A st) (fs_A e) (fs_A p) (fs_A sh) (fs_A jn) (fs_A dn) ls lp (fs_A dp) (fs_A sw) (fs_A sr) (fs_A rl) (fs_A ed) (fs_A rs) (fs_A ai) (fs_A ae) (fs_A ar) rc dc pc (fs_A hp) (fs_A ky) se ch cp rp rb := by
  intro d
  induction d with
  | zero =>
    intro i h hp se hi H
    have : i = N := by omega
    subst this
    exact br_t (nI_le (Nat.le_refl _) (by omega)) (K h hp se H)
  | succ d ih =>
    intro i h hp se hi H
    refine br_f (nI_ge (by omega) (by omega)) ?_
    refine br_c (fun z => ?_) (fun z => ?_)
    · have hz := fs_m0 hm z
      refine K h hp se (fs_H_congr (fun y => ?_) H)
      constructor
      · rintro (a | ⟨x, a, b, _⟩)
        · exact Or.inl a
        · rw [hz x (by omega)] at b; cases b
      · rintro (a | ⟨x, a, b, _⟩)
        · exact Or.inl a
        · rw [hz x (by omega)] at b; cases b
    · refine br_c (fun w => nm_r (nI_1 i) ?_) (fun w => ?_)
      · have w' : D i = false := by rw [← hm i (by omega)]; exact (fs_t0 (by omega)).mp w
        refine ih (i + 1) h hp se (by omega) (fs_H_congr (fun y => ?_) H)
        constructor
        · rintro (a | ⟨x, a, b, c⟩)
          · exact Or.inl a
          · exact Or.inr ⟨x, by omega, b, c⟩
        · rintro (a | ⟨x, a, b, c⟩)
          · exact Or.inl a
          · refine Or.inr ⟨x, ?_, b, c⟩
            have : x ≠ i := fun v => by rw [v, w'] at b; cases b
            omega
      · have w' : D i = true := by
          cases v : D i
          · rw [← hm i (by omega)] at v
            exact absurd ((fs_t0 (by omega)).mpr v) w
          · rfl
        obtain ⟨k1, k2, k3⟩ := hk i (by omega) w'
        refine And.intro (fs_in (by omega)) ?_
        rw [fs_Ai ky (by omega)]
        refine fx_push H ?_ k1 (fun hp' se' H' => nm_r (nI_1 i) (ih (i + 1) (h + 1) hp' se' (by omega) (fs_H_congr (fun y => ?_) H')))
        · rintro y (a | ⟨x, a, b, c⟩)
          · rw [k2]; exact k3 y a
          · have := (hk x (by omega) b).2.1
            rw [c, this, k2]
            omega
        · constructor
          · rintro ((a | ⟨x, a, b, c⟩) | a)
            · exact Or.inl a
            · exact Or.inr ⟨x, by omega, b, c⟩
            · exact Or.inr ⟨i, by omega, w', a⟩
          · rintro (a | ⟨x, a, b, c⟩)
            · exact Or.inl (Or.inl a)
            · by_cases v : x = i
              · rw [v] at c; exact Or.inr c
              · exact Or.inl (Or.inr ⟨x, by omega, b, c⟩)
theorem fx_rel {post : SX → Prop} (V : fs_V N t st e p jn dn) (ht : t < 600) (Wf : fs_W st e p jn dn sw sr rl ed rs ky) (R : fs_Rc t st e p jn dn rc) (H : fs_H h hp se (fun z => ∃ x, fs_el t st e p jn dn x = true ∧ z = fs_K e p jn dn x))
    (K : ∀ (h : Nat) (hp : Nat → Nat) (se : Nat → Int32), fs_Rc (t + 1) st e p jn dn (upd rc (t + 1) 0) → fs_H h hp se (fun z => ∃ x, fs_el (t + 1) st e p jn dn x = true ∧ z = fs_K e p jn dn x) → post ((nI M), (nI N), cap, (nI (t + 1)), ld, ov, ms, mg, (nI h), cc, gm, (fs_A st), (fs_A e), (fs_A p), (fs_A sh), (fs_A jn), (fs_A dn), ls, lp, (fs_A dp), (fs_A sw), (fs_A sr), (fs_A rl), (fs_A ed), (fs_A rs), (fs_A ai), (fs_A ae), (fs_A ar), (upd rc (t + 1) 0), dc, pc, (fs_A hp), (fs_A ky), se, ch, cp, rp, rb)) : wpX_releaseDue post ((nI M), (nI N), cap, (nI (t + 1)), ld, ov, ms, mg, (nI h), cc, gm, (fs_A st), (fs_A e), (fs_A p), (fs_A sh), (fs_A jn), (fs_A dn), ls, lp, (fs_A dp), (fs_A sw), (fs_A sr), (fs_A rl), (fs_A ed), (fs_A rs), (fs_A ai), (fs_A ae), (fs_A ar), rc, dc, pc, (fs_A hp), (fs_A ky), se, ch, cp, rp, rb) := by
  have hN := V.1
  refine And.intro (fs_inC (by omega)) (nm_r (e' := rc (t + 1)) (by rw [nI_clamp (by omega)]) (And.intro (fs_inC (by omega)) (nm_r (e' := upd rc (t + 1) 0) (by rw [nI_clamp (by omega)]) ⟨N + 1, ?_⟩)))
  refine fx_rel22 (C := fun z => ∃ x, fs_el t st e p jn dn x = true ∧ z = fs_K e p jn dn x) (D := fun x => decide (st x = 1 ∧ jn x + fs_r (p x) (e x) (dn x) = t + 1)) hN (fun i hi => ?_) (fun x hx hd => ?_) (fun h hp se H' => K h hp se ?_ (fs_H_congr (fun y => ?_) H')) N 0 h hp se (by omega) (fs_H_congr (fun y => ?_) H)
  · rw [R (t + 1) i (by omega) hi, Bool.eq_iff_iff, decide_eq_true_eq, decide_eq_true_eq]
    omega
  · have hd' : st x = 1 ∧ jn x + fs_r (p x) (e x) (dn x) = t + 1 := of_decide_eq_true hd
    have wk := (Wf x hd'.1).2.2.2.2.2
    rw [wk]
    refine ⟨fs_K_lt V (by omega), fs_K_mod hx, ?_⟩
    rintro z ⟨y, hy, rfl⟩
    have vy := fs_V_x V (fs_el_st hy)
    rw [fs_K_mod vy.2.1]
    intro v
    rw [v] at hy
    have := (fs_el_iff.mp hy).2
    omega
  · intro s i hs hi
    by_cases z : s = t + 1
    · rw [z, pk_us, b_0, decide_eq_false (by omega)]
    · rw [pk_un z, R s i hs hi, Bool.eq_iff_iff, decide_eq_true_eq, decide_eq_true_eq]
      omega
  · constructor
    · rintro (⟨x, a, b⟩ | ⟨x, a, b, c⟩)
      · have := fs_el_iff.mp a
        exact ⟨x, fs_el_iff.mpr ⟨this.1, by omega⟩, b⟩
      · have hd' : st x = 1 ∧ jn x + fs_r (p x) (e x) (dn x) = t + 1 := of_decide_eq_true b
        exact ⟨x, fs_el_iff.mpr ⟨hd'.1, by omega⟩, by rw [c, (Wf x hd'.1).2.2.2.2.2]⟩
    · rintro ⟨x, a, b⟩
      have ha := fs_el_iff.mp a
      by_cases z : jn x + fs_r (p x) (e x) (dn x) ≤ t
      · exact Or.inl ⟨x, fs_el_iff.mpr ⟨ha.1, z⟩, b⟩
      · refine Or.inr ⟨x, (fs_V_x V (by omega)).1, decide_eq_true ⟨ha.1, by omega⟩, ?_⟩
        rw [b, (Wf x ha.1).2.2.2.2.2]
  · constructor
    · exact fun a => Or.inl a
    · rintro (a | ⟨x, a, _⟩)
      · exact a
      · omega
theorem fs_ld_free {N : Nat} {st e p : Nat → Nat} {x : Nat} (hx : x < N) (h : st x ≠ 0) : fs_ld N st e p = fs_ld N (fs_u st x 0) e p + e x * (720720 / p x) := by
  unfold fs_ld
  rw [fs_S_one _ N hx, if_neg h]
  congr 1
  refine fs_S_congr (fun i hi => ?_)
  by_cases z : i = x
  · rw [if_pos z, z, fs_us, if_pos rfl]
  · rw [if_neg z, fs_un z]
theorem fx_dep22 {post : SX → Prop} {m : Int32} (hN : N ≤ 16) (hm : ∀ i, i < 32 → bt m i = decide (st i = 2 ∧ dp i ≤ t + 1))
    (K : ∀ sh : Nat → Nat, (∀ x, fs_dep N (t + 1) dp st x ≠ 0 → sh x = e x * (720720 / p x)) → post ((nI M), (nI N), cap, (nI (t + 1)), (nI (fs_ld N (fs_dep N (t + 1) dp st) e p)), ov, ms, mg, (nI h), cc, gm, (fs_A (fs_dep N (t + 1) dp st)), (fs_A e), (fs_A p), (fs_A sh), (fs_A jn), (fs_A dn), ls, lp, (fs_A dp), (fs_A sw), (fs_A sr), (fs_A rl), (fs_A ed), (fs_A rs), (fs_A ai), (fs_A ae), (fs_A ar), rc, dc, pc, (fs_A hp), (fs_A ky), se, ch, cp, rp, rb)) :
    ∀ (d i : Nat) (sh : Nat → Nat), i + d = N → (∀ x, fs_dep i (t + 1) dp st x ≠ 0 → sh x = e x * (720720 / p x)) → wX_departDue_22 post m (d + 1) (nI i) (nI M) (nI N) cap (nI (t + 1)) (nI (fs_ld N (fs_dep i (t + 1) dp st) e p)) ov ms mg (nI h) cc gm (fs_A (fs_dep i (t + 1) dp st)) (fs_A e) (fs_A p) (fs_A sh) (fs_A jn) (fs_A dn) ls lp (fs_A dp) (fs_A sw) (fs_A sr) (fs_A rl) (fs_A ed) (fs_A rs) (fs_A ai) (fs_A ae) (fs_A ar) rc dc pc (fs_A hp) (fs_A ky) se ch cp rp rb := by
  intro d
  induction d with
  | zero =>
    intro i sh hi hs
    have : i = N := by omega
    subst this
    exact br_t (nI_le (Nat.le_refl _) (by omega)) (K sh hs)
  | succ d ih =>
    intro i sh hi hs
    refine br_f (nI_ge (by omega) (by omega)) ?_
    refine br_c (fun z => ?_) (fun z => ?_)
    · have hz := fs_m0 hm z
      have a0 : ∀ n, n ≤ N → fs_dep n (t + 1) dp st = st := by
        intro n hn
        funext x
        unfold fs_dep
        refine if_neg (fun w => ?_)
        exact absurd w.2 (of_decide_eq_false (hz x (by omega)))
      have K' := K sh
      rw [a0 N (Nat.le_refl _)] at K'
      rw [a0 i (by omega)] at hs ⊢
      exact K' hs
    · refine br_c (fun w => nm_r (nI_1 i) ?_) (fun w => ?_)
      · have w' : ¬ (st i = 2 ∧ dp i ≤ t + 1) := by
          have := (fs_t0 (by omega)).mp w
          rw [hm i (by omega)] at this
          exact of_decide_eq_false this
        have ih' := ih (i + 1) sh (by omega)
        rw [fs_dep_n w'] at ih'
        exact ih' hs
      · have w' : st i = 2 ∧ dp i ≤ t + 1 := by
          have : bt m i = true := by
            cases v : bt m i
            · exact absurd ((fs_t0 (by omega)).mpr v) w
            · rfl
          rw [hm i (by omega)] at this
          exact of_decide_eq_true this
        have hsi := hs i (by rw [fs_dep_i]; omega)
        have hld := fs_ld_free (N := N) (e := e) (p := p) (st := fs_dep i (t + 1) dp st) (x := i) (by omega) (by rw [fs_dep_i]; omega)
        refine fx_free (x := i) (by omega) (nm_r (nI_1 i) ?_)
        rw [hsi, pk_sub (by omega), hld, Nat.add_sub_cancel, fs_dep_y w']
        refine ih (i + 1) _ (by omega) (fun x hx => ?_)
        rw [← fs_dep_y w'] at hx
        by_cases v : x = i
        · rw [v, fs_us] at hx; exact absurd rfl hx
        · rw [fs_un v] at hx ⊢
          exact hs x hx
theorem fx_dep {post : SX → Prop} (hN : N ≤ 16) (ht : t < 600) (hd : ∀ x, st x = 2 → t < dp x) (Pc : fs_Pc st dp pc) (hs : ∀ x, st x ≠ 0 → sh x = e x * (720720 / p x))
    (K : ∀ sh : Nat → Nat, (∀ x, fs_dep N (t + 1) dp st x ≠ 0 → sh x = e x * (720720 / p x)) → fs_Pc (fs_dep N (t + 1) dp st) dp (upd pc (t + 1) 0) → post ((nI M), (nI N), cap, (nI (t + 1)), (nI (fs_ld N (fs_dep N (t + 1) dp st) e p)), ov, ms, mg, (nI h), cc, gm, (fs_A (fs_dep N (t + 1) dp st)), (fs_A e), (fs_A p), (fs_A sh), (fs_A jn), (fs_A dn), ls, lp, (fs_A dp), (fs_A sw), (fs_A sr), (fs_A rl), (fs_A ed), (fs_A rs), (fs_A ai), (fs_A ae), (fs_A ar), rc, dc, (upd pc (t + 1) 0), (fs_A hp), (fs_A ky), se, ch, cp, rp, rb)) (hst : ∀ x, N ≤ x → st x = 0) : wpX_departDue post ((nI M), (nI N), cap, (nI (t + 1)), (nI (fs_ld N st e p)), ov, ms, mg, (nI h), cc, gm, (fs_A st), (fs_A e), (fs_A p), (fs_A sh), (fs_A jn), (fs_A dn), ls, lp, (fs_A dp), (fs_A sw), (fs_A sr), (fs_A rl), (fs_A ed), (fs_A rs), (fs_A ai), (fs_A ae), (fs_A ar), rc, dc, pc, (fs_A hp), (fs_A ky), se, ch, cp, rp, rb) := by
  refine And.intro (fs_inC (by omega)) (nm_r (e' := pc (t + 1)) (by rw [nI_clamp (by omega)]) (And.intro (fs_inC (by omega)) (nm_r (e' := upd pc (t + 1) 0) (by rw [nI_clamp (by omega)]) ⟨N + 1, ?_⟩)))
  have := fx_dep22 (post := post) (m := pc (t + 1)) (pc := upd pc (t + 1) 0) hN (fun i hi => ?_) (fun sh hs' => K sh hs' ?_) N 0 sh (by omega)
  · rw [fs_dep_0] at this
    exact this hs
  · rw [Pc (t + 1) i (by omega) hi, Bool.eq_iff_iff, decide_eq_true_eq, decide_eq_true_eq]
    constructor
    · intro w; exact ⟨w.1, by omega⟩
    · intro w; have := hd i w.1; exact ⟨w.1, by omega⟩
  · intro s i hs1 hi
    unfold fs_dep
    by_cases z : s = t + 1
    · rw [z, pk_us, b_0]
      by_cases y : i < N ∧ st i = 2 ∧ dp i ≤ t + 1
      · rw [if_pos y, decide_eq_false (by omega)]
      · rw [if_neg y, decide_eq_false]
        intro w
        refine y ⟨?_, w.1, by omega⟩
        rcases Nat.lt_or_ge i N with v | v
        · exact v
        · have := hst i v; omega
    · rw [pk_un z, Pc s i hs1 hi]
      by_cases y : i < N ∧ st i = 2 ∧ dp i ≤ t + 1
      · have := hd i y.2.1
        rw [if_pos y, decide_eq_false (by omega), decide_eq_false (by omega)]
      · rw [if_neg y]
end
end
section
/-! the relation, by its parts -/
def fs_L (M t : Nat) (st : Nat → Nat) (ls lp yls ylp : Nat → Int32) (lq sl : Nat → Nat) : Prop := (∀ x, st x ≠ 0 → lp x = fs_pI (lq x) ∧ ylp x = fs_pI (lq x) ∧ lq x ≤ M ∧ (lq x ≠ 0 → ls x = nI (sl x) ∧ yls x = nI (sl x) ∧ sl x < t)) ∧ (∀ x y, st x ≠ 0 → st y ≠ 0 → lq x ≠ 0 → lq x = lq y → sl x = sl y → x = y)
def fs_Rg (M t : Nat) (rp rb yrp yrb : Nat → Int32) : Prop := ∀ s q, s < t → t ≤ s + 64 → q < M → rp (s % 64 * 4 + q) = yrp (s * 4 + q) ∧ rb (s % 64 * 4 + q) = yrb (s * 4 + q)
def fs_Dp (t : Nat) (st dp : Nat → Nat) (ydp : Nat → Int32) : Prop := ∀ x, st x = 2 → t < dp x ∧ dp x < 2000 ∧ ydp x = nI (dp x)
def fs_Sh (st e p sh : Nat → Nat) : Prop := ∀ x, st x ≠ 0 → sh x = e x * (720720 / p x)
def fs_HE (t : Nat) (st e p jn dn : Nat → Nat) (h : Nat) (hp : Nat → Nat) (se : Nat → Int32) : Prop := fs_H h hp se (fun z => ∃ x, fs_el t st e p jn dn x = true ∧ z = fs_K e p jn dn x)
def fs_R (M N t h : Nat) (cap ld ov : Int32) (st e p sh jn dn dp sw sr rl ed rs ai ae ar hp ky : Nat → Nat) (ls lp rc dc pc se rp rb yls ylp ydp yrp yrb : Nat → Int32) (lq sl : Nat → Nat) : Prop :=
  (1 ≤ M ∧ M ≤ 4 ∧ 1 ≤ N ∧ cap = nI (M * 720720) ∧ (ov = 0 ∨ ov = 1) ∧ ld = nI (fs_ld N st e p)) ∧ fs_V N t st e p jn dn ∧ fs_W st e p jn dn sw sr rl ed rs ky ∧ fs_Au t st e p jn ai ae ar ∧ fs_Dc st e p jn ai dc ∧ fs_Rc t st e p jn dn rc ∧ fs_Pc st dp pc ∧ fs_HE t st e p jn dn h hp se ∧ fs_Sh st e p sh ∧ fs_Dp t st dp ydp ∧ fs_L M t st ls lp yls ylp lq sl ∧ fs_Rg M t rp rb yrp yrb
/-- who keeps its processor -/
def fs_kb (t : Nat) (lq sl : Nat → Nat) (x : Nat) : Bool := decide (lq x ≠ 0 ∧ sl x + 1 = t)
section
variable {M N t c : Nat} {st e p jn dn ord lq sl dp : Nat → Nat} {ls lp yls ylp : Nat → Int32}
theorem fs_AH_of (hM1 : 1 ≤ M) (hM : M ≤ 4) (V : fs_V N t st e p jn dn) (S : fs_CS M N t st e p jn dn c ord) (L : fs_L M t st ls lp yls ylp lq sl) : fs_AH M c ord lq (fs_kb t lq sl) := by
  have hst : ∀ i, i < c → st (ord i) ≠ 0 := fun i hi => by rw [fs_CS_st S hi]; decide
  refine ⟨hM1, hM, S.1, fun i hi => (fs_V_x V (hst i hi)).2.1, fs_CS_inj S, fun i hi => (L.1 _ (hst i hi)).2.2.1, fun i hi hk => (of_decide_eq_true hk).1, fun i j hi hj hk hk' e1 => ?_⟩
  have a := of_decide_eq_true hk
  have b := of_decide_eq_true hk'
  exact fs_CS_inj S i j hi hj (L.2 _ _ (hst i hi) (hst j hj) a.1 e1 (by omega))
theorem fs_ls_of {l : Int32} {x : Nat} (ht : t ≤ 600) (hl : lq x ≠ 0) (h : l = nI (sl x)) (h2 : sl x < t) : l = nI t - 1 ↔ fs_kb t lq sl x = true := by
  unfold fs_kb
  rw [h, fs_s1 (by omega), nI_eq (by omega) (by omega), decide_eq_true_eq]
  constructor
  · intro w; exact ⟨hl, by omega⟩
  · intro w; omega
theorem fs_dE {α : Type} (val : Nat → α) (f : Nat → α) {x : Nat} : (∃ i, i < c ∧ ord i = x ∧ fs_iv ord x c = i ∧ fs_RA 0 c ord val (fun _ => true) f x = val i) ∨ ((∀ i, i < c → ord i ≠ x) ∧ ¬ fs_iv ord x c < c ∧ fs_RA 0 c ord val (fun _ => true) f x = f x) := by
  unfold fs_RA
  rw [Nat.sub_zero]
  by_cases z : fs_iv ord x c < c
  · exact Or.inl ⟨_, z, fs_iv_f z, rfl, if_pos ⟨Nat.zero_le _, z, rfl⟩⟩
  · exact Or.inr ⟨fs_iv_n z, z, if_neg (fun w => z w.2.1)⟩
theorem fs_V_ex (V : fs_V N t st e p jn dn) (S : fs_CS M N t st e p jn dn c ord) : fs_V N t st e p jn (fs_RA 0 c ord (fun i => dn (ord i) + 1) (fun _ => true) dn) := by
  refine ⟨V.1, V.2.1, V.2.2.1, V.2.2.2.1, fun x hx => ?_⟩
  obtain ⟨a, b, d, f⟩ := V.2.2.2.2 x hx
  refine ⟨a, b, d, ?_⟩
  rcases fs_dE (c := c) (ord := ord) (fun i => dn (ord i) + 1) dn (x := x) with ⟨i, hi, ho, _, h⟩ | ⟨_, _, h⟩
  · rw [h]
    have := (fs_el_iff.mp (S.2.1 i hi)).2
    rw [ho] at this ⊢
    exact this
  · rw [h]; exact f
theorem fs_V_next (V : fs_V N t st e p jn dn) (ht : t < 600) : fs_V N (t + 1) (fs_dep N (t + 1) dp st) e p jn dn := by
  refine ⟨V.1, by omega, fun x => ?_, fun x hx => ?_, fun x hx => ?_⟩
  · unfold fs_dep
    have := V.2.2.1 x
    split <;> omega
  · unfold fs_dep
    have := V.2.2.2.1 x hx
    split <;> omega
  · have hx' : st x ≠ 0 := by
      intro w
      unfold fs_dep at hx
      rw [if_neg (by omega)] at hx
      exact hx w
    obtain ⟨a, b, d, f⟩ := V.2.2.2.2 x hx'
    exact ⟨a, b, d, by omega⟩
theorem fs_dep_1 {x T : Nat} : fs_dep N T dp st x = 1 ↔ st x = 1 := by
  unfold fs_dep
  by_cases z : x < N ∧ st x = 2 ∧ dp x ≤ T
  · rw [if_pos z]; omega
  · rw [if_neg z]
theorem fs_dep_ne {x T : Nat} (h : fs_dep N T dp st x ≠ 0) : st x ≠ 0 := by
  intro w
  unfold fs_dep at h
  rw [if_neg (by omega)] at h
  exact h w
theorem fs_L_next (hM1 : 1 ≤ M) (V : fs_V N t st e p jn dn) (S : fs_CS M N t st e p jn dn c ord) (AH : fs_AH M c ord lq (fs_kb t lq sl)) (L : fs_L M t st ls lp yls ylp lq sl) : fs_L M (t + 1) (fs_dep N (t + 1) dp st) (fs_RA 0 c ord (fun _ => nI t) (fun _ => true) ls) (fs_RA 0 c ord (fun i => nI (fs_pr M c ord lq (fs_kb t lq sl) i)) (fun _ => true) lp) (fs_RA 0 c ord (fun _ => nI t) (fun _ => true) yls) (fs_RA 0 c ord (fun i => nI (fs_pr M c ord lq (fs_kb t lq sl) i)) (fun _ => true) ylp) (fs_RA 0 c ord (fun i => fs_pr M c ord lq (fs_kb t lq sl) i + 1) (fun _ => true) lq) (fs_RA 0 c ord (fun _ => t) (fun _ => true) sl) := by
  have pinj := fs_pr_inj AH
  generalize hpr : fs_pr M c ord lq (fs_kb t lq sl) = pr at pinj ⊢
  have plt : ∀ i, i < c → pr i < M := fun i hi => by rw [← hpr]; exact fs_pr_lt AH hi
  constructor
  · intro x hx
    obtain ⟨a, b, d, f⟩ := L.1 x (fs_dep_ne hx)
    by_cases z : fs_iv ord x c < c
    · have R : ∀ {α : Type} (val : Nat → α) (f : Nat → α), fs_RA 0 c ord val (fun _ => true) f x = val (fs_iv ord x c) := fun val f => by
        unfold fs_RA
        rw [Nat.sub_zero, if_pos ⟨Nat.zero_le _, z, rfl⟩]
      rw [R, R, R, R, R, R]
      have := plt _ z
      exact ⟨rfl, rfl, by omega, fun _ => ⟨rfl, rfl, by omega⟩⟩
    · have R : ∀ {α : Type} (val : Nat → α) (f : Nat → α), fs_RA 0 c ord val (fun _ => true) f x = f x := fun val f => by
        unfold fs_RA
        rw [Nat.sub_zero, if_neg (fun w => z w.2.1)]
      rw [R, R, R, R, R, R]
      exact ⟨a, b, d, fun w => ⟨(f w).1, (f w).2.1, by have := (f w).2.2; omega⟩⟩
  · intro x y hx hy h0 h1 h2
    have lx := L.1 x (fs_dep_ne hx)
    have ly := L.1 y (fs_dep_ne hy)
    by_cases z : fs_iv ord x c < c
    · have R : ∀ (val : Nat → Nat) (f : Nat → Nat), fs_RA 0 c ord val (fun _ => true) f x = val (fs_iv ord x c) := fun val f => by
        unfold fs_RA
        rw [Nat.sub_zero, if_pos ⟨Nat.zero_le _, z, rfl⟩]
      rw [R] at h1 h2
      by_cases w : fs_iv ord y c < c
      · have R' : ∀ (val : Nat → Nat) (f : Nat → Nat), fs_RA 0 c ord val (fun _ => true) f y = val (fs_iv ord y c) := fun val f => by
          unfold fs_RA
          rw [Nat.sub_zero, if_pos ⟨Nat.zero_le _, w, rfl⟩]
        rw [R'] at h1
        have h1' : pr (fs_iv ord x c) + 1 = pr (fs_iv ord y c) + 1 := h1
        have := pinj _ _ z w (by omega)
        rw [← fs_iv_f z, ← fs_iv_f w, this]
      · have R' : ∀ (val : Nat → Nat) (f : Nat → Nat), fs_RA 0 c ord val (fun _ => true) f y = f y := fun val f => by
          unfold fs_RA
          rw [Nat.sub_zero, if_neg (fun v => w v.2.1)]
        rw [R'] at h1 h2
        have h1' : pr (fs_iv ord x c) + 1 = lq y := h1
        have h2' : t = sl y := h2
        have := (ly.2.2.2 (by omega)).2.2
        omega
    · have R : ∀ (val : Nat → Nat) (f : Nat → Nat), fs_RA 0 c ord val (fun _ => true) f x = f x := fun val f => by
        unfold fs_RA
        rw [Nat.sub_zero, if_neg (fun v => z v.2.1)]
      rw [R] at h0 h1 h2
      by_cases w : fs_iv ord y c < c
      · have R' : ∀ (val : Nat → Nat) (f : Nat → Nat), fs_RA 0 c ord val (fun _ => true) f y = val (fs_iv ord y c) := fun val f => by
          unfold fs_RA
          rw [Nat.sub_zero, if_pos ⟨Nat.zero_le _, w, rfl⟩]
        rw [R'] at h2
        have h2' : sl x = t := h2
        have := (lx.2.2.2 h0).2.2
        omega
      · have R' : ∀ (val : Nat → Nat) (f : Nat → Nat), fs_RA 0 c ord val (fun _ => true) f y = f y := fun val f => by
          unfold fs_RA
          rw [Nat.sub_zero, if_neg (fun v => w v.2.1)]
        rw [R'] at h1 h2
        exact L.2 x y (fs_dep_ne hx) (fs_dep_ne hy) h0 h1 h2
theorem fs_Rg_next {rp rb yrp yrb : Nat → Int32} {pr : Nat → Nat} {v w : Nat → Int32} (hM : M ≤ 4) (plt : ∀ i, i < c → pr i < M) (R : fs_Rg M t rp rb yrp yrb) : fs_Rg M (t + 1) (fs_RA (t % 64 * 4) c pr v (fun _ => true) (fs_fill rp (t % 64 * 4) 4 (-1))) (fs_RA (t % 64 * 4) c pr w (fun _ => true) (fs_fill rb (t % 64 * 4) 4 0)) (fs_RA (t * 4) c pr v (fun _ => true) (fs_fill yrp (t * 4) 4 (-1))) (fs_RA (t * 4) c pr w (fun _ => true) (fs_fill yrb (t * 4) 4 0)) := by
  intro s q hs hs2 hq
  by_cases z : s = t
  · subst z
    have A : ∀ (b : Nat) (v : Nat → Int32) (f : Nat → Int32) (u : Int32), fs_RA b c pr v (fun _ => true) (fs_fill f b 4 u) (b + q) = if fs_iv pr q c < c then v (fs_iv pr q c) else u := by
      intro b v f u
      by_cases y : fs_iv pr q c < c
      · unfold fs_RA
        rw [Nat.add_sub_cancel_left, if_pos ⟨Nat.le_add_right _ _, y, rfl⟩, if_pos y]
      · rw [fs_RA_n y, if_neg y, fs_fill_i _ _ _ _ (by omega)]
    rw [A, A, A, A]
    exact ⟨rfl, rfl⟩
  · have h1 : s % 64 * 4 + q < t % 64 * 4 ∨ t % 64 * 4 + 4 ≤ s % 64 * 4 + q := by omega
    have h2 : s * 4 + q < t * 4 ∨ t * 4 + 4 ≤ s * 4 + q := by omega
    have plt4 : ∀ i, i < c → pr i < 4 := fun i hi => by have := plt i hi; omega
    rw [fs_RA_o plt4 h1, fs_RA_o plt4 h1, fs_RA_o plt4 h2, fs_RA_o plt4 h2, fs_fill_o _ _ _ _ h1, fs_fill_o _ _ _ _ h1, fs_fill_o _ _ _ _ h2, fs_fill_o _ _ _ _ h2]
    exact R s q (by omega) (by omega) hq
theorem fs_Dp_next {ydp : Nat → Int32} (hst : ∀ x, N ≤ x → st x = 0) (D : fs_Dp t st dp ydp) : fs_Dp (t + 1) (fs_dep N (t + 1) dp st) dp ydp := by
  intro x hx
  have hs : st x = 2 ∧ ¬ (x < N ∧ st x = 2 ∧ dp x ≤ t + 1) := by
    unfold fs_dep at hx
    by_cases z : x < N ∧ st x = 2 ∧ dp x ≤ t + 1
    · rw [if_pos z] at hx; omega
    · rw [if_neg z] at hx; exact ⟨hx, z⟩
  obtain ⟨a, b, d⟩ := D x hs.1
  have hxN : x < N := by
    rcases Nat.lt_or_ge x N with z | z
    · exact z
    · have := hst x z; omega
  exact ⟨by omega, b, d⟩
end
section
variable {M N t T : Nat} {st st' e p jn dn dp : Nat → Nat}
theorem fs_W_st {sw sr rl ed rs ky : Nat → Nat} (h : ∀ x, st' x = 1 → st x = 1) (Wf : fs_W st e p jn dn sw sr rl ed rs ky) : fs_W st' e p jn dn sw sr rl ed rs ky := fun x hx => Wf x (h x hx)
theorem fs_Au_st {ai ae ar : Nat → Nat} (h : ∀ x, st' x = 1 → st x = 1) (A : fs_Au t st e p jn ai ae ar) : fs_Au t st' e p jn ai ae ar := fun x hx => A x (h x hx)
theorem fs_Dc_st {ai : Nat → Nat} {dc : Nat → Int32} (h : ∀ x, st' x = 1 ↔ st x = 1) (A : fs_Dc st e p jn ai dc) : fs_Dc st' e p jn ai dc := by
  intro s i hs hi
  rw [A s i hs hi, Bool.eq_iff_iff, decide_eq_true_eq, decide_eq_true_eq, h]
theorem fs_Rc_st {rc : Nat → Int32} (h : ∀ x, st' x = 1 ↔ st x = 1) (A : fs_Rc t st e p jn dn rc) : fs_Rc t st' e p jn dn rc := by
  intro s i hs hi
  rw [A s i hs hi, Bool.eq_iff_iff, decide_eq_true_eq, decide_eq_true_eq, h]
theorem fs_HE_st {hh : Nat} {hp : Nat → Nat} {se : Nat → Int32} (h : ∀ x, st' x = 1 ↔ st x = 1) (A : fs_HE t st e p jn dn hh hp se) : fs_HE t st' e p jn dn hh hp se := by
  refine fs_H_congr (fun z => ?_) A
  constructor
  · rintro ⟨x, a, b⟩
    have := fs_el_iff.mp a
    exact ⟨x, fs_el_iff.mpr ⟨(h x).mpr this.1, this.2⟩, b⟩
  · rintro ⟨x, a, b⟩
    have := fs_el_iff.mp a
    exact ⟨x, fs_el_iff.mpr ⟨(h x).mp this.1, this.2⟩, b⟩
end
end
section
/-! X: one slot as a whole; the relation -/
section
variable {M N t h : Nat} {cap ld ov ms mg cc gm : Int32} {st e p sh jn dn dp sw sr rl ed rs ai ae ar hp ky : Nat → Nat} {ls lp rc dc pc se ch cp rp rb : Nat → Int32} {ydp : Nat → Int32}
theorem fx_40 {post : SX → Prop} (V : fs_V N t st e p jn dn) (ht : t < 600) (Wf : fs_W st e p jn dn sw sr rl ed rs ky) (Au : fs_Au t st e p jn ai ae ar) (Dc : fs_Dc st e p jn ai dc) (R : fs_Rc t st e p jn dn rc) (Pc : fs_Pc st dp pc) (H : fs_HE t st e p jn dn h hp se) (Sh : fs_Sh st e p sh) (Dp : fs_Dp t st dp ydp)
    (K : ∀ (h' : Nat) (ai' ae' ar' hp' sh' : Nat → Nat) (dc' se' : Nat → Int32), fs_Au (t + 1) st e p jn ai' ae' ar' → fs_Dc st e p jn ai' dc' → fs_Rc (t + 1) st e p jn dn (upd rc (t + 1) 0) → fs_HE (t + 1) st e p jn dn h' hp' se' → fs_Sh (fs_dep N (t + 1) dp st) e p sh' → fs_Pc (fs_dep N (t + 1) dp st) dp (upd pc (t + 1) 0) → post ((nI M), (nI N), cap, (nI (t + 1)), (nI (fs_ld N (fs_dep N (t + 1) dp st) e p)), ov, (ms + nI (fs_S (fs_mX (t + 1) st e p jn dn ai) N)), mg, (nI h'), cc, gm, (fs_A (fs_dep N (t + 1) dp st)), (fs_A e), (fs_A p), (fs_A sh'), (fs_A jn), (fs_A dn), ls, lp, (fs_A dp), (fs_A sw), (fs_A sr), (fs_A rl), (fs_A ed), (fs_A rs), (fs_A ai'), (fs_A ae'), (fs_A ar'), (upd rc (t + 1) 0), dc', (upd pc (t + 1) 0), (fs_A hp'), (fs_A ky), se', ch, cp, rp, rb)) : wX_runSlot_40 post (nI M) (nI N) cap (nI (t + 1)) (nI (fs_ld N st e p)) ov ms mg (nI h) cc gm (fs_A st) (fs_A e) (fs_A p) (fs_A sh) (fs_A jn) (fs_A dn) ls lp (fs_A dp) (fs_A sw) (fs_A sr) (fs_A rl) (fs_A ed) (fs_A rs) (fs_A ai) (fs_A ae) (fs_A ar) rc dc pc (fs_A hp) (fs_A ky) se ch cp rp rb := by
  unfold wX_runSlot_40
  refine fx_audit V ht Au Dc (fun x hx => ⟨(Wf x hx).1, (Wf x hx).2.1⟩) (fun ai' ae' ar' dc' A' D' => ?_)
  refine fx_rel V ht Wf R H (fun h' hp' se' R' H' => ?_)
  exact fx_dep V.1 ht (fun x hx => (Dp x hx).1) Pc Sh (fun sh' S' P' => K h' ai' ae' ar' hp' sh' dc' se' A' D' R' H' S' P') V.2.2.2.1
end
section
variable {M N t h : Nat} {cap ld ov ms mg cc gm : Int32} {st e p sh jn dn dp sw sr rl ed rs ai ae ar hp ky : Nat → Nat} {ls lp rc dc pc se ch cp rp rb : Nat → Int32} {yls ylp ydp yrp yrb : Nat → Int32} {lq sl : Nat → Nat}
theorem fx_runSlot {post : SX → Prop} (R : fs_R M N t h cap ld ov st e p sh jn dn dp sw sr rl ed rs ai ae ar hp ky ls lp rc dc pc se rp rb yls ylp ydp yrp yrb lq sl) (ht : t < 600)
    (K : ∀ (c : Nat) (ord : Nat → Nat) (h' : Nat) (gm' : Int32) (rl' ed' rs' ky' ai' ae' ar' hp' sh' : Nat → Nat) (rc' dc' pc' se' ch' cp' : Nat → Int32), fs_CS M N t st e p jn dn c ord → fs_AH M c ord lq (fs_kb t lq sl) → fs_R M N (t + 1) h' cap (nI (fs_ld N (fs_dep N (t + 1) dp st) e p)) ov (fs_dep N (t + 1) dp st) e p sh' jn (fs_RA 0 c ord (fun i => dn (ord i) + 1) (fun _ => true) dn) dp sw sr rl' ed' rs' ai' ae' ar' hp' ky' (fs_RA 0 c ord (fun _ => nI t) (fun _ => true) ls) (fs_RA 0 c ord (fun i => nI ((fs_pr M c ord lq (fs_kb t lq sl)) i)) (fun _ => true) lp) rc' dc' pc' se' (fs_RA (t % 64 * 4) c (fs_pr M c ord lq (fs_kb t lq sl)) (fun j => nI (ord j)) (fun _ => true) (fs_fill rp (t % 64 * 4) 4 (-1))) (fs_RA (t % 64 * 4) c (fs_pr M c ord lq (fs_kb t lq sl)) (fun i => nI (dn (ord i) + 1)) (fun _ => true) (fs_fill rb (t % 64 * 4) 4 0)) (fs_RA 0 c ord (fun _ => nI t) (fun _ => true) yls) (fs_RA 0 c ord (fun i => nI ((fs_pr M c ord lq (fs_kb t lq sl)) i)) (fun _ => true) ylp) ydp (fs_RA (t * 4) c (fs_pr M c ord lq (fs_kb t lq sl)) (fun j => nI (ord j)) (fun _ => true) (fs_fill yrp (t * 4) 4 (-1))) (fs_RA (t * 4) c (fs_pr M c ord lq (fs_kb t lq sl)) (fun i => nI (dn (ord i) + 1)) (fun _ => true) (fs_fill yrb (t * 4) 4 0)) (fs_RA 0 c ord (fun i => (fs_pr M c ord lq (fs_kb t lq sl)) i + 1) (fun _ => true) lq) (fs_RA 0 c ord (fun _ => t) (fun _ => true) sl) → post ((nI M), (nI N), cap, (nI (t + 1)), (nI (fs_ld N (fs_dep N (t + 1) dp st) e p)), ov, ((ms + nI (fs_S (fs_my (t + 1) st e p jn (fs_RA 0 c ord (fun i => dn (ord i) + 1) (fun _ => true) dn)) N))), ((mg + nI (fs_S (fs_gX ord (fs_pr M c ord lq (fs_kb t lq sl)) lq) c))), (nI h'), (nI c), gm', (fs_A ((fs_dep N (t + 1) dp st))), (fs_A e), (fs_A p), (fs_A sh'), (fs_A jn), (fs_A ((fs_RA 0 c ord (fun i => dn (ord i) + 1) (fun _ => true) dn))), ((fs_RA 0 c ord (fun _ => nI t) (fun _ => true) ls)), ((fs_RA 0 c ord (fun i => nI ((fs_pr M c ord lq (fs_kb t lq sl)) i)) (fun _ => true) lp)), (fs_A dp), (fs_A sw), (fs_A sr), (fs_A rl'), (fs_A ed'), (fs_A rs'), (fs_A ai'), (fs_A ae'), (fs_A ar'), rc', dc', pc', (fs_A hp'), (fs_A ky'), se', ch', cp', ((fs_RA (t % 64 * 4) c (fs_pr M c ord lq (fs_kb t lq sl)) (fun j => nI (ord j)) (fun _ => true) (fs_fill rp (t % 64 * 4) 4 (-1)))), ((fs_RA (t % 64 * 4) c (fs_pr M c ord lq (fs_kb t lq sl)) (fun i => nI (dn (ord i) + 1)) (fun _ => true) (fs_fill rb (t % 64 * 4) 4 0))))) : wpX_runSlot post ((nI M), (nI N), cap, (nI t), ld, ov, ms, mg, (nI h), cc, gm, (fs_A st), (fs_A e), (fs_A p), (fs_A sh), (fs_A jn), (fs_A dn), ls, lp, (fs_A dp), (fs_A sw), (fs_A sr), (fs_A rl), (fs_A ed), (fs_A rs), (fs_A ai), (fs_A ae), (fs_A ar), rc, dc, pc, (fs_A hp), (fs_A ky), se, ch, cp, rp, rb) := by
  obtain ⟨⟨m1, m2, m3, m4, m5, m6⟩, V, Wf, Au, Dc, Rc, Pc, H, Sh, Dp, L, Rg⟩ := R
  subst m6
  unfold wpX_runSlot
  refine fx_choose V m2 H (fun c ord h1 hp1 se1 ch1 cp1 S hch hcp H1 => ?_)
  have AH := fs_AH_of m1 m2 V S L
  have hst : ∀ i, i < c → st (ord i) ≠ 0 := fun i hi => by rw [fs_CS_st S hi]; decide
  have hlp : ∀ i, i < c → lp (ord i) = fs_pI (lq (ord i)) := fun i hi => (L.1 _ (hst i hi)).1
  have hlq : ∀ i, i < c → lq (ord i) ≤ M := fun i hi => (L.1 _ (hst i hi)).2.2.1
  have hls : ∀ i, i < c → lq (ord i) ≠ 0 → (ls (ord i) = nI t - 1 ↔ fs_kb t lq sl (ord i) = true) := fun i hi hl => by
    have := (L.1 _ (hst i hi)).2.2.2 hl
    exact fs_ls_of (by omega) hl this.1 this.2.2
  refine fx_keep AH (by omega) hch hlp hls (fun gm1 hg1 => ?_)
  refine fx_assign AH hch hcp hlp hg1 (fun gm2 cp2 hcp2 => ?_)
  refine fx_clear (by omega) ?_
  refine fx_exec (pr := (fs_pr M c ord lq (fs_kb t lq sl))) V S m2 (fun i hi => fs_pr_lt AH hi) (fs_pr_inj AH) hlq hch hcp2 hlp Wf Rc H1 (fun h2 hp2 rl2 ed2 rs2 ky2 se2 rc2 W2 R2 H2 => ?_)
  have V2 := fs_V_ex V S
  refine br_f (nI_ge (b := 600) ht (by decide)) (nm_r (nI_1 t) (fx_40 V2 ht W2 Au Dc R2 Pc H2 Sh Dp (fun h3 ai3 ae3 ar3 hp3 sh3 dc3 se3 A3 D3 R3 H3 S3 P3 => ?_)))
  have hmy : fs_S (fs_mX (t + 1) st e p jn (fs_RA 0 c ord (fun i => dn (ord i) + 1) (fun _ => true) dn) ai) N = fs_S (fs_my (t + 1) st e p jn (fs_RA 0 c ord (fun i => dn (ord i) + 1) (fun _ => true) dn)) N := fs_S_congr (fun x _ => (fs_my_eq (fun hx => by
    have v := fs_V_x V (show st x ≠ 0 by omega)
    have a := Au x hx
    exact ⟨v.2.2.1, v.2.2.2.1, a.1, a.2.1, a.2.2.1⟩)).symm)
  rw [hmy]
  refine K c ord h3 gm2 rl2 ed2 rs2 ky2 ai3 ae3 ar3 hp3 sh3 _ dc3 _ se3 ch1 cp2 S AH ?_
  exact ⟨⟨m1, m2, m3, m4, m5, rfl⟩, fs_V_next V2 ht, fs_W_st (fun x => fs_dep_1.mp) W2, fs_Au_st (fun x => fs_dep_1.mp) A3, fs_Dc_st (fun x => fs_dep_1) D3, fs_Rc_st (fun x => fs_dep_1) R3, P3, fs_HE_st (fun x => fs_dep_1) H3, S3, fs_Dp_next V.2.2.2.1 Dp, fs_L_next m1 V S AH L, fs_Rg_next m2 (fun i hi => fs_pr_lt AH hi) Rg⟩
end
/-- the relation: written by what it gives, so that opening it costs nothing -/
def i_Rel (_k : Nat) (u : SX) (v : SY) : Prop := ∀ P : SX → SY → Prop, (∀ (M N t h : Nat) (cap ld ov ms mg cc gm : Int32) (st e p sh jn dn dp sw sr rl ed rs ai ae ar hp ky : Nat → Nat) (ls lp rc dc pc se ch cp rp rb yls ylp ydp yrp yrb yo : Nat → Int32) (lq sl : Nat → Nat), fs_R M N t h cap ld ov st e p sh jn dn dp sw sr rl ed rs ai ae ar hp ky ls lp rc dc pc se rp rb yls ylp ydp yrp yrb lq sl → P ((nI M), (nI N), cap, (nI t), ld, ov, ms, mg, (nI h), cc, gm, (fs_A st), (fs_A e), (fs_A p), (fs_A sh), (fs_A jn), (fs_A dn), ls, lp, (fs_A dp), (fs_A sw), (fs_A sr), (fs_A rl), (fs_A ed), (fs_A rs), (fs_A ai), (fs_A ae), (fs_A ar), rc, dc, pc, (fs_A hp), (fs_A ky), se, ch, cp, rp, rb) ((nI M), (nI N), (nI t), ms, mg, ov, (fs_A st), (fs_A e), (fs_A p), (fs_A jn), (fs_A dn), yls, ylp, ydp, yrp, yrb, yo)) → P u v
theorem i_up {k : Nat} {u : SX} {v : SY} (h : i_Rel k u v) : i_Rel (k + 4) u v := h
theorem fs_mk {k : Nat} (M N t h : Nat) (cap ld ov ms mg cc gm : Int32) (st e p sh jn dn dp sw sr rl ed rs ai ae ar hp ky : Nat → Nat) (ls lp rc dc pc se ch cp rp rb yls ylp ydp yrp yrb yo : Nat → Int32) (lq sl : Nat → Nat) (R : fs_R M N t h cap ld ov st e p sh jn dn dp sw sr rl ed rs ai ae ar hp ky ls lp rc dc pc se rp rb yls ylp ydp yrp yrb lq sl) : i_Rel k ((nI M), (nI N), cap, (nI t), ld, ov, ms, mg, (nI h), cc, gm, (fs_A st), (fs_A e), (fs_A p), (fs_A sh), (fs_A jn), (fs_A dn), ls, lp, (fs_A dp), (fs_A sw), (fs_A sr), (fs_A rl), (fs_A ed), (fs_A rs), (fs_A ai), (fs_A ae), (fs_A ar), rc, dc, pc, (fs_A hp), (fs_A ky), se, ch, cp, rp, rb) ((nI M), (nI N), (nI t), ms, mg, ov, (fs_A st), (fs_A e), (fs_A p), (fs_A jn), (fs_A dn), yls, ylp, ydp, yrp, yrb, yo) := fun _ hP => hP M N t h cap ld ov ms mg cc gm st e p sh jn dn dp sw sr rl ed rs ai ae ar hp ky ls lp rc dc pc se ch cp rp rb yls ylp ydp yrp yrb yo lq sl R
end
section
/-! run: X's loop, Y's walk carried along -/
theorem fs_runL {k s : Nat} (hs : s ≤ 16) {Y0 : (Int32 → SY → Prop) → Prop} : ∀ (d i tot : Nat) (M N t h : Nat) (cap ld ov ms mg cc gm : Int32) (st e p sh jn dn dp sw sr rl ed rs ai ae ar hp ky : Nat → Nat) (ls lp rc dc pc se ch cp rp rb yls ylp ydp yrp yrb yo : Nat → Int32) (lq sl : Nat → Nat), fs_R M N t h cap ld ov st e p sh jn dn dp sw sr rl ed rs ai ae ar hp ky ls lp rc dc pc se rp rb yls ylp ydp yrp yrb lq sl → i + d = s → t + d ≤ 600 → (∀ postY : Int32 → SY → Prop, wY_run_32 postY (nI s) (d + 1) (nI tot) (nI i) (nI M) (nI N) (nI t) ms mg ov (fs_A st) (fs_A e) (fs_A p) (fs_A jn) (fs_A dn) yls ylp ydp yrp yrb yo → Y0 postY) → wX_run_32 (fun r u' => Y0 (fun r' v' => r' = r ∧ i_Rel k u' v')) (nI s) (d + 1) (nI tot) (nI i) (nI M) (nI N) cap (nI t) ld ov ms mg (nI h) cc gm (fs_A st) (fs_A e) (fs_A p) (fs_A sh) (fs_A jn) (fs_A dn) ls lp (fs_A dp) (fs_A sw) (fs_A sr) (fs_A rl) (fs_A ed) (fs_A rs) (fs_A ai) (fs_A ae) (fs_A ar) rc dc pc (fs_A hp) (fs_A ky) se ch cp rp rb := by
  intro d
  induction d with
  | zero =>
    intro i tot M N t h cap ld ov ms mg cc gm st e p sh jn dn dp sw sr rl ed rs ai ae ar hp ky ls lp rc dc pc se ch cp rp rb yls ylp ydp yrp yrb yo lq sl R hi ht hY
    have hc : nI s ≤ nI i := nI_le (by omega) (by omega)
    exact br_t hc (hY _ (br_t hc ⟨rfl, fs_mk M N t h cap ld ov ms mg cc gm st e p sh jn dn dp sw sr rl ed rs ai ae ar hp ky ls lp rc dc pc se ch cp rp rb yls ylp ydp yrp yrb yo lq sl R⟩))
  | succ d ih =>
    intro i tot M N t h cap ld ov ms mg cc gm st e p sh jn dn dp sw sr rl ed rs ai ae ar hp ky ls lp rc dc pc se ch cp rp rb yls ylp ydp yrp yrb yo lq sl R hi ht hY
    have hc : ¬ nI s ≤ nI i := nI_ge (by omega) (by omega)
    have R0 := R
    obtain ⟨⟨m1, m2, m3, m4, m5, m6⟩, V, Wf, Au, Dc, Rc, Pc, H, Sh, Dp, L, Rg⟩ := R0
    refine br_f hc (fx_runSlot R (by omega) (fun c ord h' gm' rl' ed' rs' ky' ai' ae' ar' hp' sh' rc' dc' pc' se' ch' cp' S AH R' => nm_r (nI_add tot c) (nm_r (nI_1 i) ?_)))
    refine ih (i + 1) (tot + c) M N (t + 1) h' cap (nI (fs_ld N (fs_dep N (t + 1) dp st) e p)) ov (ms + nI (fs_S (fs_my (t + 1) st e p jn (fs_RA 0 c ord (fun i => dn (ord i) + 1) (fun _ => true) dn)) N)) (mg + nI (fs_S (fs_gX ord (fs_pr M c ord lq (fs_kb t lq sl)) lq) c)) (nI c) gm' (fs_dep N (t + 1) dp st) e p sh' jn (fs_RA 0 c ord (fun i => dn (ord i) + 1) (fun _ => true) dn) dp sw sr rl' ed' rs' ai' ae' ar' hp' ky' (fs_RA 0 c ord (fun _ => nI t) (fun _ => true) ls) (fs_RA 0 c ord (fun i => nI ((fs_pr M c ord lq (fs_kb t lq sl)) i)) (fun _ => true) lp) rc' dc' pc' se' ch' cp' (fs_RA (t % 64 * 4) c (fs_pr M c ord lq (fs_kb t lq sl)) (fun j => nI (ord j)) (fun _ => true) (fs_fill rp (t % 64 * 4) 4 (-1))) (fs_RA (t % 64 * 4) c (fs_pr M c ord lq (fs_kb t lq sl)) (fun i => nI (dn (ord i) + 1)) (fun _ => true) (fs_fill rb (t % 64 * 4) 4 0)) (fs_RA 0 c ord (fun _ => nI t) (fun _ => true) yls) (fs_RA 0 c ord (fun i => nI ((fs_pr M c ord lq (fs_kb t lq sl)) i)) (fun _ => true) ylp) ydp (fs_RA (t * 4) c (fs_pr M c ord lq (fs_kb t lq sl)) (fun j => nI (ord j)) (fun _ => true) (fs_fill yrp (t * 4) 4 (-1))) (fs_RA (t * 4) c (fs_pr M c ord lq (fs_kb t lq sl)) (fun i => nI (dn (ord i) + 1)) (fun _ => true) (fs_fill yrb (t * 4) 4 0)) (fs_O (fs_fill yo 0 4 (-1)) c ord N) (fs_RA 0 c ord (fun i => (fs_pr M c ord lq (fs_kb t lq sl)) i + 1) (fun _ => true) lq) (fs_RA 0 c ord (fun _ => t) (fun _ => true) sl) R' (by omega) (by omega) (fun postY hq => hY postY (br_f hc ?_))
    have hst : ∀ i, i < c → st (ord i) ≠ 0 := fun i hi => by rw [fs_CS_st S hi]; decide
    refine fy_runSlot (dp := dp) V S AH (by omega) (fun i hi => (L.1 _ (hst i hi)).2.1) (fun i hi hl => ?_) (fun x hx => ⟨(Dp x hx).2.2, (Dp x hx).2.1⟩) (nm_r (nI_add tot c) (nm_r (nI_1 i) hq))
    have := (L.1 _ (hst i hi)).2.2.2 hl
    exact fs_ls_of (by omega) hl this.2.1 this.2.2
theorem fs_small {v : Int32} {b : Nat} (hb : b < 2 ^ 31) (h1 : ¬ v < 1) (h2 : v ≤ nI b) : ∃ s : Nat, 1 ≤ s ∧ s ≤ b ∧ v = nI s := by
  have h0 : ¬ v < 0 := fun z => h1 (Int32.lt_trans z (by decide))
  obtain ⟨j, hj, rfl⟩ := nI_of h0
  rw [nI_leI hj hb] at h2
  refine ⟨j, ?_, h2, rfl⟩
  rcases Nat.lt_or_ge j 1 with z | z
  · exact absurd (nI_lt (b := 1) z (by decide)) h1
  · exact z
theorem i_vc_run {k : Nat} {u : SX} {v : SY} (I : i_Rel k u v) (hk : k + 4 ≤ 2050) (v1 : Int32) : wpX_run (fun r u' => wpY_run (fun r' v' => r' = r ∧ i_Rel (k + 4) u' v') v v1) u v1 := by
  refine I (fun u v => wpX_run (fun r u' => wpY_run (fun r' v' => r' = r ∧ i_Rel (k + 4) u' v') v v1) u v1) ?_
  intro M N t h cap ld ov ms mg cc gm st e p sh jn dn dp sw sr rl ed rs ai ae ar hp ky ls lp rc dc pc se ch cp rp rb yls ylp ydp yrp yrb yo lq sl R
  have Q : ∀ k, i_Rel k ((nI M), (nI N), cap, (nI t), ld, ov, ms, mg, (nI h), cc, gm, (fs_A st), (fs_A e), (fs_A p), (fs_A sh), (fs_A jn), (fs_A dn), ls, lp, (fs_A dp), (fs_A sw), (fs_A sr), (fs_A rl), (fs_A ed), (fs_A rs), (fs_A ai), (fs_A ae), (fs_A ar), rc, dc, pc, (fs_A hp), (fs_A ky), se, ch, cp, rp, rb) ((nI M), (nI N), (nI t), ms, mg, ov, (fs_A st), (fs_A e), (fs_A p), (fs_A jn), (fs_A dn), yls, ylp, ydp, yrp, yrb, yo) := fun k => fs_mk M N t h cap ld ov ms mg cc gm st e p sh jn dn dp sw sr rl ed rs ai ae ar hp ky ls lp rc dc pc se ch cp rp rb yls ylp ydp yrp yrb yo lq sl R
  have ht := R.2.1.2.1
  by_cases h1 : v1 < 1
  · exact br_t h1 (br_t h1 ⟨rfl, Q _⟩)
  · by_cases h2 : v1 ≤ 16
    · obtain ⟨s, s1, s2, rfl⟩ := fs_small (b := 16) (by decide) h1 h2
      by_cases h3 : nI t + nI s ≤ 600
      · refine br_f h1 (br_t h2 (br_t h3 ⟨s + 1, ?_⟩))
        have h4 : t + s ≤ 600 := by
          rw [nI_add] at h3
          exact (nI_leI (b := 600) (by omega) (by decide)).mp h3
        exact fs_runL (Y0 := fun postY => wpY_run postY ((nI M), (nI N), (nI t), ms, mg, ov, (fs_A st), (fs_A e), (fs_A p), (fs_A jn), (fs_A dn), yls, ylp, ydp, yrp, yrb, yo) (nI s)) s2 s 0 0 M N t h cap ld ov ms mg cc gm st e p sh jn dn dp sw sr rl ed rs ai ae ar hp ky ls lp rc dc pc se ch cp rp rb yls ylp ydp yrp yrb yo lq sl R (by omega) h4 (fun postY hq => br_f h1 (br_t h2 (br_t h3 ⟨s + 1, hq⟩)))
      · exact br_f h1 (br_t h2 (br_f h3 (br_f h1 (br_t h2 (br_f h3 ⟨rfl, Q _⟩)))))
    · exact br_f h1 (br_f h2 (br_f h1 (br_f h2 ⟨rfl, Q _⟩)))
end
section
/-! the getters -/
section
variable {M N t h : Nat} {cap ld ov ms mg cc gm : Int32} {st e p sh jn dn dp sw sr rl ed rs ai ae ar hp ky : Nat → Nat} {ls lp rc dc pc se ch cp rp rb : Nat → Int32}
def fs_LK (N : Nat) (st : Nat → Nat) (v w : Int32) : Prop := ∃ j a : Nat, v = nI j ∧ j < N ∧ st j = 1 ∧ w = nI a ∧ a < 32
theorem fs_a32 {w : Int32} (h0 : ¬ w < 0) (h1 : ¬ (32 : Int32) ≤ w) : ∃ a : Nat, w = nI a ∧ a < 32 := by
  obtain ⟨a, ha, rfl⟩ := nI_of h0
  refine ⟨a, rfl, ?_⟩
  rcases Nat.lt_or_ge a 32 with z | z
  · exact z
  · exact absurd (nI_le (a := 32) z ha) h1
theorem fx_look {post : Int32 → Prop} {v w : Int32} (hN : N ≤ 16) (hs : ∀ x, st x ≤ 2) (hn : ¬ fs_LK N st v w → post 0) (hy : fs_LK N st v w → post 1) : wpX_canLook post ((nI M), (nI N), cap, (nI t), ld, ov, ms, mg, (nI h), cc, gm, (fs_A st), (fs_A e), (fs_A p), (fs_A sh), (fs_A jn), (fs_A dn), ls, lp, (fs_A dp), (fs_A sw), (fs_A sr), (fs_A rl), (fs_A ed), (fs_A rs), (fs_A ai), (fs_A ae), (fs_A ar), rc, dc, pc, (fs_A hp), (fs_A ky), se, ch, cp, rp, rb) v w := by
  unfold wpX_canLook
  rcases pk_ix v (show N < 2 ^ 31 by omega) with z | z | ⟨j, hj, rfl⟩
  · refine fx_isActive_n (Or.inl z) (br_t rfl (hn ?_))
    rintro ⟨j, a, rfl, b, _⟩
    exact absurd z (nI_pos (by omega))
  · refine fx_isActive_n (Or.inr z) (br_t rfl (hn ?_))
    rintro ⟨j, a, rfl, b, _⟩
    exact absurd z (nI_ge b (by omega))
  · refine fx_isActive_y hj hN (hs j) (fun y => br_f (by decide) (br_c (fun u => hn ?_) (fun u => br_c (fun x => hn ?_) (fun x => ?_)))) (fun y => br_t rfl (hn ?_))
    · rintro ⟨_, a, _, _, _, rfl, d⟩
      exact absurd u (nI_pos (by omega))
    · rintro ⟨_, a, _, _, _, rfl, d⟩
      exact absurd x (nI_ge (b := 32) d (by decide))
    · obtain ⟨a, rfl, ha⟩ := fs_a32 u x
      exact hy ⟨j, a, rfl, hj, y, rfl, ha⟩
    · rintro ⟨j', a, e1, b, c, _⟩
      rw [nI_eq (by omega) (by omega)] at e1
      subst e1
      exact y c
theorem fx_rem {post : Int32 → Prop} {v w : Int32} (hn : ¬ (¬ w < 0 ∧ w < nI M ∧ ¬ v < 0 ∧ ¬ nI t ≤ v ∧ ¬ v < nI t - 64) → post 0) (hy : (¬ w < 0 ∧ w < nI M ∧ ¬ v < 0 ∧ ¬ nI t ≤ v ∧ ¬ v < nI t - 64) → post 1) : wpX_isRemembered post ((nI M), (nI N), cap, (nI t), ld, ov, ms, mg, (nI h), cc, gm, (fs_A st), (fs_A e), (fs_A p), (fs_A sh), (fs_A jn), (fs_A dn), ls, lp, (fs_A dp), (fs_A sw), (fs_A sr), (fs_A rl), (fs_A ed), (fs_A rs), (fs_A ai), (fs_A ae), (fs_A ar), rc, dc, pc, (fs_A hp), (fs_A ky), se, ch, cp, rp, rb) v w :=
  br_c (fun a => hn (fun z => z.1 a)) (fun a => br_c (fun b => br_c (fun c => hn (fun z => z.2.2.1 c)) (fun c => br_c (fun d => hn (fun z => z.2.2.2.1 d)) (fun d => br_c (fun f => hn (fun z => z.2.2.2.2 f)) (fun f => hy ⟨a, b, c, d, f⟩)))) (fun b => hn (fun z => b z.2.1)))
end
section
variable {M N t : Nat} {ms mg ov : Int32} {st e p jn dn : Nat → Nat} {yls ylp ydp yrp yrb yo : Nat → Int32}
theorem fy_look {post : Int32 → Prop} {v w : Int32} (hN : N ≤ 16) (hs : ∀ x, st x ≤ 2) (hn : ¬ fs_LK N st v w → post 0) (hy : fs_LK N st v w → post 1) : wpY_canLook post ((nI M), (nI N), (nI t), ms, mg, ov, (fs_A st), (fs_A e), (fs_A p), (fs_A jn), (fs_A dn), yls, ylp, ydp, yrp, yrb, yo) v w := by
  unfold wpY_canLook
  rcases pk_ix v (show N < 2 ^ 31 by omega) with z | z | ⟨j, hj, rfl⟩
  · refine fy_active_n (Or.inl z) (br_t rfl (hn ?_))
    rintro ⟨j, a, rfl, b, _⟩
    exact absurd z (nI_pos (by omega))
  · refine fy_active_n (Or.inr z) (br_t rfl (hn ?_))
    rintro ⟨j, a, rfl, b, _⟩
    exact absurd z (nI_ge b (by omega))
  · refine fy_active_y hj hN (hs j) (fun y => br_f (by decide) (br_c (fun u => hn ?_) (fun u => br_c (fun x => hn ?_) (fun x => ?_)))) (fun y => br_t rfl (hn ?_))
    · rintro ⟨_, a, _, _, _, rfl, d⟩
      exact absurd u (nI_pos (by omega))
    · rintro ⟨_, a, _, _, _, rfl, d⟩
      exact absurd x (nI_ge (b := 32) d (by decide))
    · obtain ⟨a, rfl, ha⟩ := fs_a32 u x
      exact hy ⟨j, a, rfl, hj, y, rfl, ha⟩
    · rintro ⟨j', a, e1, b, c, _⟩
      rw [nI_eq (by omega) (by omega)] at e1
      subst e1
      exact y c
theorem fy_rem {post : Int32 → Prop} {v w : Int32} (hn : ¬ (¬ w < 0 ∧ w < nI M ∧ ¬ v < 0 ∧ ¬ nI t ≤ v ∧ ¬ v < nI t - 64) → post 0) (hy : (¬ w < 0 ∧ w < nI M ∧ ¬ v < 0 ∧ ¬ nI t ≤ v ∧ ¬ v < nI t - 64) → post 1) : wpY_remembered post ((nI M), (nI N), (nI t), ms, mg, ov, (fs_A st), (fs_A e), (fs_A p), (fs_A jn), (fs_A dn), yls, ylp, ydp, yrp, yrb, yo) v w :=
  br_c (fun a => hn (fun z => z.1 a)) (fun a => br_c (fun b => br_c (fun c => hn (fun z => z.2.2.1 c)) (fun c => br_c (fun d => hn (fun z => z.2.2.2.1 d)) (fun d => br_c (fun f => hn (fun z => z.2.2.2.2 f)) (fun f => hy ⟨a, b, c, d, f⟩)))) (fun b => hn (fun z => b z.2.1)))
end
theorem fs_place (N : Nat) (hN : N ≤ 16) (v : Int32) : (v < 0 ∨ nI N ≤ v) ∨ ∃ j : Nat, j < N ∧ v = nI j := by
  rcases pk_ix v (show N < 2 ^ 31 by omega) with z | z | z
  · exact Or.inl (Or.inl z)
  · exact Or.inl (Or.inr z)
  · exact Or.inr z
theorem i_vc_now {k : Nat} {u : SX} {v : SY} (I : i_Rel k u v) (hk : k + 4 ≤ 2050) : wpX_now (fun r => wpY_now (fun r' => r' = r ∧ i_Rel (k + 4) u v) v) u := by
  refine I (fun u v => wpX_now (fun r => wpY_now (fun r' => r' = r ∧ i_Rel (k + 4) u v) v) u) ?_
  intro M N t h cap ld ov ms mg cc gm st e p sh jn dn dp sw sr rl ed rs ai ae ar hp ky ls lp rc dc pc se ch cp rp rb yls ylp ydp yrp yrb yo lq sl R
  exact And.intro rfl (fs_mk M N t h cap ld ov ms mg cc gm st e p sh jn dn dp sw sr rl ed rs ai ae ar hp ky ls lp rc dc pc se ch cp rp rb yls ylp ydp yrp yrb yo lq sl R)
theorem i_vc_missed {k : Nat} {u : SX} {v : SY} (I : i_Rel k u v) (hk : k + 4 ≤ 2050) : wpX_missed (fun r => wpY_missed (fun r' => r' = r ∧ i_Rel (k + 4) u v) v) u := by
  refine I (fun u v => wpX_missed (fun r => wpY_missed (fun r' => r' = r ∧ i_Rel (k + 4) u v) v) u) ?_
  intro M N t h cap ld ov ms mg cc gm st e p sh jn dn dp sw sr rl ed rs ai ae ar hp ky ls lp rc dc pc se ch cp rp rb yls ylp ydp yrp yrb yo lq sl R
  exact And.intro rfl (fs_mk M N t h cap ld ov ms mg cc gm st e p sh jn dn dp sw sr rl ed rs ai ae ar hp ky ls lp rc dc pc se ch cp rp rb yls ylp ydp yrp yrb yo lq sl R)
theorem i_vc_migrations {k : Nat} {u : SX} {v : SY} (I : i_Rel k u v) (hk : k + 4 ≤ 2050) : wpX_migrations (fun r => wpY_migrations (fun r' => r' = r ∧ i_Rel (k + 4) u v) v) u := by
  refine I (fun u v => wpX_migrations (fun r => wpY_migrations (fun r' => r' = r ∧ i_Rel (k + 4) u v) v) u) ?_
  intro M N t h cap ld ov ms mg cc gm st e p sh jn dn dp sw sr rl ed rs ai ae ar hp ky ls lp rc dc pc se ch cp rp rb yls ylp ydp yrp yrb yo lq sl R
  exact And.intro rfl (fs_mk M N t h cap ld ov ms mg cc gm st e p sh jn dn dp sw sr rl ed rs ai ae ar hp ky ls lp rc dc pc se ch cp rp rb yls ylp ydp yrp yrb yo lq sl R)
theorem i_vc_overloaded {k : Nat} {u : SX} {v : SY} (I : i_Rel k u v) (hk : k + 4 ≤ 2050) : wpX_overloaded (fun r => wpY_overloaded (fun r' => r' = r ∧ i_Rel (k + 4) u v) v) u := by
  refine I (fun u v => wpX_overloaded (fun r => wpY_overloaded (fun r' => r' = r ∧ i_Rel (k + 4) u v) v) u) ?_
  intro M N t h cap ld ov ms mg cc gm st e p sh jn dn dp sw sr rl ed rs ai ae ar hp ky ls lp rc dc pc se ch cp rp rb yls ylp ydp yrp yrb yo lq sl R
  have ho := R.1.2.2.2.2.1
  have hn : narrow .boolean (.int ov) = .int ov := by
    rcases ho with rfl | rfl <;> rfl
  exact And.intro hn (And.intro hn (And.intro rfl (fs_mk M N t h cap ld ov ms mg cc gm st e p sh jn dn dp sw sr rl ed rs ai ae ar hp ky ls lp rc dc pc se ch cp rp rb yls ylp ydp yrp yrb yo lq sl R)))
theorem i_vc_spare {k : Nat} {u : SX} {v : SY} (I : i_Rel k u v) (hk : k + 4 ≤ 2050) : wpX_spare (fun r => wpY_spare (fun r' => r' = r ∧ i_Rel (k + 4) u v) v) u := by
  refine I (fun u v => wpX_spare (fun r => wpY_spare (fun r' => r' = r ∧ i_Rel (k + 4) u v) v) u) ?_
  intro M N t h cap ld ov ms mg cc gm st e p sh jn dn dp sw sr rl ed rs ai ae ar hp ky ls lp rc dc pc se ch cp rp rb yls ylp ydp yrp yrb yo lq sl R
  unfold wpX_spare wpY_spare
  refine fy_load R.2.1 (And.intro ?_ (fs_mk M N t h cap ld ov ms mg cc gm st e p sh jn dn dp sw sr rl ed rs ai ae ar hp ky ls lp rc dc pc se ch cp rp rb yls ylp ydp yrp yrb yo lq sl R))
  obtain ⟨⟨m1, m2, m3, m4, m5, m6⟩, _⟩ := R
  rw [m4, m6, fs_720, pk_mul]
theorem i_vc_state {k : Nat} {u : SX} {v : SY} (I : i_Rel k u v) (hk : k + 4 ≤ 2050) (v1 : Int32) : wpX_state (fun r => wpY_state (fun r' => r' = r ∧ i_Rel (k + 4) u v) v v1) u v1 := by
  refine I (fun u v => wpX_state (fun r => wpY_state (fun r' => r' = r ∧ i_Rel (k + 4) u v) v v1) u v1) ?_
  intro M N t h cap ld ov ms mg cc gm st e p sh jn dn dp sw sr rl ed rs ai ae ar hp ky ls lp rc dc pc se ch cp rp rb yls ylp ydp yrp yrb yo lq sl R
  have Q : i_Rel (k + 4) ((nI M), (nI N), cap, (nI t), ld, ov, ms, mg, (nI h), cc, gm, (fs_A st), (fs_A e), (fs_A p), (fs_A sh), (fs_A jn), (fs_A dn), ls, lp, (fs_A dp), (fs_A sw), (fs_A sr), (fs_A rl), (fs_A ed), (fs_A rs), (fs_A ai), (fs_A ae), (fs_A ar), rc, dc, pc, (fs_A hp), (fs_A ky), se, ch, cp, rp, rb) ((nI M), (nI N), (nI t), ms, mg, ov, (fs_A st), (fs_A e), (fs_A p), (fs_A jn), (fs_A dn), yls, ylp, ydp, yrp, yrb, yo) := fs_mk M N t h cap ld ov ms mg cc gm st e p sh jn dn dp sw sr rl ed rs ai ae ar hp ky ls lp rc dc pc se ch cp rp rb yls ylp ydp yrp yrb yo lq sl R
  have hN := R.2.1.1
  unfold wpX_state wpY_state
  rcases fs_place N hN v1 with hv | ⟨j, hj, rfl⟩
  · exact fx_isPlace_n hv (br_t rfl (fy_inRange_n hv (br_t rfl ⟨rfl, Q⟩)))
  · exact fx_isPlace_y hj hN (br_f (by decide) (And.intro (fs_in (by omega)) (fy_inRange_y hj hN (br_f (by decide) (And.intro (fs_in (by omega)) ⟨rfl, Q⟩)))))
end
section
/-! the getters, printed by a small program -/
theorem fs_rm {M t : Nat} {v w : Int32} (hM : M ≤ 4) (ht : t ≤ 600) (h : ¬ w < 0 ∧ w < nI M ∧ ¬ v < 0 ∧ ¬ nI t ≤ v ∧ ¬ v < nI t - 64) : ∃ s q : Nat, v = nI s ∧ w = nI q ∧ s < t ∧ t ≤ s + 64 ∧ q < M ∧ (v &&& 63) * 4 + w = nI (s % 64 * 4 + q) ∧ v * 4 + w = nI (s * 4 + q) ∧ q < 4 := by
  obtain ⟨h1, h2, h3, h4, h5⟩ := h
  obtain ⟨q, hq, rfl⟩ := nI_of h1
  obtain ⟨s, hs, rfl⟩ := nI_of h3
  rw [nI_ltI hq (by omega)] at h2
  have h4' : s < t := by
    rcases Nat.lt_or_ge s t with z | z
    · exact z
    · exact absurd (nI_le z hs) h4
  have h5' : t ≤ s + 64 := by
    rcases Nat.lt_or_ge (s + 64) t with z | z
    · refine absurd ?_ h5
      rw [show (64 : Int32) = nI 64 from rfl, pk_sub (by omega)]
      exact nI_lt (by omega) (by omega)
    · exact z
  refine ⟨s, q, rfl, rfl, h4', h5', h2, ?_, ?_, by omega⟩
  · rw [fs_63 hs, show (4 : Int32) = nI 4 from rfl, pk_mul, nI_add]
  · rw [show (4 : Int32) = nI 4 from rfl, pk_mul, nI_add]
theorem i_vc_cost {k : Nat} {u : SX} {v : SY} (I : i_Rel k u v) (hk : k + 4 ≤ 2050) (v1 : Int32) : wpX_cost (fun r => wpY_cost (fun r' => r' = r ∧ i_Rel (k + 4) u v) v v1) u v1 := by
  refine I (fun u v => wpX_cost (fun r => wpY_cost (fun r' => r' = r ∧ i_Rel (k + 4) u v) v v1) u v1) ?_
  intro M N t h cap ld ov ms mg cc gm st e p sh jn dn dp sw sr rl ed rs ai ae ar hp ky ls lp rc dc pc se ch cp rp rb yls ylp ydp yrp yrb yo lq sl R
  have Q : i_Rel (k + 4) ((nI M), (nI N), cap, (nI t), ld, ov, ms, mg, (nI h), cc, gm, (fs_A st), (fs_A e), (fs_A p), (fs_A sh), (fs_A jn), (fs_A dn), ls, lp, (fs_A dp), (fs_A sw), (fs_A sr), (fs_A rl), (fs_A ed), (fs_A rs), (fs_A ai), (fs_A ae), (fs_A ar), rc, dc, pc, (fs_A hp), (fs_A ky), se, ch, cp, rp, rb) ((nI M), (nI N), (nI t), ms, mg, ov, (fs_A st), (fs_A e), (fs_A p), (fs_A jn), (fs_A dn), yls, ylp, ydp, yrp, yrb, yo) := fs_mk M N t h cap ld ov ms mg cc gm st e p sh jn dn dp sw sr rl ed rs ai ae ar hp ky ls lp rc dc pc se ch cp rp rb yls ylp ydp yrp yrb yo lq sl R
  have hN := R.2.1.1
  have hs := R.2.1.2.2.1
  unfold wpX_cost wpY_cost
  rcases fs_place N hN v1 with hv | ⟨j, hj, rfl⟩
  · exact fx_isTaken_n hv (br_t rfl (fy_present_n hv (br_t rfl ⟨rfl, Q⟩)))
  · refine fx_isTaken_y hj hN (hs j) (fun h => br_t rfl (fy_present_y hj hN (hs j) (fun _ => br_t rfl ⟨rfl, Q⟩) (fun h' => absurd h h'))) (fun h => br_f (by decide) (And.intro (fs_in (by omega)) (fy_present_y hj hN (hs j) (fun h' => absurd h' h) (fun _ => br_f (by decide) (And.intro (fs_in (by omega)) ⟨rfl, Q⟩)))))
theorem i_vc_period {k : Nat} {u : SX} {v : SY} (I : i_Rel k u v) (hk : k + 4 ≤ 2050) (v1 : Int32) : wpX_period (fun r => wpY_period (fun r' => r' = r ∧ i_Rel (k + 4) u v) v v1) u v1 := by
  refine I (fun u v => wpX_period (fun r => wpY_period (fun r' => r' = r ∧ i_Rel (k + 4) u v) v v1) u v1) ?_
  intro M N t h cap ld ov ms mg cc gm st e p sh jn dn dp sw sr rl ed rs ai ae ar hp ky ls lp rc dc pc se ch cp rp rb yls ylp ydp yrp yrb yo lq sl R
  have Q : i_Rel (k + 4) ((nI M), (nI N), cap, (nI t), ld, ov, ms, mg, (nI h), cc, gm, (fs_A st), (fs_A e), (fs_A p), (fs_A sh), (fs_A jn), (fs_A dn), ls, lp, (fs_A dp), (fs_A sw), (fs_A sr), (fs_A rl), (fs_A ed), (fs_A rs), (fs_A ai), (fs_A ae), (fs_A ar), rc, dc, pc, (fs_A hp), (fs_A ky), se, ch, cp, rp, rb) ((nI M), (nI N), (nI t), ms, mg, ov, (fs_A st), (fs_A e), (fs_A p), (fs_A jn), (fs_A dn), yls, ylp, ydp, yrp, yrb, yo) := fs_mk M N t h cap ld ov ms mg cc gm st e p sh jn dn dp sw sr rl ed rs ai ae ar hp ky ls lp rc dc pc se ch cp rp rb yls ylp ydp yrp yrb yo lq sl R
  have hN := R.2.1.1
  have hs := R.2.1.2.2.1
  unfold wpX_period wpY_period
  rcases fs_place N hN v1 with hv | ⟨j, hj, rfl⟩
  · exact fx_isTaken_n hv (br_t rfl (fy_present_n hv (br_t rfl ⟨rfl, Q⟩)))
  · refine fx_isTaken_y hj hN (hs j) (fun h => br_t rfl (fy_present_y hj hN (hs j) (fun _ => br_t rfl ⟨rfl, Q⟩) (fun h' => absurd h h'))) (fun h => br_f (by decide) (And.intro (fs_in (by omega)) (fy_present_y hj hN (hs j) (fun h' => absurd h' h) (fun _ => br_f (by decide) (And.intro (fs_in (by omega)) ⟨rfl, Q⟩)))))
theorem i_vc_done {k : Nat} {u : SX} {v : SY} (I : i_Rel k u v) (hk : k + 4 ≤ 2050) (v1 : Int32) : wpX_done (fun r => wpY_done (fun r' => r' = r ∧ i_Rel (k + 4) u v) v v1) u v1 := by
  refine I (fun u v => wpX_done (fun r => wpY_done (fun r' => r' = r ∧ i_Rel (k + 4) u v) v v1) u v1) ?_
  intro M N t h cap ld ov ms mg cc gm st e p sh jn dn dp sw sr rl ed rs ai ae ar hp ky ls lp rc dc pc se ch cp rp rb yls ylp ydp yrp yrb yo lq sl R
  have Q : i_Rel (k + 4) ((nI M), (nI N), cap, (nI t), ld, ov, ms, mg, (nI h), cc, gm, (fs_A st), (fs_A e), (fs_A p), (fs_A sh), (fs_A jn), (fs_A dn), ls, lp, (fs_A dp), (fs_A sw), (fs_A sr), (fs_A rl), (fs_A ed), (fs_A rs), (fs_A ai), (fs_A ae), (fs_A ar), rc, dc, pc, (fs_A hp), (fs_A ky), se, ch, cp, rp, rb) ((nI M), (nI N), (nI t), ms, mg, ov, (fs_A st), (fs_A e), (fs_A p), (fs_A jn), (fs_A dn), yls, ylp, ydp, yrp, yrb, yo) := fs_mk M N t h cap ld ov ms mg cc gm st e p sh jn dn dp sw sr rl ed rs ai ae ar hp ky ls lp rc dc pc se ch cp rp rb yls ylp ydp yrp yrb yo lq sl R
  have hN := R.2.1.1
  have hs := R.2.1.2.2.1
  unfold wpX_done wpY_done
  rcases fs_place N hN v1 with hv | ⟨j, hj, rfl⟩
  · exact fx_isTaken_n hv (br_t rfl (fy_present_n hv (br_t rfl ⟨rfl, Q⟩)))
  · refine fx_isTaken_y hj hN (hs j) (fun h => br_t rfl (fy_present_y hj hN (hs j) (fun _ => br_t rfl ⟨rfl, Q⟩) (fun h' => absurd h h'))) (fun h => br_f (by decide) (And.intro (fs_in (by omega)) (fy_present_y hj hN (hs j) (fun h' => absurd h' h) (fun _ => br_f (by decide) (And.intro (fs_in (by omega)) ⟨rfl, Q⟩)))))
theorem i_vc_lastProcessor {k : Nat} {u : SX} {v : SY} (I : i_Rel k u v) (hk : k + 4 ≤ 2050) (v1 : Int32) : wpX_lastProcessor (fun r => wpY_lastProcessor (fun r' => r' = r ∧ i_Rel (k + 4) u v) v v1) u v1 := by
  refine I (fun u v => wpX_lastProcessor (fun r => wpY_lastProcessor (fun r' => r' = r ∧ i_Rel (k + 4) u v) v v1) u v1) ?_
  intro M N t h cap ld ov ms mg cc gm st e p sh jn dn dp sw sr rl ed rs ai ae ar hp ky ls lp rc dc pc se ch cp rp rb yls ylp ydp yrp yrb yo lq sl R
  have Q : i_Rel (k + 4) ((nI M), (nI N), cap, (nI t), ld, ov, ms, mg, (nI h), cc, gm, (fs_A st), (fs_A e), (fs_A p), (fs_A sh), (fs_A jn), (fs_A dn), ls, lp, (fs_A dp), (fs_A sw), (fs_A sr), (fs_A rl), (fs_A ed), (fs_A rs), (fs_A ai), (fs_A ae), (fs_A ar), rc, dc, pc, (fs_A hp), (fs_A ky), se, ch, cp, rp, rb) ((nI M), (nI N), (nI t), ms, mg, ov, (fs_A st), (fs_A e), (fs_A p), (fs_A jn), (fs_A dn), yls, ylp, ydp, yrp, yrb, yo) := fs_mk M N t h cap ld ov ms mg cc gm st e p sh jn dn dp sw sr rl ed rs ai ae ar hp ky ls lp rc dc pc se ch cp rp rb yls ylp ydp yrp yrb yo lq sl R
  have hN := R.2.1.1
  have hs := R.2.1.2.2.1
  unfold wpX_lastProcessor wpY_lastProcessor
  rcases fs_place N hN v1 with hv | ⟨j, hj, rfl⟩
  · exact fx_isTaken_n hv (br_t rfl (fy_present_n hv (br_t rfl ⟨rfl, Q⟩)))
  · refine fx_isTaken_y hj hN (hs j) (fun h => br_t rfl (fy_present_y hj hN (hs j) (fun _ => br_t rfl ⟨rfl, Q⟩) (fun h' => absurd h h'))) (fun h => br_f (by decide) (And.intro (fs_in (by omega)) (fy_present_y hj hN (hs j) (fun h' => absurd h' h) (fun _ => br_f (by decide) (And.intro (fs_in (by omega)) ⟨(by rw [nI_clamp (by omega), (R.2.2.2.2.2.2.2.2.2.2.1.1 j h).1, (R.2.2.2.2.2.2.2.2.2.2.1.1 j h).2.1]), Q⟩)))))
theorem i_vc_lag {k : Nat} {u : SX} {v : SY} (I : i_Rel k u v) (hk : k + 4 ≤ 2050) (v1 : Int32) : wpX_lag (fun r => wpY_lag (fun r' => r' = r ∧ i_Rel (k + 4) u v) v v1) u v1 := by
  refine I (fun u v => wpX_lag (fun r => wpY_lag (fun r' => r' = r ∧ i_Rel (k + 4) u v) v v1) u v1) ?_
  intro M N t h cap ld ov ms mg cc gm st e p sh jn dn dp sw sr rl ed rs ai ae ar hp ky ls lp rc dc pc se ch cp rp rb yls ylp ydp yrp yrb yo lq sl R
  have Q : i_Rel (k + 4) ((nI M), (nI N), cap, (nI t), ld, ov, ms, mg, (nI h), cc, gm, (fs_A st), (fs_A e), (fs_A p), (fs_A sh), (fs_A jn), (fs_A dn), ls, lp, (fs_A dp), (fs_A sw), (fs_A sr), (fs_A rl), (fs_A ed), (fs_A rs), (fs_A ai), (fs_A ae), (fs_A ar), rc, dc, pc, (fs_A hp), (fs_A ky), se, ch, cp, rp, rb) ((nI M), (nI N), (nI t), ms, mg, ov, (fs_A st), (fs_A e), (fs_A p), (fs_A jn), (fs_A dn), yls, ylp, ydp, yrp, yrb, yo) := fs_mk M N t h cap ld ov ms mg cc gm st e p sh jn dn dp sw sr rl ed rs ai ae ar hp ky ls lp rc dc pc se ch cp rp rb yls ylp ydp yrp yrb yo lq sl R
  have hN := R.2.1.1
  have hs := R.2.1.2.2.1
  unfold wpX_lag wpY_lag
  rcases fs_place N hN v1 with hv | ⟨j, hj, rfl⟩
  · exact fx_isActive_n hv (br_t rfl (fy_active_n hv (br_t rfl ⟨rfl, Q⟩)))
  · have hi := fs_in (show j < 16 by omega)
    exact fx_isActive_y hj hN (hs j) (fun h => br_f (by decide) (And.intro hi (And.intro hi (And.intro hi (And.intro hi (fy_active_y hj hN (hs j) (fun _ => br_f (by decide) (And.intro hi (And.intro hi (And.intro hi (And.intro hi ⟨rfl, Q⟩))))) (fun h' => absurd h h'))))))) (fun h => br_t rfl (fy_active_y hj hN (hs j) (fun h' => absurd h' h) (fun _ => br_t rfl ⟨rfl, Q⟩)))
theorem i_vc_departure {k : Nat} {u : SX} {v : SY} (I : i_Rel k u v) (hk : k + 4 ≤ 2050) (v1 : Int32) : wpX_departure (fun r => wpY_departure (fun r' => r' = r ∧ i_Rel (k + 4) u v) v v1) u v1 := by
  refine I (fun u v => wpX_departure (fun r => wpY_departure (fun r' => r' = r ∧ i_Rel (k + 4) u v) v v1) u v1) ?_
  intro M N t h cap ld ov ms mg cc gm st e p sh jn dn dp sw sr rl ed rs ai ae ar hp ky ls lp rc dc pc se ch cp rp rb yls ylp ydp yrp yrb yo lq sl R
  have Q : i_Rel (k + 4) ((nI M), (nI N), cap, (nI t), ld, ov, ms, mg, (nI h), cc, gm, (fs_A st), (fs_A e), (fs_A p), (fs_A sh), (fs_A jn), (fs_A dn), ls, lp, (fs_A dp), (fs_A sw), (fs_A sr), (fs_A rl), (fs_A ed), (fs_A rs), (fs_A ai), (fs_A ae), (fs_A ar), rc, dc, pc, (fs_A hp), (fs_A ky), se, ch, cp, rp, rb) ((nI M), (nI N), (nI t), ms, mg, ov, (fs_A st), (fs_A e), (fs_A p), (fs_A jn), (fs_A dn), yls, ylp, ydp, yrp, yrb, yo) := fs_mk M N t h cap ld ov ms mg cc gm st e p sh jn dn dp sw sr rl ed rs ai ae ar hp ky ls lp rc dc pc se ch cp rp rb yls ylp ydp yrp yrb yo lq sl R
  have hN := R.2.1.1
  have hs := R.2.1.2.2.1
  unfold wpX_departure wpY_departure
  rcases fs_place N hN v1 with hv | ⟨j, hj, rfl⟩
  · exact fx_isPlace_n hv (br_t rfl (fy_inRange_n hv (br_t rfl ⟨rfl, Q⟩)))
  · have hi := fs_in (show j < 16 by omega)
    have hsj := hs j
    refine fx_isPlace_y hj hN (br_f (by decide) (And.intro hi (pk_eq (st j) 2 (fun h => And.intro hi ?_) (fun h => ?_) (fs_Ai st (by omega)))))
    · refine fy_inRange_y hj hN (br_f (by decide) (And.intro hi (pk_eq (st j) 2 (fun _ => And.intro hi ⟨?_, Q⟩) (fun h' => absurd h h') (fs_Ai st (by omega)))))
      rw [fs_Ai dp (by omega), nI_clamp (by omega)]
      exact (R.2.2.2.2.2.2.2.2.2.1 j h).2.2
    · exact fy_inRange_y hj hN (br_f (by decide) (And.intro hi (pk_eq (st j) 2 (fun h' => absurd h' h) (fun _ => ⟨rfl, Q⟩) (fs_Ai st (by omega)))))
theorem i_vc_release {k : Nat} {u : SX} {v : SY} (I : i_Rel k u v) (hk : k + 4 ≤ 2050) (v1 : Int32) (v2 : Int32) : wpX_release (fun r => wpY_release (fun r' => r' = r ∧ i_Rel (k + 4) u v) v v1 v2) u v1 v2 := by
  refine I (fun u v => wpX_release (fun r => wpY_release (fun r' => r' = r ∧ i_Rel (k + 4) u v) v v1 v2) u v1 v2) ?_
  intro M N t h cap ld ov ms mg cc gm st e p sh jn dn dp sw sr rl ed rs ai ae ar hp ky ls lp rc dc pc se ch cp rp rb yls ylp ydp yrp yrb yo lq sl R
  have Q : i_Rel (k + 4) ((nI M), (nI N), cap, (nI t), ld, ov, ms, mg, (nI h), cc, gm, (fs_A st), (fs_A e), (fs_A p), (fs_A sh), (fs_A jn), (fs_A dn), ls, lp, (fs_A dp), (fs_A sw), (fs_A sr), (fs_A rl), (fs_A ed), (fs_A rs), (fs_A ai), (fs_A ae), (fs_A ar), rc, dc, pc, (fs_A hp), (fs_A ky), se, ch, cp, rp, rb) ((nI M), (nI N), (nI t), ms, mg, ov, (fs_A st), (fs_A e), (fs_A p), (fs_A jn), (fs_A dn), yls, ylp, ydp, yrp, yrb, yo) := fs_mk M N t h cap ld ov ms mg cc gm st e p sh jn dn dp sw sr rl ed rs ai ae ar hp ky ls lp rc dc pc se ch cp rp rb yls ylp ydp yrp yrb yo lq sl R
  have V := R.2.1
  have hN := R.2.1.1
  have hs := R.2.1.2.2.1
  unfold wpX_release wpY_release
  refine fx_look hN hs (fun hn => br_t rfl (fy_look hN hs (fun _ => br_t rfl ⟨rfl, Q⟩) (fun hy => absurd hy hn))) (fun hL => ?_)
  · have hL' := hL
    obtain ⟨j, a, rfl, hj, sj, rfl, ha⟩ := hL'
    have hi := fs_in (show j < 16 by omega)
    have vx := fs_V_x V (show st j ≠ 0 by omega)
    refine br_f (by decide) (And.intro hi (nm_r (e' := nI (dn j + a)) (by rw [fs_Ai dn (by omega), nI_add]) (And.intro hi (And.intro hi (And.intro hi ?_)))))
    rw [fs_Ai p (by omega), fs_Ai e (by omega), pk_mul]
    have hb := fs_ml (show dn j + a ≤ 700 by omega) (show p j ≤ 16 by omega)
    refine fx_quo _ (by omega) vx.2.2.1 (by omega) (fy_look hN hs (fun hn => absurd hL hn) (fun _ => br_f (by decide) (And.intro hi (And.intro hi ?_))))
    rw [fs_Ai dn (by omega), nI_1, nI_add, show dn j + 1 + a = dn j + a + 1 by omega]
    refine fy_rel (by omega) vx.2.2.1 (by omega) vx.2.2.2.2.1 (by omega) ⟨?_, Q⟩
    rfl
theorem i_vc_deadline {k : Nat} {u : SX} {v : SY} (I : i_Rel k u v) (hk : k + 4 ≤ 2050) (v1 : Int32) (v2 : Int32) : wpX_deadline (fun r => wpY_deadline (fun r' => r' = r ∧ i_Rel (k + 4) u v) v v1 v2) u v1 v2 := by
  refine I (fun u v => wpX_deadline (fun r => wpY_deadline (fun r' => r' = r ∧ i_Rel (k + 4) u v) v v1 v2) u v1 v2) ?_
  intro M N t h cap ld ov ms mg cc gm st e p sh jn dn dp sw sr rl ed rs ai ae ar hp ky ls lp rc dc pc se ch cp rp rb yls ylp ydp yrp yrb yo lq sl R
  have Q : i_Rel (k + 4) ((nI M), (nI N), cap, (nI t), ld, ov, ms, mg, (nI h), cc, gm, (fs_A st), (fs_A e), (fs_A p), (fs_A sh), (fs_A jn), (fs_A dn), ls, lp, (fs_A dp), (fs_A sw), (fs_A sr), (fs_A rl), (fs_A ed), (fs_A rs), (fs_A ai), (fs_A ae), (fs_A ar), rc, dc, pc, (fs_A hp), (fs_A ky), se, ch, cp, rp, rb) ((nI M), (nI N), (nI t), ms, mg, ov, (fs_A st), (fs_A e), (fs_A p), (fs_A jn), (fs_A dn), yls, ylp, ydp, yrp, yrb, yo) := fs_mk M N t h cap ld ov ms mg cc gm st e p sh jn dn dp sw sr rl ed rs ai ae ar hp ky ls lp rc dc pc se ch cp rp rb yls ylp ydp yrp yrb yo lq sl R
  have V := R.2.1
  have hN := R.2.1.1
  have hs := R.2.1.2.2.1
  unfold wpX_deadline wpY_deadline
  refine fx_look hN hs (fun hn => br_t rfl (fy_look hN hs (fun _ => br_t rfl ⟨rfl, Q⟩) (fun hy => absurd hy hn))) (fun hL => ?_)
  · have hL' := hL
    obtain ⟨j, a, rfl, hj, sj, rfl, ha⟩ := hL'
    have hi := fs_in (show j < 16 by omega)
    have vx := fs_V_x V (show st j ≠ 0 by omega)
    refine br_f (by decide) (And.intro hi (And.intro hi ?_))
    rw [fs_Ai dn (by omega), nI_1, nI_add]
    refine fx_relDead (by omega) vx.2.2.1 (by omega) vx.2.2.2.2.1 (by omega) (fy_look hN hs (fun hn => absurd hL hn) (fun _ => br_f (by decide) (And.intro hi (And.intro hi ?_))))
    rw [fs_Ai dn (by omega), nI_1, nI_add]
    exact fy_dead (by omega) vx.2.2.1 (by omega) vx.2.2.2.2.1 (by omega) ⟨rfl, Q⟩
theorem i_vc_successorBit {k : Nat} {u : SX} {v : SY} (I : i_Rel k u v) (hk : k + 4 ≤ 2050) (v1 : Int32) (v2 : Int32) : wpX_successorBit (fun r => wpY_successorBit (fun r' => r' = r ∧ i_Rel (k + 4) u v) v v1 v2) u v1 v2 := by
  refine I (fun u v => wpX_successorBit (fun r => wpY_successorBit (fun r' => r' = r ∧ i_Rel (k + 4) u v) v v1 v2) u v1 v2) ?_
  intro M N t h cap ld ov ms mg cc gm st e p sh jn dn dp sw sr rl ed rs ai ae ar hp ky ls lp rc dc pc se ch cp rp rb yls ylp ydp yrp yrb yo lq sl R
  have Q : i_Rel (k + 4) ((nI M), (nI N), cap, (nI t), ld, ov, ms, mg, (nI h), cc, gm, (fs_A st), (fs_A e), (fs_A p), (fs_A sh), (fs_A jn), (fs_A dn), ls, lp, (fs_A dp), (fs_A sw), (fs_A sr), (fs_A rl), (fs_A ed), (fs_A rs), (fs_A ai), (fs_A ae), (fs_A ar), rc, dc, pc, (fs_A hp), (fs_A ky), se, ch, cp, rp, rb) ((nI M), (nI N), (nI t), ms, mg, ov, (fs_A st), (fs_A e), (fs_A p), (fs_A jn), (fs_A dn), yls, ylp, ydp, yrp, yrb, yo) := fs_mk M N t h cap ld ov ms mg cc gm st e p sh jn dn dp sw sr rl ed rs ai ae ar hp ky ls lp rc dc pc se ch cp rp rb yls ylp ydp yrp yrb yo lq sl R
  have V := R.2.1
  have hN := R.2.1.1
  have hs := R.2.1.2.2.1
  unfold wpX_successorBit wpY_successorBit
  refine fx_look hN hs (fun hn => br_t rfl (fy_look hN hs (fun _ => br_t rfl ⟨rfl, Q⟩) (fun hy => absurd hy hn))) (fun hL => ?_)
  · have hL' := hL
    obtain ⟨j, a, rfl, hj, sj, rfl, ha⟩ := hL'
    have hi := fs_in (show j < 16 by omega)
    have vx := fs_V_x V (show st j ≠ 0 by omega)
    refine br_f (by decide) (And.intro hi ?_)
    rw [fs_Ai dn (by omega), nI_1, nI_add]
    refine fx_bitOf (by omega) vx.2.2.1 (by omega) vx.2.2.2.2.1 (by omega) (fy_look hN hs (fun hn => absurd hL hn) (fun _ => br_f (by decide) (And.intro hi ?_)))
    rw [fs_Ai dn (by omega), nI_1, nI_add]
    exact fy_bit (by omega) vx.2.2.1 (by omega) vx.2.2.2.2.1 (by omega) ⟨rfl, Q⟩
theorem i_vc_groupDeadline {k : Nat} {u : SX} {v : SY} (I : i_Rel k u v) (hk : k + 4 ≤ 2050) (v1 : Int32) (v2 : Int32) : wpX_groupDeadline (fun r => wpY_groupDeadline (fun r' => r' = r ∧ i_Rel (k + 4) u v) v v1 v2) u v1 v2 := by
  refine I (fun u v => wpX_groupDeadline (fun r => wpY_groupDeadline (fun r' => r' = r ∧ i_Rel (k + 4) u v) v v1 v2) u v1 v2) ?_
  intro M N t h cap ld ov ms mg cc gm st e p sh jn dn dp sw sr rl ed rs ai ae ar hp ky ls lp rc dc pc se ch cp rp rb yls ylp ydp yrp yrb yo lq sl R
  have Q : i_Rel (k + 4) ((nI M), (nI N), cap, (nI t), ld, ov, ms, mg, (nI h), cc, gm, (fs_A st), (fs_A e), (fs_A p), (fs_A sh), (fs_A jn), (fs_A dn), ls, lp, (fs_A dp), (fs_A sw), (fs_A sr), (fs_A rl), (fs_A ed), (fs_A rs), (fs_A ai), (fs_A ae), (fs_A ar), rc, dc, pc, (fs_A hp), (fs_A ky), se, ch, cp, rp, rb) ((nI M), (nI N), (nI t), ms, mg, ov, (fs_A st), (fs_A e), (fs_A p), (fs_A jn), (fs_A dn), yls, ylp, ydp, yrp, yrb, yo) := fs_mk M N t h cap ld ov ms mg cc gm st e p sh jn dn dp sw sr rl ed rs ai ae ar hp ky ls lp rc dc pc se ch cp rp rb yls ylp ydp yrp yrb yo lq sl R
  have V := R.2.1
  have hN := R.2.1.1
  have hs := R.2.1.2.2.1
  unfold wpX_groupDeadline wpY_groupDeadline
  refine fx_look hN hs (fun hn => br_t rfl (fy_look hN hs (fun _ => br_t rfl ⟨rfl, Q⟩) (fun hy => absurd hy hn))) (fun hL => ?_)
  · have hL' := hL
    obtain ⟨j, a, rfl, hj, sj, rfl, ha⟩ := hL'
    have hi := fs_in (show j < 16 by omega)
    have vx := fs_V_x V (show st j ≠ 0 by omega)
    refine br_f (by decide) (And.intro hi ?_)
    rw [fs_Ai dn (by omega), nI_1, nI_add]
    have hd1 := fs_d_ge vx.2.2.1 vx.2.2.2.1 (dn j + 1 + a)
    have hd2 := fs_d_le (e := e j) (k := dn j + 1 + a) vx.2.2.2.2.1 (by omega) (by omega)
    refine fx_relDead (by omega) vx.2.2.1 (by omega) vx.2.2.2.2.1 (by omega) (fx_absGroup (by omega) vx.2.2.1 vx.2.2.2.1 vx.2.2.2.2.1 (by omega) (by omega) (fy_look hN hs (fun hn => absurd hL hn) (fun _ => br_f (by decide) (And.intro hi ?_))))
    rw [fs_Ai dn (by omega), nI_1, nI_add]
    exact fy_absGroup (by omega) vx.2.2.1 vx.2.2.2.1 vx.2.2.2.2.1 (by omega) (by omega) ⟨rfl, Q⟩
theorem i_vc_taskOn {k : Nat} {u : SX} {v : SY} (I : i_Rel k u v) (hk : k + 4 ≤ 2050) (v1 : Int32) (v2 : Int32) : wpX_taskOn (fun r => wpY_taskOn (fun r' => r' = r ∧ i_Rel (k + 4) u v) v v1 v2) u v1 v2 := by
  refine I (fun u v => wpX_taskOn (fun r => wpY_taskOn (fun r' => r' = r ∧ i_Rel (k + 4) u v) v v1 v2) u v1 v2) ?_
  intro M N t h cap ld ov ms mg cc gm st e p sh jn dn dp sw sr rl ed rs ai ae ar hp ky ls lp rc dc pc se ch cp rp rb yls ylp ydp yrp yrb yo lq sl R
  have Q : i_Rel (k + 4) ((nI M), (nI N), cap, (nI t), ld, ov, ms, mg, (nI h), cc, gm, (fs_A st), (fs_A e), (fs_A p), (fs_A sh), (fs_A jn), (fs_A dn), ls, lp, (fs_A dp), (fs_A sw), (fs_A sr), (fs_A rl), (fs_A ed), (fs_A rs), (fs_A ai), (fs_A ae), (fs_A ar), rc, dc, pc, (fs_A hp), (fs_A ky), se, ch, cp, rp, rb) ((nI M), (nI N), (nI t), ms, mg, ov, (fs_A st), (fs_A e), (fs_A p), (fs_A jn), (fs_A dn), yls, ylp, ydp, yrp, yrb, yo) := fs_mk M N t h cap ld ov ms mg cc gm st e p sh jn dn dp sw sr rl ed rs ai ae ar hp ky ls lp rc dc pc se ch cp rp rb yls ylp ydp yrp yrb yo lq sl R
  unfold wpX_taskOn wpY_taskOn
  refine fx_rem (fun hn => br_t rfl (fy_rem (fun _ => br_t rfl ⟨rfl, Q⟩) (fun hy => absurd hy hn))) (fun hL => ?_)
  have ht := R.2.1.2.1
  obtain ⟨s, q, e1, e2, f1, f2, f3, f4, f5, f6⟩ := fs_rm R.1.2.1 R.2.1.2.1 hL
  have rg := R.2.2.2.2.2.2.2.2.2.2.2 s q f1 f2 f3
  refine br_f (by decide) (And.intro (by rw [f4]; exact vp_in_nI (by omega) (by decide)) (fy_rem (fun hn => absurd hL hn) (fun _ => br_f (by decide) (And.intro (by rw [f5]; exact vp_in_nI (by omega) (by decide)) ⟨?_, Q⟩))))
  rw [f4, f5, nI_clamp (by omega), nI_clamp (by omega)]
  exact rg.1.symm
theorem i_vc_subtaskOn {k : Nat} {u : SX} {v : SY} (I : i_Rel k u v) (hk : k + 4 ≤ 2050) (v1 : Int32) (v2 : Int32) : wpX_subtaskOn (fun r => wpY_subtaskOn (fun r' => r' = r ∧ i_Rel (k + 4) u v) v v1 v2) u v1 v2 := by
  refine I (fun u v => wpX_subtaskOn (fun r => wpY_subtaskOn (fun r' => r' = r ∧ i_Rel (k + 4) u v) v v1 v2) u v1 v2) ?_
  intro M N t h cap ld ov ms mg cc gm st e p sh jn dn dp sw sr rl ed rs ai ae ar hp ky ls lp rc dc pc se ch cp rp rb yls ylp ydp yrp yrb yo lq sl R
  have Q : i_Rel (k + 4) ((nI M), (nI N), cap, (nI t), ld, ov, ms, mg, (nI h), cc, gm, (fs_A st), (fs_A e), (fs_A p), (fs_A sh), (fs_A jn), (fs_A dn), ls, lp, (fs_A dp), (fs_A sw), (fs_A sr), (fs_A rl), (fs_A ed), (fs_A rs), (fs_A ai), (fs_A ae), (fs_A ar), rc, dc, pc, (fs_A hp), (fs_A ky), se, ch, cp, rp, rb) ((nI M), (nI N), (nI t), ms, mg, ov, (fs_A st), (fs_A e), (fs_A p), (fs_A jn), (fs_A dn), yls, ylp, ydp, yrp, yrb, yo) := fs_mk M N t h cap ld ov ms mg cc gm st e p sh jn dn dp sw sr rl ed rs ai ae ar hp ky ls lp rc dc pc se ch cp rp rb yls ylp ydp yrp yrb yo lq sl R
  unfold wpX_subtaskOn wpY_subtaskOn
  refine fx_rem (fun hn => br_t rfl (fy_rem (fun _ => br_t rfl ⟨rfl, Q⟩) (fun hy => absurd hy hn))) (fun hL => ?_)
  have ht := R.2.1.2.1
  obtain ⟨s, q, e1, e2, f1, f2, f3, f4, f5, f6⟩ := fs_rm R.1.2.1 R.2.1.2.1 hL
  have rg := R.2.2.2.2.2.2.2.2.2.2.2 s q f1 f2 f3
  refine br_f (by decide) (And.intro (by rw [f4]; exact vp_in_nI (by omega) (by decide)) (fy_rem (fun hn => absurd hL hn) (fun _ => br_f (by decide) (And.intro (by rw [f5]; exact vp_in_nI (by omega) (by decide)) ⟨?_, Q⟩))))
  rw [f4, f5, nI_clamp (by omega), nI_clamp (by omega)]
  exact rg.2.symm
end
section
/-! rank -/
section
variable {M N t h : Nat} {cap ld ov ms mg cc gm : Int32} {st e p sh jn dn dp sw sr rl ed rs ai ae ar hp ky : Nat → Nat} {ls lp rc dc pc se ch cp rp rb : Nat → Int32}
theorem fx_rank34 {post : Int32 → Prop} {κ : Nat} (hκ : κ < 2 ^ 31) (h16 : h ≤ 16) (hv : ∀ i, i < h → hp i < 2 ^ 31) (K : post (nI (fs_S (fun i => if hp i < κ then 1 else 0) h))) : ∀ d i, i + d = h → wX_rank_34 post (nI κ) (nI M) (nI N) cap (nI t) ld ov ms mg (nI h) cc gm (fs_A st) (fs_A e) (fs_A p) (fs_A sh) (fs_A jn) (fs_A dn) ls lp (fs_A dp) (fs_A sw) (fs_A sr) (fs_A rl) (fs_A ed) (fs_A rs) (fs_A ai) (fs_A ae) (fs_A ar) rc dc pc (fs_A hp) (fs_A ky) se ch cp rp rb (d + 1) (nI (fs_S (fun i => if hp i < κ then 1 else 0) i)) (nI i) := by
  intro d
  induction d with
  | zero =>
    intro i hi
    have : i = h := by omega
    subst this
    exact br_t (nI_le (Nat.le_refl _) (by omega)) K
  | succ d ih =>
    intro i hi
    have ih' := ih (i + 1) (by omega)
    rw [fs_S1] at ih'
    have hvi := hv i (by omega)
    refine br_f (nI_ge (by omega) (by omega)) (br_f (nI_ge (b := 16) (by omega) (by decide)) (And.intro (fs_in (by omega)) ?_))
    refine pk_le κ (hp i) (fun z => nm_r (nI_1 i) ?_) (fun z => nm_r (nI_1 _) (nm_r (nI_1 i) ?_)) rfl (fs_Ai hp (by omega))
    · rw [if_neg (show ¬ hp i < κ by omega), Nat.add_zero] at ih'
      exact ih'
    · rw [if_pos z] at ih'
      exact ih'
end
theorem fs_rank {N t h j : Nat} {st e p jn dn hp : Nat → Nat} {se : Nat → Int32} (V : fs_V N t st e p jn dn) (H : fs_HE t st e p jn dn h hp se) : fs_S (fun i => if hp i < fs_K e p jn dn j then 1 else 0) h = fs_ca N t st e p jn dn j := by
  obtain ⟨h16, ⟨b1, b2, b3, b4⟩, _⟩ := H
  have inv : ∀ i, i < h → fs_el t st e p jn dn (hp i % 16) = true ∧ hp i = fs_K e p jn dn (hp i % 16) ∧ hp i % 16 < N := by
    intro i hi
    obtain ⟨y, hy, e1⟩ := b1 i hi
    have vy := fs_V_x V (fs_el_st hy)
    have : hp i % 16 = y := by rw [e1, fs_K_mod vy.2.1]
    rw [this]
    exact ⟨hy, e1, vy.1⟩
  refine (fs_S_inj (φ := fun i => hp i % 16) h (fun y => if (fs_el t st e p jn dn y && decide (fs_K e p jn dn y < fs_K e p jn dn j)) = true then 1 else 0) (fun i hi => (inv i hi).2.2) (fun i i' hi hi' => b3 i i' hi hi') (fun i hi => ?_) (fun q hq hn => ?_)).symm
  · obtain ⟨a, b, c⟩ := inv i hi
    show (if (fs_el t st e p jn dn (hp i % 16) && decide (fs_K e p jn dn (hp i % 16) < fs_K e p jn dn j)) = true then 1 else 0) = if hp i < fs_K e p jn dn j then 1 else 0
    rw [a, ← b, Bool.true_and]
    by_cases z : hp i < fs_K e p jn dn j
    · rw [if_pos z, if_pos (decide_eq_true z)]
    · rw [if_neg z, if_neg (fun w => z (of_decide_eq_true w))]
  · show (if (fs_el t st e p jn dn q && decide (fs_K e p jn dn q < fs_K e p jn dn j)) = true then 1 else 0) = 0
    refine if_neg (fun w => ?_)
    rw [Bool.and_eq_true] at w
    obtain ⟨i, hi, e1⟩ := b2 _ ⟨q, w.1, rfl⟩
    refine hn i hi ?_
    show hp i % 16 = q
    rw [e1, fs_K_mod (fs_V_x V (fs_el_st w.1)).2.1]
theorem fs_seat_y {t h j : Nat} {st e p jn dn hp : Nat → Nat} {se : Nat → Int32} (hj : j < 16) (H : fs_HE t st e p jn dn h hp se) (hel : fs_el t st e p jn dn j = true) : ∃ i, i < h ∧ hp i = fs_K e p jn dn j ∧ se j = nI i := by
  obtain ⟨h16, ⟨b1, b2, b3, b4⟩, S, _⟩ := H
  obtain ⟨i, hi, e1⟩ := b2 _ ⟨j, hel, rfl⟩
  have := S i hi
  rw [e1, fs_K_mod hj] at this
  exact ⟨i, hi, e1, this⟩
theorem fs_seat_n {N t h j : Nat} {st e p jn dn hp : Nat → Nat} {se : Nat → Int32} (V : fs_V N t st e p jn dn) (hj : j < 16) (H : fs_HE t st e p jn dn h hp se) (hel : fs_el t st e p jn dn j = false) : se j = -1 := by
  refine H.2.2.2.1 j hj ?_
  rintro z ⟨y, hy, rfl⟩ w
  rw [fs_K_mod (fs_V_x V (fs_el_st hy)).2.1] at w
  rw [w, hel] at hy
  cases hy
theorem i_vc_rank {k : Nat} {u : SX} {v : SY} (I : i_Rel k u v) (hk : k + 4 ≤ 2050) (v1 : Int32) : wpX_rank (fun r => wpY_rank (fun r' => r' = r ∧ i_Rel (k + 4) u v) v v1) u v1 := by
  refine I (fun u v => wpX_rank (fun r => wpY_rank (fun r' => r' = r ∧ i_Rel (k + 4) u v) v v1) u v1) ?_
  intro M N t h cap ld ov ms mg cc gm st e p sh jn dn dp sw sr rl ed rs ai ae ar hp ky ls lp rc dc pc se ch cp rp rb yls ylp ydp yrp yrb yo lq sl R
  have Q : i_Rel (k + 4) ((nI M), (nI N), cap, (nI t), ld, ov, ms, mg, (nI h), cc, gm, (fs_A st), (fs_A e), (fs_A p), (fs_A sh), (fs_A jn), (fs_A dn), ls, lp, (fs_A dp), (fs_A sw), (fs_A sr), (fs_A rl), (fs_A ed), (fs_A rs), (fs_A ai), (fs_A ae), (fs_A ar), rc, dc, pc, (fs_A hp), (fs_A ky), se, ch, cp, rp, rb) ((nI M), (nI N), (nI t), ms, mg, ov, (fs_A st), (fs_A e), (fs_A p), (fs_A jn), (fs_A dn), yls, ylp, ydp, yrp, yrb, yo) := fs_mk M N t h cap ld ov ms mg cc gm st e p sh jn dn dp sw sr rl ed rs ai ae ar hp ky ls lp rc dc pc se ch cp rp rb yls ylp ydp yrp yrb yo lq sl R
  have hN := R.2.1.1
  have hs := R.2.1.2.2.1
  have V := R.2.1
  have Wf := R.2.2.1
  have H := R.2.2.2.2.2.2.2.1
  unfold wpX_rank wpY_rank
  rcases fs_place N hN v1 with hv | ⟨j, hj, rfl⟩
  · exact fx_isActive_n hv (br_t rfl (fy_active_n hv (br_t rfl ⟨rfl, Q⟩)))
  · have hi := fs_in (show j < 16 by omega)
    refine fx_isActive_y hj hN (hs j) (fun sj => br_f (by decide) (And.intro hi ?_)) (fun h => br_t rfl (fy_active_y hj hN (hs j) (fun h' => absurd h' h) (fun _ => br_t rfl ⟨rfl, Q⟩)))
    have sj0 : st j ≠ 0 := by omega
    have kl := fs_K_lt V sj0
    cases hel : fs_el t st e p jn dn j
    · have hse := fs_seat_n V (by omega) H hel
      refine br_f (by rw [nI_clamp (by omega), hse]; exact fs_m1_nn) ?_
      refine fy_active_y hj hN (hs j) (fun _ => br_f (by decide) (fy_elig V (by omega) (fun w => ?_) (fun _ => br_t rfl ⟨rfl, Q⟩))) (fun h' => absurd sj h')
      rw [hel] at w
      cases w
    · obtain ⟨i, hi', e1, hse⟩ := fs_seat_y (by omega) H hel
      have h16 := H.1
      refine br_t (by rw [nI_clamp (by omega), hse]; exact nI_pos' (by omega)) (And.intro hi (nm_r (e' := nI (fs_K e p jn dn j)) (by rw [fs_Ai ky (by omega), (Wf j sj).2.2.2.2.2]) ⟨h + 1, ?_⟩))
      refine fx_rank34 (by omega) h16 (fun i hi => by have := H.2.1.2.2.2 _ (H.2.1.1 i hi); omega) ?_ h 0 (by omega)
      refine fy_active_y hj hN (hs j) (fun _ => br_f (by decide) (fy_elig V (by omega) (fun _ => br_f (by decide) (fy_ca V sj0 ⟨?_, Q⟩)) (fun w => ?_))) (fun h' => absurd sj h')
      · rw [fs_rank V H]
      · rw [hel] at w
        cases w
end
section
/-! join: the relation behind it -/
theorem fs_d0 {p e : Nat} (h0 : 0 < e) : fs_d p e 0 = 0 := by
  unfold fs_d
  rw [Nat.zero_mul, Nat.zero_add]
  exact Nat.div_eq_of_lt (by omega)
theorem fs_r0 (p e : Nat) : fs_r p e 0 = 0 := by
  unfold fs_r
  rw [Nat.zero_mul, Nat.zero_div]
theorem fs_m_0 (p e : Nat) : fs_m p e 0 = 0 := by
  unfold fs_m
  rw [Nat.zero_mul, Nat.zero_mod]
theorem fs_ld_join {N : Nat} {st e p : Nat → Nat} {x E P : Nat} (hx : x < N) (h : st x = 0) : fs_ld N (fs_u st x 1) (fs_u e x E) (fs_u p x P) = fs_ld N st e p + E * (720720 / P) := by
  unfold fs_ld
  rw [fs_S_one _ N hx, fs_S_one (fun x => if st x = 0 then 0 else e x * (720720 / p x)) N hx]
  rw [fs_us, fs_us, fs_us, if_neg (by decide), if_pos h, Nat.add_zero]
  congr 1
  refine fs_S_congr (fun i hi => ?_)
  by_cases z : i = x
  · rw [if_pos z, if_pos z]
  · rw [if_neg z, if_neg z, fs_un z, fs_un z, fs_un z]
section
variable {M N t h : Nat} {cap ld ov ms mg cc gm : Int32} {st e p sh jn dn dp sw sr rl ed rs ai ae ar hp ky : Nat → Nat} {ls lp rc dc pc se ch cp rp rb : Nat → Int32} {yls ylp ydp yrp yrb : Nat → Int32} {lq sl : Nat → Nat}
theorem fs_R_join {x E P h' : Nat} {ov' : Int32} {hp' : Nat → Nat} {se' : Nat → Int32} (R : fs_R M N t h cap ld ov st e p sh jn dn dp sw sr rl ed rs ai ae ar hp ky ls lp rc dc pc se rp rb yls ylp ydp yrp yrb lq sl) (hx : x < N) (sx : st x = 0) (hE : 1 ≤ E) (hEP : E ≤ P) (hP : P ≤ 16) (hov : ov' = 0 ∨ ov' = 1) (H' : fs_H h' hp' se' (fun z => (∃ y, fs_el t st e p jn dn y = true ∧ z = fs_K e p jn dn y) ∨ z = fs_k P E t 0 x)) :
    fs_R M N t h' cap (nI (fs_ld N st e p + E * (720720 / P))) ov' (fs_u st x 1) (fs_u e x E) (fs_u p x P) (fs_u sh x (E * (720720 / P))) (fs_u jn x t) (fs_u dn x 0) (fs_u dp x 0) (fs_u sw x (P / E)) (fs_u sr x (P % E)) (fs_u rl x (t + fs_r P E 0)) (fs_u (fs_u ed x t) x (t + fs_r P E (0 + 1))) (fs_u (fs_u rs x 0) x (fs_m P E (0 + 1))) (fs_u (fs_u ai x 0) x (0 + 1)) (fs_u (fs_u ae x t) x (t + fs_r P E (0 + 1))) (fs_u (fs_u ar x 0) x (fs_m P E (0 + 1))) hp' (fs_u ky x (fs_k P E t 0 x)) (upd ls x (-9)) (upd lp x (-1)) rc (fs_set dc (t + fs_d P E (0 + 1)) x) pc se' rp rb (upd yls x (-1000000)) (upd ylp x (-1)) (upd ydp x (-1000000)) yrp yrb (fs_u lq x 0) sl := by
  obtain ⟨⟨m1, m2, m3, m4, m5, m6⟩, V, Wf, Au, Dc, Rc, Pc, H, Sh, Dp, L, Rg⟩ := R
  have hN := V.1
  have Kx : fs_K (fs_u e x E) (fs_u p x P) (fs_u jn x t) (fs_u dn x 0) x = fs_k P E t 0 x := by
    unfold fs_K
    rw [fs_us, fs_us, fs_us, fs_us]
  have Ky : ∀ y, y ≠ x → fs_K (fs_u e x E) (fs_u p x P) (fs_u jn x t) (fs_u dn x 0) y = fs_K e p jn dn y := fun y hy => by
    unfold fs_K
    rw [fs_un hy, fs_un hy, fs_un hy, fs_un hy]
  have elx : fs_el t (fs_u st x 1) (fs_u e x E) (fs_u p x P) (fs_u jn x t) (fs_u dn x 0) x = true := by
    rw [fs_el_iff, fs_us, fs_us, fs_us, fs_us, fs_us, fs_r0]
    exact ⟨rfl, by omega⟩
  have ely : ∀ y, y ≠ x → fs_el t (fs_u st x 1) (fs_u e x E) (fs_u p x P) (fs_u jn x t) (fs_u dn x 0) y = fs_el t st e p jn dn y := fun y hy => by
    unfold fs_el
    rw [fs_un hy, fs_un hy, fs_un hy, fs_un hy, fs_un hy]
  refine ⟨⟨m1, m2, m3, m4, hov, by rw [fs_ld_join hx sx]⟩, ?_, ?_, ?_, ?_, ?_, ?_, ?_, ?_, ?_, ?_, Rg⟩
  · refine ⟨V.1, V.2.1, fun y => ?_, fun y hy => ?_, fun y hy => ?_⟩
    · by_cases z : y = x
      · rw [z, fs_us]; decide
      · rw [fs_un z]; exact V.2.2.1 y
    · rw [fs_un (by omega)]; exact V.2.2.2.1 y hy
    · by_cases z : y = x
      · rw [z, fs_us, fs_us, fs_us, fs_us, show 0 - 1 = 0 from rfl, fs_r0]
        exact ⟨hE, hEP, hP, by omega⟩
      · rw [fs_un z] at hy
        rw [fs_un z, fs_un z, fs_un z, fs_un z]
        exact V.2.2.2.2 y hy
  · intro y hy
    by_cases z : y = x
    · rw [z, Kx]
      rw [fs_us, fs_us, fs_us, fs_us, fs_us, fs_us, fs_us, fs_us, fs_us, fs_us]
      exact ⟨rfl, rfl, rfl, rfl, rfl, rfl⟩
    · rw [fs_un z] at hy
      rw [Ky y z, fs_un z, fs_un z, fs_un z, fs_un z, fs_un z, fs_un z, fs_un z, fs_un z, fs_un z, fs_un z, fs_un z, fs_un z]
      exact Wf y hy
  · intro y hy
    by_cases z : y = x
    · have hd := fs_d_ge hE hEP (0 + 1)
      rw [z, fs_us, fs_us, fs_us, fs_us, fs_us, fs_us]
      refine ⟨by omega, by omega, fun k hk => ?_, rfl, rfl⟩
      rw [show k = 0 by omega, fs_d0 hE]
      omega
    · rw [fs_un z] at hy
      rw [fs_un z, fs_un z, fs_un z, fs_un z, fs_un z, fs_un z, fs_un z, fs_un z, fs_un z]
      exact Au y hy
  · intro s i hs hi
    rw [fs_set_b (by omega) hi hs, Dc s i hs hi]
    by_cases z : i = x
    · subst z
      rw [fs_us, fs_us, fs_us, fs_us, fs_us, decide_eq_false (show ¬ (st i = 1 ∧ jn i + fs_d (p i) (e i) (ai i) = s) by omega), decide_eq_true (show i = i from rfl), Bool.and_true, Bool.false_or]
      rw [Bool.eq_iff_iff, decide_eq_true_eq, decide_eq_true_eq]
      omega
    · rw [fs_un z, fs_un z, fs_un z, fs_un z, fs_un z, fs_un z, decide_eq_false z, Bool.and_false, Bool.or_false]
  · intro s i hs hi
    rw [Rc s i hs hi]
    by_cases z : i = x
    · subst z
      rw [fs_us, fs_us, fs_us, fs_us, fs_us, fs_r0, decide_eq_false (by omega), decide_eq_false (by omega)]
    · rw [fs_un z, fs_un z, fs_un z, fs_un z, fs_un z]
  · intro s i hs hi
    rw [Pc s i hs hi]
    by_cases z : i = x
    · subst z
      rw [fs_us, decide_eq_false (by omega), decide_eq_false (by omega)]
    · rw [fs_un z, fs_un z]
  · refine fs_H_congr (fun z => ?_) H'
    constructor
    · rintro (⟨y, hy, e1⟩ | e1)
      · have hne : y ≠ x := fun w => by rw [w] at hy; exact absurd sx (fs_el_st hy)
        exact ⟨y, by rw [ely y hne]; exact hy, by rw [Ky y hne]; exact e1⟩
      · exact ⟨x, elx, by rw [Kx]; exact e1⟩
    · rintro ⟨y, hy, e1⟩
      by_cases w : y = x
      · rw [w, Kx] at e1; exact Or.inr e1
      · rw [ely y w] at hy
        rw [Ky y w] at e1
        exact Or.inl ⟨y, hy, e1⟩
  · intro y hy
    by_cases z : y = x
    · rw [z, fs_us, fs_us, fs_us]
    · rw [fs_un z] at hy
      rw [fs_un z, fs_un z, fs_un z]
      exact Sh y hy
  · intro y hy
    by_cases z : y = x
    · rw [z, fs_us] at hy; omega
    · rw [fs_un z] at hy
      rw [fs_un z, pk_un z]
      exact Dp y hy
  · constructor
    · intro y hy
      by_cases z : y = x
      · rw [z, pk_us, pk_us, fs_us]
        exact ⟨rfl, rfl, by omega, fun w => absurd rfl w⟩
      · rw [fs_un z] at hy
        rw [fs_un z, pk_un z, pk_un z, pk_un z, pk_un z]
        exact L.1 y hy
    · intro y y' hy hy' h0 h1 h2
      have z : y ≠ x := fun w => by rw [w, fs_us] at h0; exact h0 rfl
      rw [fs_un z] at h0 h1 hy
      have z' : y' ≠ x := fun w => by rw [w, fs_us] at h1; exact h0 h1
      rw [fs_un z'] at h1 hy'
      exact L.2 y y' hy hy' h0 h1 h2
/-! X's join from the place on -/
theorem fx_join112 {post : Int32 → SX → Prop} {x E P : Nat} {C : Nat → Prop} (hx : x < 16) (hE : 1 ≤ E) (hEP : E ≤ P) (hP : P ≤ 16) (ht : t ≤ 600) (H : fs_H h hp se C) (hC : ∀ z, C z → z % 16 ≠ x)
    (K : ∀ (h' : Nat) (hp' : Nat → Nat) (se' : Nat → Int32), fs_H h' hp' se' (fun z => C z ∨ z = fs_k P E t 0 x) → post (nI x) ((nI M), (nI N), cap, (nI t), ld, ov, ms, mg, (nI h'), cc, gm, (fs_A st), (fs_A (fs_u e x E)), (fs_A (fs_u p x P)), (fs_A sh), (fs_A (fs_u jn x t)), (fs_A dn), ls, lp, (fs_A dp), (fs_A (fs_u sw x (P / E))), (fs_A (fs_u sr x (P % E))), (fs_A (fs_u rl x (t + fs_r P E 0))), (fs_A (fs_u (fs_u ed x t) x (t + fs_r P E (0 + 1)))), (fs_A (fs_u (fs_u rs x 0) x (fs_m P E (0 + 1)))), (fs_A (fs_u (fs_u ai x 0) x (0 + 1))), (fs_A (fs_u (fs_u ae x t) x (t + fs_r P E (0 + 1)))), (fs_A (fs_u (fs_u ar x 0) x (fs_m P E (0 + 1)))), rc, (fs_set dc (t + fs_d P E (0 + 1)) x), pc, (fs_A hp'), (fs_A (fs_u ky x (fs_k P E t 0 x))), se', ch, cp, rp, rb)) : wX_join_112 post (nI x) (nI M) (nI N) cap (nI t) ld ov ms mg (nI h) cc gm (fs_A st) (fs_A (fs_u e x E)) (fs_A (fs_u p x P)) (fs_A sh) (fs_A (fs_u jn x t)) (fs_A dn) ls lp (fs_A dp) (fs_A (fs_u sw x (P / E))) (fs_A (fs_u sr x (P % E))) (fs_A rl) (fs_A (fs_u ed x t)) (fs_A (fs_u rs x 0)) (fs_A (fs_u ai x 0)) (fs_A (fs_u ae x t)) (fs_A (fs_u ar x 0)) rc dc pc (fs_A hp) (fs_A ky) se ch cp rp rb := by
  have r0 := fs_r0 P E
  have r1 := fs_r_up (p := P) hE hP 0
  have r2 := (fs_rd (p := P) hE (0 + 1)).2
  have kl : fs_k P E t 0 x < 2 ^ 30 := fs_k_lt hx (by omega)
  unfold wX_join_112
  have q1 : fs_u e x E x = E := fs_us
  have q2 : fs_u p x P x = P := fs_us
  have q3 : fs_u jn x t x = t := fs_us
  refine fx_open (n := 0) hx (by rw [q1]; exact hE) (by rw [q1, q2]; exact hEP) (by rw [q2]; exact hP) (by rw [q1, q2, q3]; omega) (by rw [q1, q2, q3, fs_us]; omega) (by rw [q1, q2, fs_us, fs_m_0]) (by rw [q1, q2, fs_us]) (by rw [q1, q2, fs_us]) ?_
  rw [q1, q2, q3]
  refine fx_enq_push (C := C) (x := x) hx (by rw [fs_us]; omega) ht H (fun z hz => ?_) (by rw [fs_us]; exact kl) (fun hp' se' H' => ?_)
  · rw [fs_us, fs_k_mod hx]
    exact hC z hz
  · refine fx_aud (k := 0) hx (by rw [q1]; exact hE) (by rw [q1, q2]; exact hEP) (by rw [q2]; exact hP) (by rw [q1, q2, q3]; omega) fs_us (by rw [q1, q2, q3, fs_us]; omega) (by rw [q1, q2, fs_us, fs_m_0]) (by rw [q1, q2, fs_us]) (by rw [q1, q2, fs_us]) ?_
    rw [q1, q2, q3]
    rw [fs_us] at H'
    exact K _ hp' se' H'
end
end
section
/-! join, both sides -/
section
variable {M N t h : Nat} {cap ld ov ms mg cc gm : Int32} {st e p sh jn dn dp sw sr rl ed rs ai ae ar hp ky : Nat → Nat} {ls lp rc dc pc se ch cp rp rb : Nat → Int32} {yls ylp ydp yrp yrb : Nat → Int32} {lq sl : Nat → Nat}
theorem fx_join75 {post : Int32 → SX → Prop} {x E P : Nat} {ov' : Int32} (R : fs_R M N t h cap ld ov st e p sh jn dn dp sw sr rl ed rs ai ae ar hp ky ls lp rc dc pc se rp rb yls ylp ydp yrp yrb lq sl) (hx : x < N) (sx : st x = 0) (hE : 1 ≤ E) (hEP : E ≤ P) (hP : P ≤ 16) (h1 : nI (fs_ld N st e p + E * (720720 / P)) ≤ nI (M * 720720) → ov' = ov) (h2 : ¬ nI (fs_ld N st e p + E * (720720 / P)) ≤ nI (M * 720720) → ov' = 1)
    (K : ∀ (h' : Nat) (hp' : Nat → Nat) (se' : Nat → Int32), fs_H h' hp' se' (fun z => (∃ y, fs_el t st e p jn dn y = true ∧ z = fs_K e p jn dn y) ∨ z = fs_k P E t 0 x) → post (nI x) ((nI M), (nI N), cap, (nI t), (nI (fs_ld N st e p + E * (720720 / P))), ov', ms, mg, (nI h'), cc, gm, (fs_A (fs_u st x 1)), (fs_A (fs_u e x E)), (fs_A (fs_u p x P)), (fs_A (fs_u sh x (E * (720720 / P)))), (fs_A (fs_u jn x t)), (fs_A (fs_u dn x 0)), (upd ls x (-9)), (upd lp x (-1)), (fs_A (fs_u dp x 0)), (fs_A (fs_u sw x (P / E))), (fs_A (fs_u sr x (P % E))), (fs_A (fs_u rl x (t + fs_r P E 0))), (fs_A (fs_u (fs_u ed x t) x (t + fs_r P E (0 + 1)))), (fs_A (fs_u (fs_u rs x 0) x (fs_m P E (0 + 1)))), (fs_A (fs_u (fs_u ai x 0) x (0 + 1))), (fs_A (fs_u (fs_u ae x t) x (t + fs_r P E (0 + 1)))), (fs_A (fs_u (fs_u ar x 0) x (fs_m P E (0 + 1)))), rc, (fs_set dc (t + fs_d P E (0 + 1)) x), pc, (fs_A hp'), (fs_A (fs_u ky x (fs_k P E t 0 x))), se', ch, cp, rp, rb)) : wX_join_75 post (nI E) (nI P) (nI x) (nI (E * (720720 / P))) (nI M) (nI N) cap (nI t) ld ov ms mg (nI h) cc gm (fs_A st) (fs_A e) (fs_A p) (fs_A sh) (fs_A jn) (fs_A dn) ls lp (fs_A dp) (fs_A sw) (fs_A sr) (fs_A rl) (fs_A ed) (fs_A rs) (fs_A ai) (fs_A ae) (fs_A ar) rc dc pc (fs_A hp) (fs_A ky) se ch cp rp rb := by
  obtain ⟨⟨m1, m2, m3, m4, m5, m6⟩, V, Wf, Au, Dc, Rc, Pc, H, Sh, Dp, L, Rg⟩ := R
  subst m4 m6
  have hN := V.1
  have hC : ∀ z, (∃ y, fs_el t st e p jn dn y = true ∧ z = fs_K e p jn dn y) → z % 16 ≠ x := by
    rintro z ⟨y, hy, rfl⟩ w
    rw [fs_K_mod (fs_V_x V (fs_el_st hy)).2.1] at w
    rw [w] at hy
    exact absurd sx (fs_el_st hy)
  unfold wX_join_75
  refine fx_settle (by omega) hE hEP hP (nm_r (nI_add _ _) ?_)
  by_cases c : nI (fs_ld N st e p + E * (720720 / P)) ≤ nI (M * 720720)
  · rw [h1 c] at K
    exact br_t c (fx_join112 (by omega) hE hEP hP V.2.1 H hC K)
  · rw [h2 c] at K
    exact br_f c (fx_join112 (by omega) hE hEP hP V.2.1 H hC K)
end
section
variable {M N t : Nat} {ms mg ov : Int32} {st e p jn dn : Nat → Nat} {yls ylp ydp yrp yrb yo : Nat → Int32}
theorem fy_join101 {post : Int32 → SY → Prop} {x E P : Nat} {x5 : Int32} (hx : x < 16) (hc : x5 ≤ nI M * 720720 → post (nI x) ((nI M), (nI N), (nI t), ms, mg, ov, (fs_A (fs_u st x 1)), (fs_A (fs_u e x E)), (fs_A (fs_u p x P)), (fs_A (fs_u jn x t)), (fs_A (fs_u dn x 0)), (upd yls x (-1000000)), (upd ylp x (-1)), (upd ydp x (-1000000)), yrp, yrb, yo)) (hn : ¬ x5 ≤ nI M * 720720 → post (nI x) ((nI M), (nI N), (nI t), ms, mg, (1), (fs_A (fs_u st x 1)), (fs_A (fs_u e x E)), (fs_A (fs_u p x P)), (fs_A (fs_u jn x t)), (fs_A (fs_u dn x 0)), (upd yls x (-1000000)), (upd ylp x (-1)), (upd ydp x (-1000000)), yrp, yrb, yo)) : wY_join_101 post (nI E) (nI P) (nI x) x5 (nI M) (nI N) (nI t) ms mg ov (fs_A st) (fs_A e) (fs_A p) (fs_A jn) (fs_A dn) yls ylp ydp yrp yrb yo := by
  have hi := fs_in hx
  have hcl : (nI x).toNatClampNeg = x := nI_clamp (by omega)
  have U : ∀ (f : Nat → Nat) (v : Nat), upd (fs_A f) (nI x).toNatClampNeg (nI v) = fs_A (fs_u f x v) := fun f v => by rw [hcl, fs_up]
  have U' : ∀ (f : Nat → Int32) (v : Int32), upd f (nI x).toNatClampNeg v = upd f x v := fun f v => by rw [hcl]
  exact And.intro hi (nm_r (U st 1) (And.intro hi (nm_r (U e E) (And.intro hi (nm_r (U p P) (And.intro hi (nm_r (U jn t) (And.intro hi (nm_r (U dn 0) (And.intro hi (nm_r (U' yls _) (And.intro hi (nm_r (U' ylp _) (And.intro hi (nm_r (U' ydp _) (br_c hc hn))))))))))))))))
theorem fs_pIm (d : Nat) : nI d + (-1) = fs_pI d := by
  cases d with
  | zero => rfl
  | succ d => rw [pk_m1, fs_pI1]
theorem fy_jA {post : Int32 → SY → Prop} {x3 : Int32} {j E P : Nat} (V : fs_V N t st e p jn dn) (hj : j < N) (sj : st j = 0) (lo : ∀ i, i < j → st i ≠ 0) (hP1 : 1 ≤ P) (hP : P ≤ 16) (k1 : x3 = 0 → wY_join_101 post (nI E) (nI P) (nI j) (nI (fs_ld N st e p + E * (720720 / P))) (nI M) (nI N) (nI t) ms mg ov (fs_A st) (fs_A e) (fs_A p) (fs_A jn) (fs_A dn) yls ylp ydp yrp yrb yo) (k2 : ¬ x3 = 0 → nI (fs_ld N st e p + E * (720720 / P)) ≤ nI M * 720720 → wY_join_101 post (nI E) (nI P) (nI j) (nI (fs_ld N st e p + E * (720720 / P))) (nI M) (nI N) (nI t) ms mg ov (fs_A st) (fs_A e) (fs_A p) (fs_A jn) (fs_A dn) yls ylp ydp yrp yrb yo) (k3 : ¬ x3 = 0 → ¬ nI (fs_ld N st e p + E * (720720 / P)) ≤ nI M * 720720 → post (-3) ((nI M), (nI N), (nI t), ms, mg, ov, (fs_A st), (fs_A e), (fs_A p), (fs_A jn), (fs_A dn), yls, ylp, ydp, yrp, yrb, yo)) : ∀ (d : Nat) (x4 : Int32), d ≤ N → (d ≤ j → x4 = nI j) → wY_join_36 post (nI E) (nI P) x3 (nI M) (nI N) (nI t) ms mg ov (fs_A st) (fs_A e) (fs_A p) (fs_A jn) (fs_A dn) yls ylp ydp yrp yrb yo (d + 1) x4 (fs_pI d) := by
  have hN := V.1
  intro d
  induction d with
  | zero =>
    intro x4 hd h4
    rw [h4 (Nat.zero_le _)]
    refine br_t fs_m1_neg (br_t (nI_pos' (by omega)) (fy_load V (And.intro (nI_ne0 hP1 (by omega)) (nm_r (e' := nI (fs_ld N st e p + E * (720720 / P))) ?_ (br_c k1 (fun z => br_c (k2 z) (k3 z)))))))
    rw [fs_720, pk_div (by decide) hP1 (by omega), pk_mul, nI_add]
  | succ d ih =>
    intro x4 hd h4
    have hs := V.2.2.1 d
    refine br_f (by rw [fs_pI1]; exact nI_pos (by omega)) ?_
    rw [fs_pI1]
    refine And.intro (fs_in (by omega)) ?_
    refine pk_eq (st d) 0 (fun z => nm_r (fs_pIm d) (ih (nI d) (by omega) (fun w => ?_))) (fun z => nm_r (fs_pIm d) (ih x4 (by omega) (fun w => h4 ?_))) (fs_Ai st (by omega))
    · rcases Nat.lt_or_ge d j with y | y
      · exact absurd z (lo d y)
      · rw [show d = j by omega]
    · have : d ≠ j := fun y => z (by rw [y]; exact sj)
      omega
theorem fy_jB {post : Int32 → SY → Prop} {x1 x2 x3 : Int32} (hN : N ≤ 16) (hs : ∀ x, st x ≤ 2) (hn : ∀ i, i < N → st i ≠ 0) (K : post (-2) ((nI M), (nI N), (nI t), ms, mg, ov, (fs_A st), (fs_A e), (fs_A p), (fs_A jn), (fs_A dn), yls, ylp, ydp, yrp, yrb, yo)) : ∀ d : Nat, d ≤ N → wY_join_36 post x1 x2 x3 (nI M) (nI N) (nI t) ms mg ov (fs_A st) (fs_A e) (fs_A p) (fs_A jn) (fs_A dn) yls ylp ydp yrp yrb yo (d + 1) (-1) (fs_pI d) := by
  intro d
  induction d with
  | zero =>
    intro hd
    exact br_t fs_m1_neg (br_f fs_m1_nn K)
  | succ d ih =>
    intro hd
    have hsd := hs d
    refine br_f (by rw [fs_pI1]; exact nI_pos (by omega)) ?_
    rw [fs_pI1]
    refine And.intro (fs_in (by omega)) ?_
    exact pk_eq (st d) 0 (fun z => absurd z (hn d (by omega))) (fun z => nm_r (fs_pIm d) (ih (by omega))) (fs_Ai st (by omega))
end
theorem fs_pIN {N : Nat} (h : 1 ≤ N) : nI N - 1 = fs_pI N := by
  obtain ⟨n, rfl⟩ : ∃ n, N = n + 1 := ⟨N - 1, by omega⟩
  rw [nI_pred, fs_pI1]
theorem i_vc_join {k : Nat} {u : SX} {v : SY} (I : i_Rel k u v) (hk : k + 4 ≤ 2050) (v1 : Int32) (v2 : Int32) (v3 : Int32) : wpX_join (fun r u' => wpY_join (fun r' v' => r' = r ∧ i_Rel (k + 4) u' v') v v1 v2 (lw_bz v3)) u v1 v2 (lw_bz v3) := by
  refine I (fun u v => wpX_join (fun r u' => wpY_join (fun r' v' => r' = r ∧ i_Rel (k + 4) u' v') v v1 v2 (lw_bz v3)) u v1 v2 (lw_bz v3)) ?_
  intro M N t h cap ld ov ms mg cc gm st e p sh jn dn dp sw sr rl ed rs ai ae ar hp ky ls lp rc dc pc se ch cp rp rb yls ylp ydp yrp yrb yo lq sl R
  have Q : i_Rel (k + 4) ((nI M), (nI N), cap, (nI t), ld, ov, ms, mg, (nI h), cc, gm, (fs_A st), (fs_A e), (fs_A p), (fs_A sh), (fs_A jn), (fs_A dn), ls, lp, (fs_A dp), (fs_A sw), (fs_A sr), (fs_A rl), (fs_A ed), (fs_A rs), (fs_A ai), (fs_A ae), (fs_A ar), rc, dc, pc, (fs_A hp), (fs_A ky), se, ch, cp, rp, rb) ((nI M), (nI N), (nI t), ms, mg, ov, (fs_A st), (fs_A e), (fs_A p), (fs_A jn), (fs_A dn), yls, ylp, ydp, yrp, yrb, yo) := fs_mk M N t h cap ld ov ms mg cc gm st e p sh jn dn dp sw sr rl ed rs ai ae ar hp ky ls lp rc dc pc se ch cp rp rb yls ylp ydp yrp yrb yo lq sl R
  have V := R.2.1
  have hN := V.1
  have hs := V.2.2.1
  have hN1 := R.1.2.2.1
  have hcap := R.1.2.2.2.1
  have hld := R.1.2.2.2.2.2
  have hov := R.1.2.2.2.2.1
  generalize lw_bz v3 = w
  by_cases h1 : v2 < 1
  · exact br_t h1 (br_t h1 ⟨rfl, Q⟩)
  by_cases h2 : v2 ≤ 16
  rotate_left
  · exact br_f h1 (br_f h2 (br_f h1 (br_f h2 ⟨rfl, Q⟩)))
  obtain ⟨P, p1, p2, rfl⟩ := fs_small (b := 16) (by decide) h1 h2
  by_cases h3 : v1 < 1
  · exact br_f h1 (br_t h2 (br_t h3 (br_f h1 (br_t h2 (br_t h3 ⟨rfl, Q⟩)))))
  by_cases h4 : v1 ≤ nI P
  rotate_left
  · exact br_f h1 (br_t h2 (br_f h3 (br_f h4 (br_f h1 (br_t h2 (br_f h3 (br_f h4 ⟨rfl, Q⟩)))))))
  obtain ⟨E, e1, e2, rfl⟩ := fs_small (b := P) (by omega) h3 h4
  refine br_f h1 (br_t h2 (br_f h3 (br_t h4 (fx_lowestFree hN hs (fun j hj sj lo => ?_) (fun hn => ?_)))))
  rotate_left
  · refine br_f fs_m1_nn (br_f h1 (br_t h2 (br_f h3 (br_t h4 (nm_r (fs_pIN hN1) ⟨N + 1, ?_⟩)))))
    exact fy_jB hN hs hn ⟨rfl, Q⟩ N (Nat.le_refl _)
  · refine br_t (nI_pos' (by omega)) (fx_quo (a := 720720) _ (by decide) p1 (by omega) (nm_r (e' := nI (E * (720720 / P))) (pk_mul _ _) ?_))
    have eM : nI M * 720720 = nI (M * 720720) := pk_mul M 720720
    have eL : ld + nI (E * (720720 / P)) = nI (fs_ld N st e p + E * (720720 / P)) := by rw [hld, nI_add]
    by_cases c : nI (fs_ld N st e p + E * (720720 / P)) ≤ nI (M * 720720)
    · have X75 : wX_join_75 (fun r u' => wpY_join (fun r' v' => r' = r ∧ i_Rel (k + 4) u' v') ((nI M), (nI N), (nI t), ms, mg, ov, (fs_A st), (fs_A e), (fs_A p), (fs_A jn), (fs_A dn), yls, ylp, ydp, yrp, yrb, yo) (nI E) (nI P) w) (nI E) (nI P) (nI j) (nI (E * (720720 / P))) (nI M) (nI N) cap (nI t) ld ov ms mg (nI h) cc gm (fs_A st) (fs_A e) (fs_A p) (fs_A sh) (fs_A jn) (fs_A dn) ls lp (fs_A dp) (fs_A sw) (fs_A sr) (fs_A rl) (fs_A ed) (fs_A rs) (fs_A ai) (fs_A ae) (fs_A ar) rc dc pc (fs_A hp) (fs_A ky) se ch cp rp rb := by
        refine fx_join75 (ov' := ov) R hj sj e1 e2 p2 (fun _ => rfl) (fun z => absurd c z) (fun h' hp' se' H' => ?_)
        have R' := fs_R_join R hj sj e1 e2 p2 hov H'
        have Y101 : wY_join_101 (fun r' v' => r' = nI j ∧ i_Rel (k + 4) ((nI M), (nI N), cap, (nI t), (nI (fs_ld N st e p + E * (720720 / P))), ov, ms, mg, (nI h'), cc, gm, (fs_A (fs_u st j 1)), (fs_A (fs_u e j E)), (fs_A (fs_u p j P)), (fs_A (fs_u sh j (E * (720720 / P)))), (fs_A (fs_u jn j t)), (fs_A (fs_u dn j 0)), (upd ls j (-9)), (upd lp j (-1)), (fs_A (fs_u dp j 0)), (fs_A (fs_u sw j (P / E))), (fs_A (fs_u sr j (P % E))), (fs_A (fs_u rl j (t + fs_r P E 0))), (fs_A (fs_u (fs_u ed j t) j (t + fs_r P E (0 + 1)))), (fs_A (fs_u (fs_u rs j 0) j (fs_m P E (0 + 1)))), (fs_A (fs_u (fs_u ai j 0) j (0 + 1))), (fs_A (fs_u (fs_u ae j t) j (t + fs_r P E (0 + 1)))), (fs_A (fs_u (fs_u ar j 0) j (fs_m P E (0 + 1)))), rc, (fs_set dc (t + fs_d P E (0 + 1)) j), pc, (fs_A hp'), (fs_A (fs_u ky j (fs_k P E t 0 j))), se', ch, cp, rp, rb) v') (nI E) (nI P) (nI j) (nI (fs_ld N st e p + E * (720720 / P))) (nI M) (nI N) (nI t) ms mg ov (fs_A st) (fs_A e) (fs_A p) (fs_A jn) (fs_A dn) yls ylp ydp yrp yrb yo := by
          refine fy_join101 (by omega) (fun _ => ⟨rfl, ?_⟩) (fun z => absurd c (by rw [eM] at z; exact z))
          exact fs_mk _ _ _ _ _ _ _ _ _ _ _ _ _ _ _ _ _ _ _ _ _ _ _ _ _ _ _ _ _ _ _ _ _ _ _ _ _ _ _ _ _ _ _ _ _ _ R'
        exact br_f h1 (br_t h2 (br_f h3 (br_t h4 (nm_r (fs_pIN hN1) ⟨N + 1, fy_jA V hj sj lo p1 p2 (fun _ => Y101) (fun _ _ => Y101) (fun _ z => absurd c (by rw [eM] at z; exact z)) N (-1) (Nat.le_refl _) (fun z => by omega)⟩))))
      refine br_c (fun _ => X75) (fun _ => br_t ?_ X75)
      rw [eL, hcap]
      exact c
    · have X75 : (w = 0 → wX_join_75 (fun r u' => wpY_join (fun r' v' => r' = r ∧ i_Rel (k + 4) u' v') ((nI M), (nI N), (nI t), ms, mg, ov, (fs_A st), (fs_A e), (fs_A p), (fs_A jn), (fs_A dn), yls, ylp, ydp, yrp, yrb, yo) (nI E) (nI P) w) (nI E) (nI P) (nI j) (nI (E * (720720 / P))) (nI M) (nI N) cap (nI t) ld ov ms mg (nI h) cc gm (fs_A st) (fs_A e) (fs_A p) (fs_A sh) (fs_A jn) (fs_A dn) ls lp (fs_A dp) (fs_A sw) (fs_A sr) (fs_A rl) (fs_A ed) (fs_A rs) (fs_A ai) (fs_A ae) (fs_A ar) rc dc pc (fs_A hp) (fs_A ky) se ch cp rp rb) := by
        intro hw
        refine fx_join75 (ov' := 1) R hj sj e1 e2 p2 (fun z => absurd z c) (fun _ => rfl) (fun h' hp' se' H' => ?_)
        have R' := fs_R_join R hj sj e1 e2 p2 (Or.inr rfl) H'
        have Y101 : wY_join_101 (fun r' v' => r' = nI j ∧ i_Rel (k + 4) ((nI M), (nI N), cap, (nI t), (nI (fs_ld N st e p + E * (720720 / P))), (1), ms, mg, (nI h'), cc, gm, (fs_A (fs_u st j 1)), (fs_A (fs_u e j E)), (fs_A (fs_u p j P)), (fs_A (fs_u sh j (E * (720720 / P)))), (fs_A (fs_u jn j t)), (fs_A (fs_u dn j 0)), (upd ls j (-9)), (upd lp j (-1)), (fs_A (fs_u dp j 0)), (fs_A (fs_u sw j (P / E))), (fs_A (fs_u sr j (P % E))), (fs_A (fs_u rl j (t + fs_r P E 0))), (fs_A (fs_u (fs_u ed j t) j (t + fs_r P E (0 + 1)))), (fs_A (fs_u (fs_u rs j 0) j (fs_m P E (0 + 1)))), (fs_A (fs_u (fs_u ai j 0) j (0 + 1))), (fs_A (fs_u (fs_u ae j t) j (t + fs_r P E (0 + 1)))), (fs_A (fs_u (fs_u ar j 0) j (fs_m P E (0 + 1)))), rc, (fs_set dc (t + fs_d P E (0 + 1)) j), pc, (fs_A hp'), (fs_A (fs_u ky j (fs_k P E t 0 j))), se', ch, cp, rp, rb) v') (nI E) (nI P) (nI j) (nI (fs_ld N st e p + E * (720720 / P))) (nI M) (nI N) (nI t) ms mg ov (fs_A st) (fs_A e) (fs_A p) (fs_A jn) (fs_A dn) yls ylp ydp yrp yrb yo := by
          refine fy_join101 (by omega) (fun z => absurd (by rw [eM] at z; exact z) c) (fun _ => ⟨rfl, ?_⟩)
          exact fs_mk _ _ _ _ _ _ _ _ _ _ _ _ _ _ _ _ _ _ _ _ _ _ _ _ _ _ _ _ _ _ _ _ _ _ _ _ _ _ _ _ _ _ _ _ _ _ R'
        exact br_f h1 (br_t h2 (br_f h3 (br_t h4 (nm_r (fs_pIN hN1) ⟨N + 1, fy_jA V hj sj lo p1 p2 (fun _ => Y101) (fun z _ => absurd hw z) (fun z _ => absurd hw z) N (-1) (Nat.le_refl _) (fun z => by omega)⟩))))
      refine br_c X75 (fun hw => br_f (by rw [eL, hcap]; exact c) ?_)
      exact br_f h1 (br_t h2 (br_f h3 (br_t h4 (nm_r (fs_pIN hN1) ⟨N + 1, fy_jA V hj sj lo p1 p2 (fun z => absurd z hw) (fun _ z => absurd (by rw [eM] at z; exact z) c) (fun _ _ => ⟨rfl, Q⟩) N (-1) (Nat.le_refl _) (fun z => by omega)⟩))))
end
section
/-! leave: what a place taken out leaves behind -/
section
variable {N t x s' : Nat} {st e p jn dn ai rl : Nat → Nat}
theorem fs_st_n (hs : s' ≠ 1) (y : Nat) : fs_u st x s' y = 1 ↔ st y = 1 ∧ y ≠ x := by
  by_cases z : y = x
  · rw [z, fs_us]
    exact ⟨fun w => absurd w hs, fun w => absurd rfl w.2⟩
  · rw [fs_un z]
    exact ⟨fun w => ⟨w, z⟩, fun w => w.1⟩
theorem fs_Rc_clr {rc : Nat → Int32} (hx : x < 32) (hs : s' ≠ 1) (hr : rl x = jn x + fs_r (p x) (e x) (dn x)) (R : fs_Rc t st e p jn dn rc) : fs_Rc t (fs_u st x s') e p jn dn (fs_clr rc (rl x) x) := by
  intro s i h1 h2
  rw [fs_clr_b hx h2 h1, R s i h1 h2]
  by_cases z : i = x
  · subst z
    rw [decide_eq_true (show i = i from rfl), Bool.and_true, fs_us, decide_eq_false (show ¬ (s' = 1 ∧ jn i + fs_r (p i) (e i) (dn i) = s ∧ t < s) from fun w => hs w.1)]
    by_cases y : s = rl i
    · rw [decide_eq_true y]; simp
    · rw [decide_eq_false y, decide_eq_false (show ¬ (st i = 1 ∧ jn i + fs_r (p i) (e i) (dn i) = s ∧ t < s) by omega)]; rfl
  · rw [fs_un z, decide_eq_false z, Bool.and_false]
    simp
theorem fs_Rc_el {rc : Nat → Int32} (hs : s' ≠ 1) (hel : fs_el t st e p jn dn x = true) (R : fs_Rc t st e p jn dn rc) : fs_Rc t (fs_u st x s') e p jn dn rc := by
  intro s i h1 h2
  rw [R s i h1 h2]
  by_cases z : i = x
  · subst z
    have := (fs_el_iff.mp hel).2
    rw [fs_us, decide_eq_false (by omega), decide_eq_false (fun w => hs w.1)]
  · rw [fs_un z]
theorem fs_Dc_clr {dc : Nat → Int32} (hx : x < 32) (hs : s' ≠ 1) (R : fs_Dc st e p jn ai dc) : fs_Dc (fs_u st x s') e p jn ai (fs_clr dc (jn x + fs_d (p x) (e x) (ai x)) x) := by
  intro s i h1 h2
  rw [fs_clr_b hx h2 h1, R s i h1 h2]
  by_cases z : i = x
  · subst z
    rw [decide_eq_true (show i = i from rfl), Bool.and_true, fs_us, decide_eq_false (show ¬ (s' = 1 ∧ jn i + fs_d (p i) (e i) (ai i) = s) from fun w => hs w.1)]
    by_cases y : s = jn i + fs_d (p i) (e i) (ai i)
    · rw [decide_eq_true y]; simp
    · rw [decide_eq_false y, decide_eq_false (show ¬ (st i = 1 ∧ jn i + fs_d (p i) (e i) (ai i) = s) by omega)]; rfl
  · rw [fs_un z, decide_eq_false z, Bool.and_false]
    simp
theorem fs_el_out (hs : s' ≠ 1) (y : Nat) : fs_el t (fs_u st x s') e p jn dn y = true ↔ fs_el t st e p jn dn y = true ∧ y ≠ x := by
  rw [fs_el_iff, fs_el_iff, fs_st_n hs]
  constructor
  · intro w; exact ⟨⟨w.1.1, w.2⟩, w.1.2⟩
  · intro w; exact ⟨⟨w.1.1, w.2⟩, w.1.2⟩
theorem fs_HE_y {h : Nat} {hp : Nat → Nat} {se : Nat → Int32} {κ : Nat} (V : fs_V N t st e p jn dn) (hs : s' ≠ 1) (sx : st x ≠ 0) (hκ : κ = fs_K e p jn dn x) (H : fs_H h hp se (fun z => (∃ y, fs_el t st e p jn dn y = true ∧ z = fs_K e p jn dn y) ∧ z ≠ κ)) : fs_HE t (fs_u st x s') e p jn dn h hp se := by
  refine fs_H_congr (fun z => ?_) H
  constructor
  · rintro ⟨⟨y, hy, e1⟩, hne⟩
    refine ⟨y, (fs_el_out hs y).mpr ⟨hy, fun w => ?_⟩, e1⟩
    rw [hκ] at hne
    rw [w] at e1
    exact hne e1
  · rintro ⟨y, hy, e1⟩
    have := (fs_el_out hs y).mp hy
    refine ⟨⟨y, this.1, e1⟩, fun w => ?_⟩
    rw [e1, hκ] at w
    exact this.2 (fs_K_inj V (fs_el_st this.1) sx w)
theorem fs_HE_n {h : Nat} {hp : Nat → Nat} {se : Nat → Int32} (hs : s' ≠ 1) (hel : fs_el t st e p jn dn x = false) (H : fs_HE t st e p jn dn h hp se) : fs_HE t (fs_u st x s') e p jn dn h hp se := by
  refine fs_H_congr (fun z => ?_) H
  constructor
  · rintro ⟨y, hy, e1⟩
    refine ⟨y, (fs_el_out hs y).mpr ⟨hy, fun w => ?_⟩, e1⟩
    rw [w, hel] at hy
    cases hy
  · rintro ⟨y, hy, e1⟩
    exact ⟨y, ((fs_el_out hs y).mp hy).1, e1⟩
theorem fs_V_out (V : fs_V N t st e p jn dn) (hs : s' ≤ 2) (sx : st x ≠ 0) : fs_V N t (fs_u st x s') e p jn dn := by
  refine ⟨V.1, V.2.1, fun y => ?_, fun y hy => ?_, fun y hy => ?_⟩
  · by_cases z : y = x
    · rw [z, fs_us]; exact hs
    · rw [fs_un z]; exact V.2.2.1 y
  · have : y ≠ x := fun w => sx (by rw [← w]; exact V.2.2.2.1 y hy)
    rw [fs_un this]; exact V.2.2.2.1 y hy
  · by_cases z : y = x
    · rw [z]; exact V.2.2.2.2 x sx
    · rw [fs_un z] at hy; exact V.2.2.2.2 y hy
theorem fs_ne_out (sx : st x ≠ 0) {y : Nat} (hy : fs_u st x s' y ≠ 0) : st y ≠ 0 := by
  by_cases z : y = x
  · rw [z]; exact sx
  · rw [fs_un z] at hy; exact hy
end
theorem fs_F_lt {N t : Nat} {st e p jn dn : Nat → Nat} (V : fs_V N t st e p jn dn) {x : Nat} (sx : st x ≠ 0) : fs_F t (p x) (e x) (jn x) (dn x) < 2000 := by
  obtain ⟨a1, a2, a3, a4, a5, a6, a7, a8, a9⟩ := fs_V_x V sx
  have ht := V.2.1
  have hm := fs_d_mono a3 a4 (dn x)
  have hb := fs_b_01 (p x) (e x) (dn x)
  unfold fs_F
  by_cases z : dn x = 0
  · rw [if_pos z]; omega
  · rw [if_neg z]
    by_cases y : 2 * e x < p x
    · rw [if_pos y]; omega
    · rw [if_neg y]
      have := (fs_grp (k := dn x) a5 a3 a4 (by omega) (by omega)).2.1
      omega
section
variable {M N t h : Nat} {cap ld ov ms mg cc gm : Int32} {st e p sh jn dn dp sw sr rl ed rs ai ae ar hp ky : Nat → Nat} {ls lp rc dc pc se ch cp rp rb : Nat → Int32} {yls ylp ydp yrp yrb : Nat → Int32} {lq sl : Nat → Nat}
theorem fs_R_free {x h' : Nat} {hp' : Nat → Nat} {se' rc' : Nat → Int32} (R : fs_R M N t h cap ld ov st e p sh jn dn dp sw sr rl ed rs ai ae ar hp ky ls lp rc dc pc se rp rb yls ylp ydp yrp yrb lq sl) (sx : st x = 1) (Rc' : fs_Rc t (fs_u st x 0) e p jn dn rc') (H' : fs_HE t (fs_u st x 0) e p jn dn h' hp' se') : fs_R M N t h' cap (ld - nI (sh x)) ov (fs_u st x 0) e p (fs_u sh x 0) jn dn dp sw sr rl ed rs ai ae ar hp' ky ls lp rc' (fs_clr dc (jn x + fs_d (p x) (e x) (ai x)) x) pc se' rp rb yls ylp ydp yrp yrb lq sl := by
  obtain ⟨⟨m1, m2, m3, m4, m5, m6⟩, V, Wf, Au, Dc, Rc, Pc, H, Sh, Dp, L, Rg⟩ := R
  have sx0 : st x ≠ 0 := by omega
  have vx := fs_V_x V sx0
  refine ⟨⟨m1, m2, m3, m4, m5, ?_⟩, fs_V_out V (by decide) sx0, fs_W_st (fun y hy => ((fs_st_n (by decide) y).mp hy).1) Wf, fs_Au_st (fun y hy => ((fs_st_n (by decide) y).mp hy).1) Au, fs_Dc_clr (by omega) (by decide) Dc, Rc', ?_, H', ?_, ?_, ⟨fun y hy => L.1 y (fs_ne_out sx0 hy), fun y y' hy hy' => L.2 y y' (fs_ne_out sx0 hy) (fs_ne_out sx0 hy')⟩, Rg⟩
  · rw [m6, Sh x sx0, fs_ld_free (x := x) vx.1 sx0, pk_sub (by omega), Nat.add_sub_cancel]
  · intro s i h1 h2
    rw [Pc s i h1 h2]
    by_cases z : i = x
    · subst z
      rw [fs_us, decide_eq_false (by omega), decide_eq_false (by omega)]
    · rw [fs_un z]
  · intro y hy
    by_cases z : y = x
    · rw [z, fs_us] at hy; exact absurd rfl hy
    · rw [fs_un z] at hy ⊢
      exact Sh y hy
  · intro y hy
    by_cases z : y = x
    · rw [z, fs_us] at hy; omega
    · rw [fs_un z] at hy
      exact Dp y hy
theorem fs_R_ling {x h' G : Nat} {hp' : Nat → Nat} {se' rc' : Nat → Int32} (R : fs_R M N t h cap ld ov st e p sh jn dn dp sw sr rl ed rs ai ae ar hp ky ls lp rc dc pc se rp rb yls ylp ydp yrp yrb lq sl) (sx : st x = 1) (hG : t < G) (hG2 : G < 2000) (Rc' : fs_Rc t (fs_u st x 2) e p jn dn rc') (H' : fs_HE t (fs_u st x 2) e p jn dn h' hp' se') : fs_R M N t h' cap ld ov (fs_u st x 2) e p sh jn dn (fs_u dp x G) sw sr rl ed rs ai ae ar hp' ky ls lp rc' (fs_clr dc (jn x + fs_d (p x) (e x) (ai x)) x) (fs_set pc G x) se' rp rb yls ylp (upd ydp x (nI G)) yrp yrb lq sl := by
  obtain ⟨⟨m1, m2, m3, m4, m5, m6⟩, V, Wf, Au, Dc, Rc, Pc, H, Sh, Dp, L, Rg⟩ := R
  have sx0 : st x ≠ 0 := by omega
  have vx := fs_V_x V sx0
  refine ⟨⟨m1, m2, m3, m4, m5, ?_⟩, fs_V_out V (by decide) sx0, fs_W_st (fun y hy => ((fs_st_n (by decide) y).mp hy).1) Wf, fs_Au_st (fun y hy => ((fs_st_n (by decide) y).mp hy).1) Au, fs_Dc_clr (by omega) (by decide) Dc, Rc', ?_, H', fun y hy => Sh y (fs_ne_out sx0 hy), ?_, ⟨fun y hy => L.1 y (fs_ne_out sx0 hy), fun y y' hy hy' => L.2 y y' (fs_ne_out sx0 hy) (fs_ne_out sx0 hy')⟩, Rg⟩
  · rw [m6]
    congr 1
    unfold fs_ld
    refine fs_S_congr (fun y hy => ?_)
    by_cases z : y = x
    · rw [z, fs_us, if_neg sx0, if_neg (by decide)]
    · rw [fs_un z]
  · intro s i h1 h2
    rw [fs_set_b (by omega) h2 h1, Pc s i h1 h2]
    by_cases z : i = x
    · subst z
      rw [fs_us, fs_us, decide_eq_false (show ¬ (st i = 2 ∧ dp i = s) by omega), decide_eq_true (show i = i from rfl), Bool.and_true, Bool.false_or]
      rw [Bool.eq_iff_iff, decide_eq_true_eq, decide_eq_true_eq]
      omega
    · rw [fs_un z, fs_un z, decide_eq_false z, Bool.and_false, Bool.or_false]
  · intro y hy
    by_cases z : y = x
    · rw [z, fs_us, pk_us]
      exact ⟨hG, hG2, rfl⟩
    · rw [fs_un z] at hy
      rw [fs_un z, pk_un z]
      exact Dp y hy
theorem fx_withdraw {post : SX → Prop} {x : Nat} (R : fs_R M N t h cap ld ov st e p sh jn dn dp sw sr rl ed rs ai ae ar hp ky ls lp rc dc pc se rp rb yls ylp ydp yrp yrb lq sl) (sx : st x = 1) (K : ∀ (h' : Nat) (hp' : Nat → Nat) (se' rc' : Nat → Int32), (∀ s', s' ≠ 1 → fs_Rc t (fs_u st x s') e p jn dn rc' ∧ fs_HE t (fs_u st x s') e p jn dn h' hp' se') → post ((nI M), (nI N), cap, (nI t), ld, ov, ms, mg, (nI h'), cc, gm, (fs_A st), (fs_A e), (fs_A p), (fs_A sh), (fs_A jn), (fs_A dn), ls, lp, (fs_A dp), (fs_A sw), (fs_A sr), (fs_A rl), (fs_A ed), (fs_A rs), (fs_A ai), (fs_A ae), (fs_A ar), rc', (fs_clr dc (jn x + fs_d (p x) (e x) (ai x)) x), pc, (fs_A hp'), (fs_A ky), se', ch, cp, rp, rb)) : wpX_withdraw post ((nI M), (nI N), cap, (nI t), ld, ov, ms, mg, (nI h), cc, gm, (fs_A st), (fs_A e), (fs_A p), (fs_A sh), (fs_A jn), (fs_A dn), ls, lp, (fs_A dp), (fs_A sw), (fs_A sr), (fs_A rl), (fs_A ed), (fs_A rs), (fs_A ai), (fs_A ae), (fs_A ar), rc, dc, pc, (fs_A hp), (fs_A ky), se, ch, cp, rp, rb) (nI x) := by
  obtain ⟨⟨m1, m2, m3, m4, m5, m6⟩, V, Wf, Au, Dc, Rc, Pc, H, Sh, Dp, L, Rg⟩ := R
  have sx0 : st x ≠ 0 := by omega
  have vx := fs_V_x V sx0
  have ht := V.2.1
  obtain ⟨a1, a2, a3, a4, a5⟩ := Au x sx
  have w3 := (Wf x sx).2.2.1
  have hj : jn x + fs_d (p x) (e x) (ai x) < 1000 := by
    have b1 := a3 (ai x - 1) (by omega)
    have b2 := fs_r_up (p := p x) vx.2.2.1 vx.2.2.2.2.1 (ai x - 1)
    have b3 := (fs_rd (p := p x) vx.2.2.1 (ai x - 1)).1
    have b4 := (fs_rd (p := p x) vx.2.2.1 (ai x)).2
    rw [show ai x - 1 + 1 = ai x by omega] at b2
    omega
  cases hel : fs_el t st e p jn dn x
  · have hse := fs_seat_n V vx.2.1 H hel
    exact fx_wd_cal vx.2.1 vx.2.2.1 vx.2.2.2.2.1 vx.2.2.2.1 hj a4 a5 hse (by omega) (K h hp se _ (fun s' hs => ⟨fs_Rc_clr (by omega) hs w3 Rc, fs_HE_n hs hel H⟩))
  · obtain ⟨i, hi, e1, hse⟩ := fs_seat_y vx.2.1 H hel
    obtain ⟨h', rfl⟩ : ∃ h', h = h' + 1 := ⟨h - 1, by omega⟩
    exact fx_wd_heap vx.2.1 vx.2.2.1 vx.2.2.2.2.1 vx.2.2.2.1 hj a4 a5 hse hi H (fun hp' se' H' => K h' hp' se' rc (fun s' hs => ⟨fs_Rc_el hs hel Rc, fs_HE_y V hs sx0 e1 H'⟩))
theorem fx_leave57 {post : Int32 → SX → Prop} {x G : Nat} (R : fs_R M N t h cap ld ov st e p sh jn dn dp sw sr rl ed rs ai ae ar hp ky ls lp rc dc pc se rp rb yls ylp ydp yrp yrb lq sl) (sx : st x = 1) (hG2 : G < 2000)
    (K0 : G = t → ∀ (h' : Nat) (hp' : Nat → Nat) (se' rc' : Nat → Int32), fs_Rc t (fs_u st x 0) e p jn dn rc' → fs_HE t (fs_u st x 0) e p jn dn h' hp' se' → post (nI G) ((nI M), (nI N), cap, (nI t), (ld - nI (sh x)), ov, ms, mg, (nI h'), cc, gm, (fs_A (fs_u st x 0)), (fs_A e), (fs_A p), (fs_A (fs_u sh x 0)), (fs_A jn), (fs_A dn), ls, lp, (fs_A dp), (fs_A sw), (fs_A sr), (fs_A rl), (fs_A ed), (fs_A rs), (fs_A ai), (fs_A ae), (fs_A ar), rc', (fs_clr dc (jn x + fs_d (p x) (e x) (ai x)) x), pc, (fs_A hp'), (fs_A ky), se', ch, cp, rp, rb))
    (K2 : G ≠ t → ∀ (h' : Nat) (hp' : Nat → Nat) (se' rc' : Nat → Int32), fs_Rc t (fs_u st x 2) e p jn dn rc' → fs_HE t (fs_u st x 2) e p jn dn h' hp' se' → post (nI G) ((nI M), (nI N), cap, (nI t), ld, ov, ms, mg, (nI h'), cc, gm, (fs_A (fs_u st x 2)), (fs_A e), (fs_A p), (fs_A sh), (fs_A jn), (fs_A dn), ls, lp, (fs_A (fs_u dp x G)), (fs_A sw), (fs_A sr), (fs_A rl), (fs_A ed), (fs_A rs), (fs_A ai), (fs_A ae), (fs_A ar), rc', (fs_clr dc (jn x + fs_d (p x) (e x) (ai x)) x), (fs_set pc G x), (fs_A hp'), (fs_A ky), se', ch, cp, rp, rb)) : wX_leave_57 post (nI x) (nI G) (nI M) (nI N) cap (nI t) ld ov ms mg (nI h) cc gm (fs_A st) (fs_A e) (fs_A p) (fs_A sh) (fs_A jn) (fs_A dn) ls lp (fs_A dp) (fs_A sw) (fs_A sr) (fs_A rl) (fs_A ed) (fs_A rs) (fs_A ai) (fs_A ae) (fs_A ar) rc dc pc (fs_A hp) (fs_A ky) se ch cp rp rb := by
  have V := R.2.1
  have vx := fs_V_x V (show st x ≠ 0 by omega)
  have ht := V.2.1
  have hi := fs_in vx.2.1
  have hc : (nI x).toNatClampNeg = x := nI_clamp (by omega)
  unfold wX_leave_57
  refine fx_withdraw R sx (fun h' hp' se' rc' F => ?_)
  refine pk_eq G t (fun z => ?_) (fun z => And.intro hi (nm_r (e' := fs_A (fs_u st x 2)) ?_ (And.intro hi (nm_r (e' := fs_A (fs_u dp x G)) ?_ ?_))))
  · have f := F 0 (by decide)
    exact fx_free vx.2.1 (K0 z h' hp' se' rc' f.1 f.2)
  · rw [hc]; exact fs_up st x 2
  · rw [hc]; exact fs_up dp x G
  · have f := F 2 (by decide)
    have k := K2 z h' hp' se' rc' f.1 f.2
    refine pk_lt 600 G (fun y => ?_) (fun y => ?_)
    · rw [show fs_set pc G x = pc from if_neg (by omega)] at k
      exact k
    · rw [show fs_set pc G x = upd pc G (pc G ||| fs_1 x) from if_pos y] at k
      refine And.intro (fs_inC y) (And.intro (fs_inC y) (nm_r ?_ k))
      rw [nI_clamp (by omega)]
      rfl
end
section
variable {M N t : Nat} {ms mg ov : Int32} {st e p jn dn : Nat → Nat} {yls ylp ydp yrp yrb yo : Nat → Int32}
theorem fy_leave96 {post : Int32 → SY → Prop} {x F : Nat} (hx : x < 16) (ht : t ≤ 600) (hF : F < 2000) (K0 : F ≤ t → post (nI t) ((nI M), (nI N), (nI t), ms, mg, ov, (fs_A (fs_u st x 0)), (fs_A e), (fs_A p), (fs_A jn), (fs_A dn), yls, ylp, ydp, yrp, yrb, yo)) (K2 : t < F → post (nI F) ((nI M), (nI N), (nI t), ms, mg, ov, (fs_A (fs_u st x 2)), (fs_A e), (fs_A p), (fs_A jn), (fs_A dn), yls, ylp, (upd ydp x (nI F)), yrp, yrb, yo)) : wY_leave_96 post (nI x) (nI F) (nI M) (nI N) (nI t) ms mg ov (fs_A st) (fs_A e) (fs_A p) (fs_A jn) (fs_A dn) yls ylp ydp yrp yrb yo := by
  have hi := fs_in hx
  have hc : (nI x).toNatClampNeg = x := nI_clamp (by omega)
  refine pk_le F t (fun z => ?_) (fun z => ?_)
  · refine br_t rfl (And.intro hi (nm_r ?_ (K0 z)))
    rw [hc]; exact fs_up st x 0
  · refine br_f (by rw [nI_eq (by omega) (by omega)]; omega) (And.intro hi (nm_r (e' := fs_A (fs_u st x 2)) ?_ (And.intro hi (nm_r ?_ (K2 z)))))
    · rw [hc]; exact fs_up st x 2
    · rw [hc]
theorem fy_leaveA {post : Int32 → SY → Prop} {x : Nat} (V : fs_V N t st e p jn dn) (hx : x < N) (sx : st x = 1) (K : wY_leave_96 post (nI x) (nI (fs_F t (p x) (e x) (jn x) (dn x))) (nI M) (nI N) (nI t) ms mg ov (fs_A st) (fs_A e) (fs_A p) (fs_A jn) (fs_A dn) yls ylp ydp yrp yrb yo) : wpY_leave post ((nI M), (nI N), (nI t), ms, mg, ov, (fs_A st), (fs_A e), (fs_A p), (fs_A jn), (fs_A dn), yls, ylp, ydp, yrp, yrb, yo) (nI x) := by
  obtain ⟨a1, a2, a3, a4, a5, a6, a7, a8, a9⟩ := fs_V_x V (show st x ≠ 0 by omega)
  have hN := V.1
  have hi := fs_in a2
  unfold fs_F at K
  unfold wpY_leave
  refine fy_inRange_y hx hN (br_f (by decide) (And.intro hi (br_f ?_ (And.intro hi (br_f ?_ (And.intro hi (nm_r (fs_Ai dn (by omega)) ?_)))))))
  · rw [fs_Ai st (by omega), sx]; decide
  · rw [fs_Ai st (by omega), sx]; decide
  · refine pk_le (dn x) 0 (fun z => ?_) (fun z => And.intro hi ?_)
    · rw [if_pos (show dn x = 0 by omega)] at K
      exact K
    · rw [if_neg (show ¬ dn x = 0 by omega)] at K
      refine fy_bit a2 a3 (by omega) a5 (by omega) (nm_r (e' := nI (jn x + fs_b (p x) (e x) (dn x))) (by rw [fs_Ai jn (by omega), nI_add]) ?_)
      refine fy_heavy a2 (by omega) a5 (fun y => ?_) (fun y => ?_)
      · rw [if_pos y] at K
        refine br_t rfl (fy_dead a2 a3 (by omega) a5 (by omega) (nm_r (e' := nI (jn x + fs_d (p x) (e x) (dn x) + fs_b (p x) (e x) (dn x))) ?_ K))
        rw [nI_add]
        congr 1
        omega
      · rw [if_neg y] at K
        refine br_f (by decide) (fy_group a2 a3 a4 a5 (by omega) (by omega) (by omega) (nm_r (e' := nI (jn x + fs_g (p x) (e x) (fs_d (p x) (e x) (dn x)) + fs_b (p x) (e x) (dn x) + 1)) ?_ K))
        rw [nI_add, nI_1]
        congr 1
        omega
end
theorem i_vc_leave {k : Nat} {u : SX} {v : SY} (I : i_Rel k u v) (hk : k + 4 ≤ 2050) (v1 : Int32) : wpX_leave (fun r u' => wpY_leave (fun r' v' => r' = r ∧ i_Rel (k + 4) u' v') v v1) u v1 := by
  refine I (fun u v => wpX_leave (fun r u' => wpY_leave (fun r' v' => r' = r ∧ i_Rel (k + 4) u' v') v v1) u v1) ?_
  intro M N t h cap ld ov ms mg cc gm st e p sh jn dn dp sw sr rl ed rs ai ae ar hp ky ls lp rc dc pc se ch cp rp rb yls ylp ydp yrp yrb yo lq sl R
  have Q : i_Rel (k + 4) ((nI M), (nI N), cap, (nI t), ld, ov, ms, mg, (nI h), cc, gm, (fs_A st), (fs_A e), (fs_A p), (fs_A sh), (fs_A jn), (fs_A dn), ls, lp, (fs_A dp), (fs_A sw), (fs_A sr), (fs_A rl), (fs_A ed), (fs_A rs), (fs_A ai), (fs_A ae), (fs_A ar), rc, dc, pc, (fs_A hp), (fs_A ky), se, ch, cp, rp, rb) ((nI M), (nI N), (nI t), ms, mg, ov, (fs_A st), (fs_A e), (fs_A p), (fs_A jn), (fs_A dn), yls, ylp, ydp, yrp, yrb, yo) := fs_mk M N t h cap ld ov ms mg cc gm st e p sh jn dn dp sw sr rl ed rs ai ae ar hp ky ls lp rc dc pc se ch cp rp rb yls ylp ydp yrp yrb yo lq sl R
  have V := R.2.1
  have hN := V.1
  have hs := V.2.2.1
  have ht := V.2.1
  unfold wpX_leave
  rcases fs_place N hN v1 with hv | ⟨j, hj, rfl⟩
  · refine fx_isPlace_n hv (br_t rfl ?_)
    unfold wpY_leave
    exact fy_inRange_n hv (br_t rfl ⟨rfl, Q⟩)
  · have hi := fs_in (show j < 16 by omega)
    have hsj := hs j
    refine fx_isPlace_y hj hN (br_f (by decide) (And.intro hi (pk_eq (st j) 0 (fun z => ?_) (fun z => And.intro hi (pk_eq (st j) 2 (fun y => ?_) (fun y => ?_) (fs_Ai st (by omega)))) (fs_Ai st (by omega)))))
    · unfold wpY_leave
      exact fy_inRange_y hj hN (br_f (by decide) (And.intro hi (pk_eq (st j) 0 (fun _ => ⟨rfl, Q⟩) (fun w => absurd z w) (fs_Ai st (by omega)))))
    · unfold wpY_leave
      exact fy_inRange_y hj hN (br_f (by decide) (And.intro hi (pk_eq (st j) 0 (fun w => absurd w z) (fun _ => And.intro hi (pk_eq (st j) 2 (fun _ => ⟨rfl, Q⟩) (fun w => absurd y w) (fs_Ai st (by omega)))) (fs_Ai st (by omega)))))
    · have sj : st j = 1 := by omega
      have vx := fs_V_x V z
      have hF := fs_F_lt V z
      refine fx_safe vx.2.1 vx.2.2.1 vx.2.2.2.1 vx.2.2.2.2.1 (by omega) ?_
      generalize hFe : fs_F t (p j) (e j) (jn j) (dn j) = F at hF ⊢
      refine pk_le F t (fun w => ?_) (fun w => ?_)
      · refine fx_leave57 (G := t) R sj (by omega) (fun _ h' hp' se' rc' Rc' H' => ?_) (fun c => absurd rfl c)
        refine fy_leaveA V hj sj ?_
        rw [hFe]
        refine fy_leave96 vx.2.1 ht hF (fun _ => ⟨rfl, ?_⟩) (fun c => by omega)
        exact fs_mk _ _ _ _ _ _ _ _ _ _ _ _ _ _ _ _ _ _ _ _ _ _ _ _ _ _ _ _ _ _ _ _ _ _ _ _ _ _ _ _ _ _ _ _ _ _ (fs_R_free R sj Rc' H')
      · refine fx_leave57 (G := F) R sj hF (fun c => by omega) (fun _ h' hp' se' rc' Rc' H' => ?_)
        refine fy_leaveA V hj sj ?_
        rw [hFe]
        refine fy_leave96 vx.2.1 ht hF (fun c => by omega) (fun _ => ⟨rfl, ?_⟩)
        exact fs_mk _ _ _ _ _ _ _ _ _ _ _ _ _ _ _ _ _ _ _ _ _ _ _ _ _ _ _ _ _ _ _ _ _ _ _ _ _ _ _ _ _ _ _ _ _ _ (fs_R_ling R sj w hF Rc' H')
end
section
/-! the constructors -/
section
variable {M N t h : Nat} {cap ld ov ms mg cc gm : Int32} {st e p sh jn dn dp sw sr rl ed rs ai ae ar hp ky : Nat → Nat} {ls lp rc dc pc se ch cp rp rb : Nat → Int32}
theorem fx_init284 {post : SX → Prop} (K : post ((nI M), (nI N), cap, (nI t), ld, ov, ms, mg, (nI h), cc, gm, (fs_A st), (fs_A e), (fs_A p), (fs_A sh), (fs_A jn), (fs_A dn), ls, (fs_fill lp 0 16 (-1)), (fs_A dp), (fs_A sw), (fs_A sr), (fs_A rl), (fs_A ed), (fs_A rs), (fs_A ai), (fs_A ae), (fs_A ar), rc, dc, pc, (fs_A hp), (fs_A ky), (fs_fill se 0 16 (-1)), ch, cp, rp, rb)) : ∀ d i, i + d = 16 → wX_init_284 post (nI M) (nI N) cap (nI t) ld ov ms mg (nI h) cc gm (d + 1) (nI i) (fs_A st) (fs_A e) (fs_A p) (fs_A sh) (fs_A jn) (fs_A dn) ls (fs_fill lp 0 i (-1)) (fs_A dp) (fs_A sw) (fs_A sr) (fs_A rl) (fs_A ed) (fs_A rs) (fs_A ai) (fs_A ae) (fs_A ar) rc dc pc (fs_A hp) (fs_A ky) (fs_fill se 0 i (-1)) ch cp rp rb := by
  intro d
  induction d with
  | zero =>
    intro i hi
    have : i = 16 := by omega
    subst this
    exact br_t (nI_le (a := 16) (Nat.le_refl _) (by decide)) K
  | succ d ih =>
    intro i hi
    have ih' := ih (i + 1) (by omega)
    have f1 := fs_fill1 se 0 i (-1)
    have f2 := fs_fill1 lp 0 i (-1)
    rw [Nat.zero_add] at f1 f2
    refine br_f (nI_ge (b := 16) (by omega) (by decide)) (And.intro (fs_in (by omega)) (nm_r (e' := fs_fill se 0 (i + 1) (-1)) ?_ (And.intro (fs_in (by omega)) (nm_r (e' := fs_fill lp 0 (i + 1) (-1)) ?_ (nm_r (nI_1 i) ih')))))
    · rw [nI_clamp (by omega), f1]
    · rw [nI_clamp (by omega), f2]
end
theorem fx_init268 {post : SX → Prop} {M N : Nat} (K : post ((nI M), (nI N), (nI (M * 720720)), (nI 0), (0), (0), (0), (0), (nI 0), (0), (0), (fs_A (fun _ => 0)), (fs_A (fun _ => 0)), (fs_A (fun _ => 0)), (fs_A (fun _ => 0)), (fs_A (fun _ => 0)), (fs_A (fun _ => 0)), (fun _ => 0), (fs_fill (fun _ => 0) 0 16 (-1)), (fs_A (fun _ => 0)), (fs_A (fun _ => 0)), (fs_A (fun _ => 0)), (fs_A (fun _ => 0)), (fs_A (fun _ => 0)), (fs_A (fun _ => 0)), (fs_A (fun _ => 0)), (fs_A (fun _ => 0)), (fs_A (fun _ => 0)), (fun _ => 0), (fun _ => 0), (fun _ => 0), (fs_A (fun _ => 0)), (fs_A (fun _ => 0)), (fs_fill (fun _ => 0) 0 16 (-1)), (fun _ => 0), (fun _ => 0), (fun _ => 0), (fun _ => 0))) : wX_init_268 post (nI N) (nI M) 0 0 0 0 0 0 0 0 0 0 (fun _ => 0) (fun _ => 0) (fun _ => 0) (fun _ => 0) (fun _ => 0) (fun _ => 0) (fun _ => 0) (fun _ => 0) (fun _ => 0) (fun _ => 0) (fun _ => 0) (fun _ => 0) (fun _ => 0) (fun _ => 0) (fun _ => 0) (fun _ => 0) (fun _ => 0) (fun _ => 0) (fun _ => 0) (fun _ => 0) (fun _ => 0) (fun _ => 0) (fun _ => 0) (fun _ => 0) (fun _ => 0) (fun _ => 0) (fun _ => 0) := by
  refine nm_r (e' := nI (M * 720720)) (pk_mul M 720720) ⟨17, ?_⟩
  have := fx_init284 (post := post) (M := M) (N := N) (cap := nI (M * 720720)) (t := 0) (ld := 0) (ov := 0) (ms := 0) (mg := 0) (h := 0) (cc := 0) (gm := 0) (st := fun _ => 0) (e := fun _ => 0) (p := fun _ => 0) (sh := fun _ => 0) (jn := fun _ => 0) (dn := fun _ => 0) (dp := fun _ => 0) (sw := fun _ => 0) (sr := fun _ => 0) (rl := fun _ => 0) (ed := fun _ => 0) (rs := fun _ => 0) (ai := fun _ => 0) (ae := fun _ => 0) (ar := fun _ => 0) (hp := fun _ => 0) (ky := fun _ => 0) (ls := fun _ => 0) (lp := fun _ => 0) (rc := fun _ => 0) (dc := fun _ => 0) (pc := fun _ => 0) (se := fun _ => 0) (ch := fun _ => 0) (cp := fun _ => 0) (rp := fun _ => 0) (rb := fun _ => 0) K 16 0 rfl
  rw [fs_fill0] at this
  exact this
theorem fs_clamp (v : Int32) {b : Nat} (hb : b < 2 ^ 31) : ¬ 1 ≤ v ∨ (1 ≤ v ∧ ¬ v ≤ nI b) ∨ (1 ≤ v ∧ v ≤ nI b ∧ ∃ s : Nat, 1 ≤ s ∧ s ≤ b ∧ v = nI s) := by
  by_cases h1 : 1 ≤ v
  · by_cases h2 : v ≤ nI b
    · exact Or.inr (Or.inr ⟨h1, h2, fs_small hb (Int32.not_lt.mpr h1) h2⟩)
    · exact Or.inr (Or.inl ⟨h1, h2⟩)
  · exact Or.inl h1
theorem fs_initN (k1 : Int32) : ∃ N : Nat, 1 ≤ N ∧ N ≤ 16 ∧ ∀ M : Nat, (∀ post : SX → Prop, post ((nI M), (nI N), (nI (M * 720720)), (nI 0), (0), (0), (0), (0), (nI 0), (0), (0), (fs_A (fun _ => 0)), (fs_A (fun _ => 0)), (fs_A (fun _ => 0)), (fs_A (fun _ => 0)), (fs_A (fun _ => 0)), (fs_A (fun _ => 0)), (fun _ => 0), (fs_fill (fun _ => 0) 0 16 (-1)), (fs_A (fun _ => 0)), (fs_A (fun _ => 0)), (fs_A (fun _ => 0)), (fs_A (fun _ => 0)), (fs_A (fun _ => 0)), (fs_A (fun _ => 0)), (fs_A (fun _ => 0)), (fs_A (fun _ => 0)), (fs_A (fun _ => 0)), (fun _ => 0), (fun _ => 0), (fun _ => 0), (fs_A (fun _ => 0)), (fs_A (fun _ => 0)), (fs_fill (fun _ => 0) 0 16 (-1)), (fun _ => 0), (fun _ => 0), (fun _ => 0), (fun _ => 0)) → wX_init_243 post k1 (nI M) 0 0 0 0 0 0 0 0 0 0 0 (fun _ => 0) (fun _ => 0) (fun _ => 0) (fun _ => 0) (fun _ => 0) (fun _ => 0) (fun _ => 0) (fun _ => 0) (fun _ => 0) (fun _ => 0) (fun _ => 0) (fun _ => 0) (fun _ => 0) (fun _ => 0) (fun _ => 0) (fun _ => 0) (fun _ => 0) (fun _ => 0) (fun _ => 0) (fun _ => 0) (fun _ => 0) (fun _ => 0) (fun _ => 0) (fun _ => 0) (fun _ => 0) (fun _ => 0) (fun _ => 0)) ∧ (∀ post : SY → Prop, post ((nI M), (nI N), (nI 0), (0), (0), (0), (fs_A (fun _ => 0)), (fs_A (fun _ => 0)), (fs_A (fun _ => 0)), (fs_A (fun _ => 0)), (fs_A (fun _ => 0)), (fun _ => 0), (fun _ => 0), (fun _ => 0), (fun _ => 0), (fun _ => 0), (fun _ => 0)) → wY_init_124 post k1 (nI M) 0 0 0 0 0 (fun _ => 0) (fun _ => 0) (fun _ => 0) (fun _ => 0) (fun _ => 0) (fun _ => 0) (fun _ => 0) (fun _ => 0) (fun _ => 0) (fun _ => 0) (fun _ => 0)) := by
  rcases fs_clamp k1 (b := 16) (by decide) with h | ⟨h1, h2⟩ | ⟨h1, h2, s, s1, s2, rfl⟩
  · exact ⟨1, by decide, by decide, fun M => ⟨fun post K => br_f h (fx_init268 (N := 1) K), fun post K => br_f h (br_t (by decide) K)⟩⟩
  · exact ⟨16, by decide, by decide, fun M => ⟨fun post K => br_t h1 (br_f h2 (fx_init268 (N := 16) K)), fun post K => br_t h1 (br_f h2 K)⟩⟩
  · exact ⟨s, s1, s2, fun M => ⟨fun post K => br_t h1 (br_t h2 (fx_init268 K)), fun post K => br_t h1 (br_t h2 K)⟩⟩
theorem fs_initM (k0 k1 : Int32) : ∃ M N : Nat, 1 ≤ M ∧ M ≤ 4 ∧ 1 ≤ N ∧ N ≤ 16 ∧ (∀ post : SX → Prop, post ((nI M), (nI N), (nI (M * 720720)), (nI 0), (0), (0), (0), (0), (nI 0), (0), (0), (fs_A (fun _ => 0)), (fs_A (fun _ => 0)), (fs_A (fun _ => 0)), (fs_A (fun _ => 0)), (fs_A (fun _ => 0)), (fs_A (fun _ => 0)), (fun _ => 0), (fs_fill (fun _ => 0) 0 16 (-1)), (fs_A (fun _ => 0)), (fs_A (fun _ => 0)), (fs_A (fun _ => 0)), (fs_A (fun _ => 0)), (fs_A (fun _ => 0)), (fs_A (fun _ => 0)), (fs_A (fun _ => 0)), (fs_A (fun _ => 0)), (fs_A (fun _ => 0)), (fun _ => 0), (fun _ => 0), (fun _ => 0), (fs_A (fun _ => 0)), (fs_A (fun _ => 0)), (fs_fill (fun _ => 0) 0 16 (-1)), (fun _ => 0), (fun _ => 0), (fun _ => 0), (fun _ => 0)) → wpX_init post k0 k1) ∧ (∀ post : SY → Prop, post ((nI M), (nI N), (nI 0), (0), (0), (0), (fs_A (fun _ => 0)), (fs_A (fun _ => 0)), (fs_A (fun _ => 0)), (fs_A (fun _ => 0)), (fs_A (fun _ => 0)), (fun _ => 0), (fun _ => 0), (fun _ => 0), (fun _ => 0), (fun _ => 0), (fun _ => 0)) → wpY_init post k0 k1) := by
  obtain ⟨N, n1, n2, h⟩ := fs_initN k1
  rcases fs_clamp k0 (b := 4) (by decide) with g | ⟨h1, h2⟩ | ⟨h1, h2, s, s1, s2, rfl⟩
  · exact ⟨1, N, by decide, by decide, n1, n2, fun post K => br_f g ((h 1).1 post K), fun post K => br_f g (br_t (by decide) ((h 1).2 post K))⟩
  · exact ⟨4, N, by decide, by decide, n1, n2, fun post K => br_t h1 (br_f h2 ((h 4).1 post K)), fun post K => br_t h1 (br_f h2 ((h 4).2 post K))⟩
  · exact ⟨s, N, s1, s2, n1, n2, fun post K => br_t h1 (br_t h2 ((h s).1 post K)), fun post K => br_t h1 (br_t h2 ((h s).2 post K))⟩
theorem i_vc0 (k0 : Int32) (k1 : Int32) : wpX_init (fun u => wpY_init (fun v => i_Rel 2 u v) k0 k1) k0 k1 := by
  obtain ⟨M, N, m1, m2, n1, n2, hX, hY⟩ := fs_initM k0 k1
  refine hX _ (hY _ ?_)
  have z1 : ∀ x : Nat, ¬ (fun _ : Nat => 0) x = 1 := fun _ => (show ¬ (0 : Nat) = 1 by decide)
  have z2 : ∀ x : Nat, ¬ (fun _ : Nat => 0) x = 2 := fun _ => (show ¬ (0 : Nat) = 2 by decide)
  refine fs_mk M N 0 0 (nI (M * 720720)) 0 0 0 0 0 0 (fun _ => 0) (fun _ => 0) (fun _ => 0) (fun _ => 0) (fun _ => 0) (fun _ => 0) (fun _ => 0) (fun _ => 0) (fun _ => 0) (fun _ => 0) (fun _ => 0) (fun _ => 0) (fun _ => 0) (fun _ => 0) (fun _ => 0) (fun _ => 0) (fun _ => 0) (fun _ => 0) (fs_fill (fun _ => 0) 0 16 (-1)) (fun _ => 0) (fun _ => 0) (fun _ => 0) (fs_fill (fun _ => 0) 0 16 (-1)) (fun _ => 0) (fun _ => 0) (fun _ => 0) (fun _ => 0) (fun _ => 0) (fun _ => 0) (fun _ => 0) (fun _ => 0) (fun _ => 0) (fun _ => 0) (fun _ => 0) (fun _ => 0) ?_
  refine ⟨⟨m1, m2, n1, rfl, Or.inl rfl, ?_⟩, ⟨n2, by decide, fun _ => (show 0 ≤ 2 by decide), fun _ _ => rfl, fun _ h => absurd rfl h⟩, fun x hx => absurd hx (z1 x), fun x hx => absurd hx (z1 x), ?_, ?_, ?_, ?_, fun x hx => absurd rfl hx, fun x hx => absurd hx (z2 x), ⟨fun x hx => absurd rfl hx, fun x y hx => absurd rfl hx⟩, fun s q hs => absurd hs (Nat.not_lt_zero _)⟩
  · rw [show fs_ld N (fun _ => 0) (fun _ => 0) (fun _ => 0) = 0 from fs_S_zero (fun i _ => if_pos rfl)]
    rfl
  · intro s i _ _
    rw [b_0]
    exact (decide_eq_false (fun w => z1 i w.1)).symm
  · intro s i _ _
    rw [b_0]
    exact (decide_eq_false (fun w => z1 i w.1)).symm
  · intro s i _ _
    rw [b_0]
    exact (decide_eq_false (fun w => z2 i w.1)).symm
  · have ne : ∀ z, ¬ ∃ x, fs_el 0 (fun _ => 0) (fun _ => 0) (fun _ => 0) (fun _ => 0) (fun _ => 0) x = true ∧ z = fs_K (fun _ => 0) (fun _ => 0) (fun _ => 0) (fun _ => 0) x := by
      rintro z ⟨x, hx, _⟩
      exact fs_el_st hx rfl
    refine ⟨by decide, ⟨fun i hi => by omega, fun z hz => absurd hz (ne z), fun i j hi => by omega, fun z hz => absurd hz (ne z)⟩, fun i hi => by omega, fun z hz _ => ?_, fun i _ hi => by omega⟩
    have := fs_fill_i (fun _ => 0) 0 16 (-1) hz
    rw [Nat.zero_add] at this
    exact this
end
