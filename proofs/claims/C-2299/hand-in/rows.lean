section
theorem pk_us {f : Nat → Int32} {k : Nat} {x : Int32} : upd f k x k = x := if_pos rfl
theorem pk_un {f : Nat → Int32} {k j : Nat} {x : Int32} (h : j ≠ k) : upd f k x j = f j := if_neg h
theorem pk_uLs {f : Nat → Int64} {k : Nat} {x : Int64} : vp_updL f k x k = x := if_pos rfl
theorem pk_uLn {f : Nat → Int64} {k j : Nat} {x : Int64} (h : j ≠ k) : vp_updL f k x j = f j := if_neg h
theorem pk_sub {a b : Nat} (h : b ≤ a) : nI a - nI b = nI (a - b) := by
  obtain ⟨c, rfl⟩ : ∃ c, a = c + b := ⟨a - b, by omega⟩
  rw [← nI_add, Int32.add_sub_cancel, Nat.add_sub_cancel]
theorem pk_m1 (n : Nat) : nI (n + 1) + (-1) = nI n := by
  rw [← nI_1, Int32.add_assoc, show (1 : Int32) + (-1) = 0 from rfl, Int32.add_zero]
theorem pk_mul (a b : Nat) : nI a * nI b = nI (a * b) := (Int32.ofNat_mul a b).symm
theorem pk_div {a d : Nat} (ha : a < 2 ^ 31) (h0 : 0 < d) (hd : d < 2 ^ 31) : nI a / nI d = nI (a / d) := by
  apply Int32.toInt_inj.mp
  rw [lg_idiv_nonneg (by rw [nI_toInt ha]; omega) (by rw [nI_toInt hd]; omega), nI_toInt ha, nI_toInt hd, nI_toInt (Nat.lt_of_le_of_lt (Nat.div_le_self a d) ha)]
  first | rfl | exact (Int.natCast_ediv _ _).symm
theorem pk_rem {a d : Nat} (ha : a < 2 ^ 31) (h0 : 0 < d) (hd : d < 2 ^ 31) : nI a - nI a / nI d * nI d = nI (a % d) := by
  rw [pk_div ha h0 hd, pk_mul, pk_sub (Nat.div_mul_le_self a d)]
  exact congrArg nI (by have := Nat.div_add_mod' a d; omega)
theorem pk_sub_toInt {a b : Nat} (ha : a < 2 ^ 30) (hb : b < 2 ^ 30) : (nI a - nI b).toInt = (a : Int) - b := by
  rw [Int32.toInt_sub, nI_toInt (by omega), nI_toInt (by omega)]
  exact Int.bmod_eq_of_le (by omega) (by omega)
theorem pk_sneg {a b : Nat} (hb : b < 2 ^ 30) (h : a < b) : nI a - nI b < 0 := by
  rw [Int32.lt_iff_toInt_lt, pk_sub_toInt (by omega) hb, show (0 : Int32).toInt = 0 from by decide]
  omega
theorem pk_ix (x : Int32) {n : Nat} (hn : n < 2 ^ 31) : x < 0 ∨ nI n ≤ x ∨ ∃ j : Nat, j < n ∧ x = nI j := by
  by_cases h : x < 0
  · exact Or.inl h
  · obtain ⟨j, hj, rfl⟩ := nI_of h
    by_cases h2 : j < n
    · exact Or.inr (Or.inr ⟨j, h2, rfl⟩)
    · exact Or.inr (Or.inl (nI_le (by omega) hj))
theorem pk_le {x y : Int32} {A B : Prop} (a b : Nat) (f : a ≤ b → A) (g : b < a → B) (hx : x = nI a := by rfl) (hy : y = nI b := by rfl) (ha : a < 2 ^ 31 := by omega) (hb : b < 2 ^ 31 := by omega) : (x ≤ y → A) ∧ (¬ x ≤ y → B) := by
  subst hx hy
  rw [nI_leI ha hb]
  exact ⟨f, fun z => g (by omega)⟩
theorem pk_lt {x y : Int32} {A B : Prop} (a b : Nat) (f : a < b → A) (g : b ≤ a → B) (hx : x = nI a := by rfl) (hy : y = nI b := by rfl) (ha : a < 2 ^ 31 := by omega) (hb : b < 2 ^ 31 := by omega) : (x < y → A) ∧ (¬ x < y → B) := by
  subst hx hy
  rw [nI_ltI ha hb]
  exact ⟨f, fun z => g (by omega)⟩
theorem pk_eq {x y : Int32} {A B : Prop} (a b : Nat) (f : a = b → A) (g : a ≠ b → B) (hx : x = nI a := by rfl) (hy : y = nI b := by rfl) (ha : a < 2 ^ 31 := by omega) (hb : b < 2 ^ 31 := by omega) : (x = y → A) ∧ (¬ x = y → B) := by
  subst hx hy
  rw [nI_eq ha hb]
  exact ⟨f, g⟩
theorem pk_in {x : Int32} (n N : Nat) (h : n < N) (hx : x = nI n := by rfl) (hN : N < 2 ^ 31 := by omega) : vp_in x N := by
  subst hx
  exact vp_in_nI h hN
theorem pk_cl {x : Int32} (n : Nat) (hx : x = nI n := by rfl) (h : n < 2 ^ 31 := by omega) : x.toNatClampNeg = n := by
  subst hx
  exact nI_clamp h
theorem pk_tn {n : Nat} (h : n < 2 ^ 32) : (nI n).toBitVec.toNat = n := Nat.mod_eq_of_lt h
theorem pk_and (x : Int32) {m : Int32} (k : Nat) (hm : m.toBitVec.toNat = 2 ^ k - 1) : x &&& m = nI (x.toBitVec.toNat % 2 ^ k) := by
  apply Int32.toBitVec_inj.mp
  apply BitVec.eq_of_toNat_eq
  rw [Int32.toBitVec_and, BitVec.toNat_and, hm, Nat.and_two_pow_sub_one_eq_mod]
  show _ = (BitVec.ofNat 32 _).toNat
  rw [BitVec.toNat_ofNat]
  exact (Nat.mod_eq_of_lt (Nat.lt_of_le_of_lt (Nat.mod_le _ _) x.toBitVec.isLt)).symm
theorem pk_andN {n : Nat} (h : n < 2 ^ 32) {m : Int32} (k : Nat) (hm : m.toBitVec.toNat = 2 ^ k - 1) : nI n &&& m = nI (n % 2 ^ k) := by
  rw [pk_and _ k hm, pk_tn h]
theorem pk_andE (x : Int32) {m : Int32} (k : Nat) (hm : m.toBitVec.toNat = 2 ^ k - 1) : ∃ j : Nat, j < 2 ^ k ∧ x &&& m = nI j := ⟨_, Nat.mod_lt _ (Nat.two_pow_pos k), pk_and x k hm⟩
theorem pk_andIn (x : Int32) {m : Int32} (k : Nat) (hm : m.toBitVec.toNat = 2 ^ k - 1) (hk : k ≤ 30) : vp_in (x &&& m) (2 ^ k) := by
  obtain ⟨j, hj, e⟩ := pk_andE x k hm
  rw [e]
  exact vp_in_nI hj (Nat.lt_of_le_of_lt (Nat.pow_le_pow_right (by decide) hk) (by decide))
theorem pk_shl (a s : Int32) (k : Nat) (hs : (s.toBitVec.smod 32).toNat = k) : (a <<< s).toBitVec.toNat = a.toBitVec.toNat * 2 ^ k % 2 ^ 32 := by
  show (a.toBitVec <<< (s.toBitVec.smod 32).toNat).toNat = _
  rw [hs, BitVec.toNat_shiftLeft, Nat.shiftLeft_eq]
theorem pk_shlN {n : Nat} (s : Int32) (k : Nat) (hs : (s.toBitVec.smod 32).toNat = k) (h : n * 2 ^ k < 2 ^ 32) : nI n <<< s = nI (n * 2 ^ k) := by
  apply Int32.toBitVec_inj.mp
  apply BitVec.eq_of_toNat_eq
  have hn : n < 2 ^ 32 := Nat.lt_of_le_of_lt (Nat.le_mul_of_pos_right n (Nat.two_pow_pos k)) h
  rw [pk_shl _ _ k hs, pk_tn hn, pk_tn h, Nat.mod_eq_of_lt h]
theorem pk_shr (a s : Int32) (k : Nat) (hs : (s.toBitVec.smod 32).toNat = k) : (a >>> s).toInt = a.toInt >>> k := by
  show (a.toBitVec.sshiftRight (s.toBitVec.smod 32).toNat).toInt = _
  rw [hs, BitVec.toInt_sshiftRight]
  rfl
theorem pk_shrN {n : Nat} (h : n < 2 ^ 31) (s : Int32) (k : Nat) (hs : (s.toBitVec.smod 32).toNat = k) : nI n >>> s = nI (n / 2 ^ k) := by
  apply Int32.toInt_inj.mp
  have h2 : n / 2 ^ k ≤ n := Nat.div_le_self _ _
  rw [pk_shr _ _ k hs, nI_toInt h, nI_toInt (by omega), Int.shiftRight_eq_div_pow]
  rfl
theorem pk_ushr (x s : Int32) (k : Nat) (hs : ((s.toUInt32 &&& Int32.toUInt32 31).toBitVec % 32).toNat = k) : (x.toUInt32 >>> (s.toUInt32 &&& Int32.toUInt32 31)).toInt32.toBitVec.toNat = x.toBitVec.toNat / 2 ^ k := by
  have e : (x.toUInt32 >>> (s.toUInt32 &&& Int32.toUInt32 31)).toInt32.toBitVec = x.toBitVec >>> k := by
    rw [← hs]
    exact UInt32.toBitVec_shiftRight _ _
  rw [e, BitVec.toNat_ushiftRight, Nat.shiftRight_eq_div_pow]
theorem pk_ushrN {n : Nat} (hn : n < 2 ^ 32) (s : Int32) (k : Nat) (hs : ((s.toUInt32 &&& Int32.toUInt32 31).toBitVec % 32).toNat = k) : ((nI n).toUInt32 >>> (s.toUInt32 &&& Int32.toUInt32 31)).toInt32 = nI (n / 2 ^ k) := by
  apply Int32.toBitVec_inj.mp
  apply BitVec.eq_of_toNat_eq
  rw [pk_ushr _ s k hs, pk_tn hn, pk_tn (Nat.lt_of_le_of_lt (Nat.div_le_self _ _) hn)]
theorem pk_least (P : Nat → Prop) (h : ∃ k, P k) : ∃ k, P k ∧ ∀ j, j < k → ¬ P j := by
  obtain ⟨k, hk⟩ := h
  induction k using Nat.strongRecOn with
  | ind k ih =>
    by_cases e : ∃ j, j < k ∧ P j
    · obtain ⟨j, hj, pj⟩ := e
      exact ih j hj pj
    · exact ⟨k, hk, fun j hj pj => e ⟨j, hj, pj⟩⟩
theorem co_4 {P : Nat → Prop} (h0 : P 0) (h1 : P 1) (h2 : P 2) (h3 : P 3) {i : Nat} (hi : i < 4) : P i :=
  match i, hi with
  | 0, _ => h0
  | 1, _ => h1
  | 2, _ => h2
  | 3, _ => h3
theorem sb_shr0 (x : Int32) : x >>> ((0 : Int32) &&& 31) = x := by
  rw [show ((0 : Int32) &&& 31) = 0 by decide]
  simp
theorem sb_shl0 (x : Int32) : x <<< ((0 : Int32) &&& 31) = x := by
  rw [show ((0 : Int32) &&& 31) = 0 by decide]
  simp
theorem sb_cl0 : (0 : Int32).toNatClampNeg = 0 := by decide
theorem sb_m1 {p : Nat} (h : 0 < p) : nI p + (-1) = nI (p - 1) := by
  obtain ⟨q, rfl⟩ : ∃ q, p = q + 1 := ⟨p - 1, by omega⟩
  exact pk_m1 q
/-! ===== Int32 by its bits: bt x i ===== -/
def bt (x : Int32) (i : Nat) : Bool := x.toBitVec.getLsbD i
theorem b_ext {x y : Int32} (h : ∀ i, i < 32 → bt x i = bt y i) : x = y := Int32.toBitVec_inj.mp (BitVec.eq_of_getLsbD_eq (fun i hi => h i hi))
theorem b_or (x y : Int32) (i : Nat) : bt (x ||| y) i = (bt x i || bt y i) := by unfold bt; rw [Int32.toBitVec_or, BitVec.getLsbD_or]
theorem b_and (x y : Int32) (i : Nat) : bt (x &&& y) i = (bt x i && bt y i) := by unfold bt; rw [Int32.toBitVec_and, BitVec.getLsbD_and]
theorem b_xor (x y : Int32) (i : Nat) : bt (x ^^^ y) i = (bt x i ^^ bt y i) := by unfold bt; rw [Int32.toBitVec_xor, BitVec.getLsbD_xor]
theorem b_big {x : Int32} {i : Nat} (h : 32 ≤ i) : bt x i = false := BitVec.getLsbD_of_ge _ _ h
theorem b_255 (i : Nat) : bt 255 i = decide (i < 8) := by
  rcases Nat.lt_or_ge i 32 with h | h
  · exact (by decide +kernel : ∀ i, i < 32 → bt 255 i = decide (i < 8)) i h
  · rw [b_big h, decide_eq_false (by omega)]
theorem b_65535 (i : Nat) : bt 65535 i = decide (i < 16) := by
  rcases Nat.lt_or_ge i 32 with h | h
  · exact (by decide +kernel : ∀ i, i < 32 → bt 65535 i = decide (i < 16)) i h
  · rw [b_big h, decide_eq_false (by omega)]
theorem b_m1 : ∀ i, i < 32 → bt (-1) i = true := by decide +kernel
theorem b_0 (i : Nat) : bt 0 i = false := BitVec.getLsbD_zero
theorem s_l : ∀ n, n < 32 → ((nI n &&& 31).toBitVec.smod 32).toNat = n := by decide +kernel
theorem s_u : ∀ n, n < 32 → (((nI n).toUInt32 &&& Int32.toUInt32 31).toBitVec % 32).toNat = n := by decide +kernel
theorem b_shl (n : Nat) (hn : n < 32) (x : Int32) {i : Nat} (hi : i < 32) : bt (x <<< (nI n &&& 31)) i = (decide (n ≤ i) && bt x (i - n)) := by
  unfold bt
  rw [Int32.toBitVec_shiftLeft]
  show (x.toBitVec <<< ((nI n &&& 31).toBitVec.smod 32).toNat).getLsbD i = _
  rw [s_l n hn, BitVec.getLsbD_shiftLeft]
  rcases Nat.lt_or_ge i n with h | h
  · simp [h, Nat.not_le.mpr h]
  · simp [hi, h, Nat.not_lt.mpr h]
theorem b_ushr (n : Nat) (hn : n < 32) (x : Int32) (i : Nat) : bt ((x.toUInt32 >>> ((nI n).toUInt32 &&& Int32.toUInt32 31)).toInt32) i = bt x (n + i) := by
  show (x.toUInt32 >>> ((nI n).toUInt32 &&& Int32.toUInt32 31)).toBitVec.getLsbD i = x.toUInt32.toBitVec.getLsbD (n + i)
  rw [UInt32.toBitVec_shiftRight]
  show (x.toUInt32.toBitVec >>> (((nI n).toUInt32 &&& Int32.toUInt32 31).toBitVec % 32).toNat).getLsbD i = _
  rw [s_u n hn, BitVec.getLsbD_ushiftRight]
theorem b_sshr (n : Nat) (hn : n < 32) (x : Int32) {i : Nat} (hi : i < 32) : bt (x >>> (nI n &&& 31)) i = if n + i < 32 then bt x (n + i) else bt x 31 := by
  unfold bt
  rw [Int32.toBitVec_shiftRight]
  show (x.toBitVec.sshiftRight ((nI n &&& 31).toBitVec.smod 32).toNat).getLsbD i = _
  rw [s_l n hn, BitVec.getLsbD_sshiftRight, BitVec.msb_eq_getLsbD_last]
  simp [hi]
end
section
/-! pure: counting, sums, updates -/
def pz_un (f : Nat → Nat) (k x : Nat) : Nat → Nat := fun i => if i = k then x else f i
theorem pz_us {f : Nat → Nat} {k x : Nat} : pz_un f k x k = x := if_pos rfl
theorem pz_ud {f : Nat → Nat} {k x i : Nat} (h : i ≠ k) : pz_un f k x i = f i := if_neg h
/-- a count below n -/
def nn_c (p : Nat → Bool) : Nat → Nat
  | 0 => 0
  | n + 1 => nn_c p n + (if p n = true then 1 else 0)
theorem nn_c_le (p : Nat → Bool) : ∀ n, nn_c p n ≤ n
  | 0 => Nat.le_refl 0
  | n + 1 => by
    have := nn_c_le p n
    show nn_c p n + (if p n = true then 1 else 0) ≤ n + 1
    split <;> omega
theorem nn_c_mono {p q : Nat → Bool} : ∀ {n : Nat}, (∀ i, i < n → p i = true → q i = true) → nn_c p n ≤ nn_c q n
  | 0, _ => Nat.le_refl 0
  | n + 1, h => by
    have h1 := nn_c_mono (p := p) (q := q) (n := n) (fun i hi => h i (by omega))
    have h2 := h n (by omega)
    show nn_c p n + (if p n = true then 1 else 0) ≤ nn_c q n + (if q n = true then 1 else 0)
    by_cases e : p n = true
    · rw [if_pos e, if_pos (h2 e)]; omega
    · rw [if_neg e]; omega
theorem nn_c_congr {p q : Nat → Bool} {n : Nat} (h : ∀ i, i < n → (p i = true ↔ q i = true)) : nn_c p n = nn_c q n :=
  Nat.le_antisymm (nn_c_mono fun i hi => (h i hi).1) (nn_c_mono fun i hi => (h i hi).2)
theorem nn_c_lt {p q : Nat → Bool} {j : Nat} (hp : p j = false) (hq : q j = true) : ∀ {n : Nat}, (∀ i, i < n → p i = true → q i = true) → j < n → nn_c p n < nn_c q n
  | 0, _, hj => absurd hj (Nat.not_lt_zero j)
  | n + 1, h, hj => by
    have hm := nn_c_mono (p := p) (q := q) (n := n) (fun i hi => h i (by omega))
    have h2 := h n (by omega)
    show nn_c p n + (if p n = true then 1 else 0) < nn_c q n + (if q n = true then 1 else 0)
    by_cases e : j = n
    · subst e
      rw [hp, hq, if_neg (by decide), if_pos rfl]; omega
    · have h1 := nn_c_lt (n := n) hp hq (fun i hi => h i (by omega)) (by omega)
      by_cases e : p n = true
      · rw [if_pos e, if_pos (h2 e)]; omega
      · rw [if_neg e]; omega
theorem nn_c_all {p : Nat → Bool} : ∀ {n : Nat}, (∀ i, i < n → p i = true) → nn_c p n = n
  | 0, _ => rfl
  | n + 1, h => by
    show nn_c p n + (if p n = true then 1 else 0) = n + 1
    rw [nn_c_all (n := n) (fun i hi => h i (by omega)), if_pos (h n (by omega))]
theorem nn_c_none {p : Nat → Bool} : ∀ {n : Nat}, (∀ i, i < n → p i = false) → nn_c p n = 0
  | 0, _ => rfl
  | n + 1, h => by
    show nn_c p n + (if p n = true then 1 else 0) = 0
    rw [nn_c_none (n := n) (fun i hi => h i (by omega)), h n (by omega)]; rfl
theorem nn_c_pos {p : Nat → Bool} {n : Nat} (h : nn_c p n ≠ 0) : ∃ i, i < n ∧ p i = true := by
  refine Classical.byContradiction fun hn => h (nn_c_none fun i hi => ?_)
  cases e : p i with
  | false => rfl
  | true => exact absurd ⟨i, hi, e⟩ hn
theorem nn_c_ne {p : Nat → Bool} {n j : Nat} (hj : j < n) (h : p j = true) : nn_c p n ≠ 0 := by
  have := nn_c_lt (p := fun _ => false) (q := p) (j := j) (n := n) rfl h (fun _ _ z => nomatch z) hj
  omega
/-- one more member -/
theorem nn_c_ins {p q : Nat → Bool} {j : Nat} (hp : p j = false) (hq : q j = true) : ∀ {n : Nat}, (∀ i, i < n → i ≠ j → p i = q i) → j < n → nn_c q n = nn_c p n + 1
  | 0, _, hj => absurd hj (Nat.not_lt_zero j)
  | n + 1, h, hj => by
    show nn_c q n + (if q n = true then 1 else 0) = nn_c p n + (if p n = true then 1 else 0) + 1
    by_cases e : j = n
    · subst e
      have : nn_c p j = nn_c q j := nn_c_congr fun i hi => by rw [h i (by omega) (by omega)]
      rw [hq, hp, if_pos rfl, if_neg (by decide)]; omega
    · have h1 := nn_c_ins (n := n) hp hq (fun i hi => h i (by omega)) (by omega)
      rw [h n (by omega) (fun z => e z.symm)]; omega
/-- Nat sums -/
def sn_s (f : Nat → Nat) : Nat → Nat
  | 0 => 0
  | n + 1 => sn_s f n + f n
theorem sn_congr {f g : Nat → Nat} : ∀ {n : Nat}, (∀ i, i < n → f i = g i) → sn_s f n = sn_s g n
  | 0, _ => rfl
  | n + 1, h => by
    show sn_s f n + f n = sn_s g n + g n
    rw [sn_congr (n := n) (fun i hi => h i (by omega)), h n (by omega)]
theorem sn_one {f g : Nat → Nat} {j : Nat} : ∀ {n : Nat}, (∀ i, i < n → i ≠ j → g i = f i) → j < n → sn_s g n + f j = sn_s f n + g j
  | 0, _, hj => absurd hj (Nat.not_lt_zero j)
  | n + 1, h, hj => by
    show sn_s g n + g n + f j = sn_s f n + f n + g j
    by_cases e : j = n
    · subst e
      have : sn_s g j = sn_s f j := sn_congr fun i hi => h i (by omega) (by omega)
      omega
    · have h1 := sn_one (n := n) (fun i hi => h i (by omega)) (by omega)
      have h2 := h n (by omega) (fun z => e z.symm)
      omega
theorem sn_le {f g : Nat → Nat} : ∀ {n : Nat}, (∀ i, i < n → f i ≤ g i) → sn_s f n ≤ sn_s g n
  | 0, _ => Nat.le_refl 0
  | n + 1, h => by
    have h1 := sn_le (f := f) (g := g) (n := n) (fun i hi => h i (by omega))
    have h2 := h n (by omega)
    show sn_s f n + f n ≤ sn_s g n + g n
    omega
theorem sn_const (c : Nat) : ∀ n, sn_s (fun _ => c) n = n * c
  | 0 => by rw [Nat.zero_mul]; rfl
  | n + 1 => by
    show sn_s (fun _ => c) n + c = (n + 1) * c
    rw [sn_const c n, Nat.succ_mul]
theorem sn_zero {f : Nat → Nat} {n : Nat} (h : sn_s f n = 0) : ∀ i, i < n → f i = 0 := by
  induction n with
  | zero => intro i hi; omega
  | succ n ih =>
    have h' : sn_s f n + f n = 0 := h
    intro i hi
    by_cases e : i = n
    · subst e; omega
    · exact ih (by omega) i (by omega)
theorem sn_pos {f : Nat → Nat} {n : Nat} (h : sn_s f n ≠ 0) : ∃ i, i < n ∧ f i ≠ 0 := by
  refine Classical.byContradiction fun hn => h ?_
  rw [sn_congr (g := fun _ => 0) (fun i hi => Classical.byContradiction fun z => hn ⟨i, hi, z⟩), sn_const, Nat.mul_zero]
/-- Int32 sums -/
def si_s (f : Nat → Int32) : Nat → Int32
  | 0 => 0
  | n + 1 => si_s f n + f n
theorem si_congr {f g : Nat → Int32} : ∀ {n : Nat}, (∀ i, i < n → f i = g i) → si_s f n = si_s g n
  | 0, _ => rfl
  | n + 1, h => by
    show si_s f n + f n = si_s g n + g n
    rw [si_congr (n := n) (fun i hi => h i (by omega)), h n (by omega)]
theorem si_zero : ∀ n, si_s (fun _ => 0) n = 0
  | 0 => rfl
  | n + 1 => by
    show si_s (fun _ => 0) n + 0 = 0
    rw [si_zero n]; rfl
theorem si_add (f g : Nat → Int32) : ∀ n, si_s (fun i => f i + g i) n = si_s f n + si_s g n
  | 0 => rfl
  | n + 1 => by
    show si_s (fun i => f i + g i) n + (f n + g n) = si_s f n + f n + (si_s g n + g n)
    rw [si_add f g n]; grind
theorem si_sub (f g : Nat → Int32) : ∀ n, si_s (fun i => f i - g i) n = si_s f n - si_s g n
  | 0 => by
    show (0 : Int32) = 0 - 0
    decide
  | n + 1 => by
    show si_s (fun i => f i - g i) n + (f n - g n) = si_s f n + f n - (si_s g n + g n)
    rw [si_sub f g n]; grind
/-- one more member -/
theorem si_one {f g : Nat → Int32} {j : Nat} : ∀ {n : Nat}, (∀ i, i < n → i ≠ j → g i = f i) → j < n → f j = 0 → si_s g n = si_s f n + g j
  | 0, _, hj, _ => absurd hj (Nat.not_lt_zero j)
  | n + 1, h, hj, h0 => by
    show si_s g n + g n = si_s f n + f n + g j
    by_cases e : j = n
    · subst e
      have : si_s g j = si_s f j := si_congr fun i hi => h i (by omega) (by omega)
      rw [this, h0]; grind
    · have h1 := si_one (n := n) (fun i hi => h i (by omega)) (by omega) h0
      have h2 := h n (by omega) (fun z => e z.symm)
      rw [h1, h2]; grind
/-- the enumeration: a sum over numbers is the sum over the numbered -/
theorem si_enum {obj num : Nat → Nat} {g : Nat → Int32} : ∀ {n : Nat}, (∀ k, 1 ≤ k → k ≤ n → obj k < 24 ∧ num (obj k) = k) → (∀ o, o < 24 → 1 ≤ num o → num o ≤ n → obj (num o) = o) →
    si_s (fun k => g (obj (k + 1))) n = si_s (fun o => if 1 ≤ num o ∧ num o ≤ n then g o else 0) 24
  | 0, _, _ => by
    refine Eq.trans ?_ (si_congr (f := fun _ => 0) (fun o _ => (if_neg (by omega)).symm))
    exact (si_zero 24).symm
  | n + 1, h1, h2 => by
    show si_s (fun k => g (obj (k + 1))) n + g (obj (n + 1)) = _
    rw [si_enum (n := n) (fun k a b => h1 k a (by omega)) (fun o a b c => h2 o a b (by omega))]
    obtain ⟨k1, k2⟩ := h1 (n + 1) (by omega) (by omega)
    refine Eq.symm (Eq.trans (si_one (f := fun o => if 1 ≤ num o ∧ num o ≤ n then g o else 0) (j := obj (n + 1)) (fun i hi hne => ?_) k1 ?_) ?_)
    · have : num i ≠ n + 1 := fun z => by
        have := h2 i hi (by omega) (by omega)
        rw [z] at this
        exact hne this.symm
      by_cases e : 1 ≤ num i ∧ num i ≤ n
      · rw [if_pos e, if_pos (by omega)]
      · rw [if_neg e, if_neg (by omega)]
    · exact if_neg (by omega)
    · show _ + (if 1 ≤ num (obj (n + 1)) ∧ num (obj (n + 1)) ≤ n + 1 then g (obj (n + 1)) else 0) = _
      rw [if_pos (by omega)]
theorem nn_enum {obj num : Nat → Nat} : ∀ {n : Nat}, (∀ k, 1 ≤ k → k ≤ n → obj k < 24 ∧ num (obj k) = k) → (∀ o, o < 24 → 1 ≤ num o → num o ≤ n → obj (num o) = o) →
    n = nn_c (fun o => decide (1 ≤ num o ∧ num o ≤ n)) 24
  | 0, _, _ => by
    rw [nn_c_none]
    intro i _
    exact decide_eq_false (by omega)
  | n + 1, h1, h2 => by
    have ih := nn_enum (n := n) (fun k a b => h1 k a (by omega)) (fun o a b c => h2 o a b (by omega))
    obtain ⟨k1, k2⟩ := h1 (n + 1) (by omega) (by omega)
    rw [nn_c_ins (p := fun o => decide (1 ≤ num o ∧ num o ≤ n)) (j := obj (n + 1)) (decide_eq_false (by omega)) (decide_eq_true (by omega)) (fun i hi hne => ?_) k1, ← ih]
    have : num i ≠ n + 1 := fun z => by
      have := h2 i hi (by omega) (by omega)
      rw [z] at this
      exact hne this.symm
    exact decide_eq_decide.mpr (by omega)
/-- arrays of naturals -/
def rp_a (a : Nat → Int32) (f : Nat → Nat) (n : Nat) : Prop := ∀ i, i < n → a i = nI (f i)
theorem rp_upd {a : Nat → Int32} {f : Nat → Nat} {n k x : Nat} (h : rp_a a f n) : rp_a (upd a k (nI x)) (pz_un f k x) n := by
  intro i hi
  by_cases e : i = k
  · subst e; rw [pk_us, pz_us]
  · rw [pk_un e, pz_ud e]; exact h i hi
theorem rp_push {a : Nat → Int32} {f : Nat → Nat} {n x : Nat} (h : rp_a a f n) : rp_a (upd a n (nI x)) (pz_un f n x) (n + 1) := by
  intro i hi
  by_cases e : i = n
  · subst e; rw [pk_us, pz_us]
  · rw [pk_un e, pz_ud e]; exact h i (by omega)
theorem rp_le {a : Nat → Int32} {f : Nat → Nat} {n m : Nat} (h : rp_a a f n) (hm : m ≤ n) : rp_a a f m := fun i hi => h i (by omega)
/-- reachable from roots, without a set -/
def Rc_h (R : Nat → Prop) (E : Nat → Nat → Prop) (W : Nat → Prop) (x : Nat) : Prop :=
  ∀ S : Nat → Prop, (∀ b, R b → ¬ W b → S b) → (∀ a b, S a → E a b → ¬ W b → S b) → S x
section
variable {R : Nat → Prop} {E : Nat → Nat → Prop} {W : Nat → Prop}
theorem rc_root {b : Nat} (h : R b) (w : ¬ W b) : Rc_h R E W b := fun _ h1 _ => h1 b h w
theorem rc_step {a b : Nat} (ha : Rc_h R E W a) (h : E a b) (w : ¬ W b) : Rc_h R E W b := fun S h1 h2 => h2 a b (ha S h1 h2) h w
theorem rc_ind {S : Nat → Prop} {x : Nat} (hx : Rc_h R E W x) (h1 : ∀ b, R b → ¬ W b → S b) (h2 : ∀ a b, Rc_h R E W a → S a → E a b → ¬ W b → S b) : S x :=
  (hx (fun y => Rc_h R E W y ∧ S y) (fun b hb w => ⟨rc_root hb w, h1 b hb w⟩) (fun a b ha e w => ⟨rc_step ha.1 e w, h2 a b ha.1 ha.2 e w⟩)).2
theorem rc_sub {W' : Nat → Prop} {x : Nat} (h : Rc_h R E W x) (hW : ∀ b, W' b → W b) : Rc_h R E W' x :=
  h (Rc_h R E W') (fun _ hb w => rc_root hb fun z => w (hW _ z)) (fun _ _ ha e w => rc_step ha e fun z => w (hW _ z))
theorem rc_notW {x : Nat} (h : Rc_h R E W x) : ¬ W x := rc_ind (S := fun y => ¬ W y) h (fun _ _ w => w) (fun _ _ _ _ _ w => w)
end
/-- ancestors: iterates of par -/
def it_p (par : Nat → Nat) : Nat → Nat → Nat
  | 0, b => b
  | k + 1, b => par (it_p par k b)
theorem it_add (par : Nat → Nat) (b : Nat) (j : Nat) : ∀ k, it_p par (k + j) b = it_p par k (it_p par j b)
  | 0 => by rw [Nat.zero_add]; rfl
  | k + 1 => by
    rw [Nat.succ_add]
    show par (it_p par (k + j) b) = par (it_p par k (it_p par j b))
    rw [it_add par b j k]
def An_c (par : Nat → Nat) (a b : Nat) : Prop := ∃ k, it_p par k b = a
theorem an_rf {par : Nat → Nat} (a : Nat) : An_c par a a := ⟨0, rfl⟩
theorem an_par {par : Nat → Nat} (a : Nat) : An_c par (par a) a := ⟨1, rfl⟩
theorem an_tr {par : Nat → Nat} {a b c : Nat} (h : An_c par a b) (g : An_c par b c) : An_c par a c := by
  obtain ⟨k, rfl⟩ := h
  obtain ⟨j, rfl⟩ := g
  exact ⟨k + j, it_add par c j k⟩
/-- ancestors of one are a chain -/
theorem an_lin {par : Nat → Nat} {a b c : Nat} (h : An_c par a c) (g : An_c par b c) : An_c par a b ∨ An_c par b a := by
  obtain ⟨k, rfl⟩ := h
  obtain ⟨j, rfl⟩ := g
  rcases Nat.le_total k j with q | q
  · refine Or.inr ⟨j - k, ?_⟩
    rw [← it_add]; congr 1; omega
  · refine Or.inl ⟨k - j, ?_⟩
    rw [← it_add]; congr 1; omega
theorem an_cases {par : Nat → Nat} {a b : Nat} (h : An_c par a b) : a = b ∨ An_c par a (par b) := by
  obtain ⟨k, rfl⟩ := h
  cases k with
  | zero => exact Or.inl rfl
  | succ k => exact Or.inr ⟨k, (it_add par b 1 k).symm⟩
/-- parents below -/
def Dn_p (par : Nat → Nat) (m : Nat) : Prop := par 0 = 0 ∧ ∀ k, 1 ≤ k → k < m → par k < k
theorem dn_le {par : Nat → Nat} {m : Nat} (h : Dn_p par m) {k : Nat} (hk : k < m) : par k ≤ k := by
  by_cases e : k = 0
  · subst e; rw [h.1]; exact Nat.le_refl 0
  · have := h.2 k (by omega) hk; omega
theorem an_it {par : Nat → Nat} {m : Nat} (h : Dn_p par m) {b : Nat} (hb : b < m) : ∀ k, it_p par k b ≤ b
  | 0 => Nat.le_refl b
  | k + 1 => by
    have h1 := an_it h hb k
    have h2 := dn_le h (k := it_p par k b) (by omega)
    show par (it_p par k b) ≤ b
    omega
theorem an_le {par : Nat → Nat} {m : Nat} (h : Dn_p par m) {a b : Nat} (hb : b < m) (g : An_c par a b) : a ≤ b := by
  obtain ⟨k, rfl⟩ := g
  exact an_it h hb k
theorem an_0 {par : Nat → Nat} {m : Nat} (h : Dn_p par m) : ∀ b, b < m → An_c par 0 b := by
  intro b
  induction b using Nat.strongRecOn with
  | ind b ih =>
    intro hb
    by_cases e : b = 0
    · subst e; exact an_rf 0
    · have := h.2 b (by omega) hb
      exact an_tr (ih (par b) this (by omega)) (an_par b)
/-- of two ancestors the lesser is the other's -/
theorem an_lin_le {par : Nat → Nat} {m : Nat} (h : Dn_p par m) {a b c : Nat} (hc : c < m) (ha : An_c par a c) (hb : An_c par b c) (l : a ≤ b) : An_c par a b := by
  rcases an_lin ha hb with g | g
  · exact g
  · have := an_le h (Nat.lt_of_le_of_lt (an_le h hc ha) hc) g
    have e : a = b := by omega
    subst e; exact an_rf a
theorem an_congr {par par' : Nat → Nat} {m : Nat} (h : Dn_p par m) (e : ∀ k, k < m → par' k = par k) {a b : Nat} (hb : b < m) (g : An_c par a b) : An_c par' a b := by
  obtain ⟨k, rfl⟩ := g
  refine ⟨k, ?_⟩
  induction k with
  | zero => rfl
  | succ k ih =>
    show par' (it_p par' k b) = par (it_p par k b)
    rw [ih, e _ (Nat.lt_of_le_of_lt (an_it h hb k) hb)]
end
section
/-! pure: the search's invariant -/
/-- the slots of number u: the roots' for 0, the object's else -/
def df_sl (rt : Nat → Int32) (rf : Nat → Nat → Int32) (obj : Nat → Nat) (u i : Nat) : Int32 := if u = 0 then rt i else rf (obj u) i
/-- a slot that is none or an object that is there -/
def df_ok (T : Nat → Prop) (x : Int32) : Prop := x = -1 ∨ ∃ p, p < 24 ∧ x = nI p ∧ T p
/-- numbers and objects -/
def df_num (T W : Nat → Prop) (m : Nat) (num obj : Nat → Nat) : Prop :=
  1 ≤ m ∧ (∀ k, 1 ≤ k → k < m → obj k < 24 ∧ num (obj k) = k ∧ T (obj k) ∧ ¬ W (obj k)) ∧ (∀ o, o < 24 → num o < m ∧ (num o ≠ 0 → obj (num o) = o))
/-- the tree -/
def df_tree (rt : Nat → Int32) (rf : Nat → Nat → Int32) (m : Nat) (obj par : Nat → Nat) : Prop :=
  Dn_p par m ∧ (∀ k, 1 ≤ k → k < m → ∃ i, i < 4 ∧ df_sl rt rf obj (par k) i = nI (obj k)) ∧
  (∀ u v i, u < v → v < m → i < 4 → df_sl rt rf obj u i = nI (obj v) → An_c par u v) ∧
  (∀ a b c, An_c par a c → a ≤ b → b ≤ c → c < m → An_c par a b)
/-- the pile -/
def df_pile (rt : Nat → Int32) (rf : Nat → Nat → Int32) (T W : Nat → Prop) (m : Nat) (num obj par : Nat → Nat) (P : Nat) (pl pf : Nat → Nat) (j : Nat) : Prop :=
  (∀ i, i < P → pf i < m ∧ pl i < 24 ∧ T (pl i) ∧ An_c par (pf i) (m - 1) ∧ ∃ q, q < 4 ∧ df_sl rt rf obj (pf i) q = nI (pl i)) ∧
  (∀ i k, i < k → k < P → An_c par (pf i) (pf k)) ∧
  (∀ u i q, u < m → i < 4 → (u + 1 = m → j ≤ i) → q < 24 → df_sl rt rf obj u i = nI q → ¬ W q → num q ≠ 0 ∨ ∃ k, k < P ∧ pl k = q ∧ pf k = u)
section
variable {rt : Nat → Int32} {rf : Nat → Nat → Int32} {T W : Nat → Prop} {m P j : Nat} {num obj par pl pf : Nat → Nat}
theorem df_m25 (h : df_num T W m num obj) : m ≤ 25 := by
  obtain ⟨h0, h1, h2⟩ := h
  have := nn_enum (obj := obj) (num := num) (n := m - 1) (fun k a b => ⟨(h1 k a (by omega)).1, (h1 k a (by omega)).2.1⟩) (fun o a b c => (h2 o a).2 (by omega))
  have h3 := nn_c_le (fun o => decide (1 ≤ num o ∧ num o ≤ m - 1)) 24
  omega
theorem df_m24 (h : df_num T W m num obj) {q : Nat} (hq : q < 24) (z : num q = 0) : m ≤ 24 := by
  obtain ⟨h0, h1, h2⟩ := h
  have := nn_enum (obj := obj) (num := num) (n := m - 1) (fun k a b => ⟨(h1 k a (by omega)).1, (h1 k a (by omega)).2.1⟩) (fun o a b c => (h2 o a).2 (by omega))
  have h3 := nn_c_lt (p := fun o => decide (1 ≤ num o ∧ num o ≤ m - 1)) (q := fun _ => true) (j := q) (n := 24) (decide_eq_false (by omega)) rfl (fun _ _ _ => rfl) hq
  rw [nn_c_all (p := fun _ => true) (fun _ _ => rfl)] at h3
  omega
theorem df_sl_upd {x : Nat} {u i : Nat} (h : u ≠ m) : df_sl rt rf (pz_un obj m x) u i = df_sl rt rf obj u i := by
  unfold df_sl
  rw [pz_ud h]
/-- a slot is looked at: nothing there -/
theorem df_skip (h : df_pile rt rf T W m num obj par P pl pf (j + 1)) (e : df_sl rt rf obj (m - 1) j = -1) : df_pile rt rf T W m num obj par P pl pf j := by
  obtain ⟨h1, h2, h3⟩ := h
  refine ⟨h1, h2, fun u i q hu hi hj hq hs hw => ?_⟩
  by_cases c : u + 1 = m ∧ i = j
  · obtain ⟨c1, c2⟩ := c
    subst c2
    have : u = m - 1 := by omega
    rw [this, e] at hs
    exact absurd hs (by
      intro z
      have := congrArg Int32.toInt z
      rw [nI_toInt (by omega)] at this
      have e1 : (-1 : Int32).toInt = -1 := by decide
      omega)
  · exact h3 u i q hu hi (fun z => by have := hj z; omega) hq hs hw
/-- a slot is looked at: its object is put on the pile -/
theorem df_push {x : Nat} (hm : 1 ≤ m) (h : df_pile rt rf T W m num obj par P pl pf (j + 1)) (hj4 : j < 4) (hx : x < 24) (hT : T x) (e : df_sl rt rf obj (m - 1) j = nI x) :
    df_pile rt rf T W m num obj par (P + 1) (pz_un pl P x) (pz_un pf P (m - 1)) j := by
  obtain ⟨h1, h2, h3⟩ := h
  refine ⟨fun i hi => ?_, fun i k hik hk => ?_, fun u i q hu hi hj hq hs hw => ?_⟩
  · by_cases c : i = P
    · subst c
      rw [pz_us, pz_us]
      exact ⟨by omega, hx, hT, an_rf _, j, hj4, e⟩
    · rw [pz_ud c, pz_ud c]
      exact h1 i (by omega)
  · have c : i ≠ P := by omega
    rw [pz_ud c]
    by_cases d : k = P
    · subst d
      rw [pz_us]
      exact (h1 i hik).2.2.2.1
    · rw [pz_ud d]
      exact h2 i k hik (by omega)
  · by_cases c : u + 1 = m ∧ i = j
    · obtain ⟨c1, c2⟩ := c
      subst c2
      have hu1 : u = m - 1 := by omega
      rw [hu1, e] at hs
      have : x = q := (nI_eq (by omega) (by omega)).mp hs
      exact Or.inr ⟨P, by omega, by rw [pz_us]; exact this, by rw [pz_us]; omega⟩
    · rcases h3 u i q hu hi (fun z => by have := hj z; omega) hq hs hw with g | ⟨k, k1, k2, k3⟩
      · exact Or.inl g
      · exact Or.inr ⟨k, by omega, by rw [pz_ud (by omega)]; exact k2, by rw [pz_ud (by omega)]; exact k3⟩
/-- an entry is taken whose object has a number, or is of those left out -/
theorem df_drop (h : df_pile rt rf T W m num obj par (P + 1) pl pf 0) (e : num (pl P) ≠ 0 ∨ W (pl P)) : df_pile rt rf T W m num obj par P pl pf 0 := by
  obtain ⟨h1, h2, h3⟩ := h
  refine ⟨fun i hi => h1 i (by omega), fun i k a b => h2 i k a (by omega), fun u i q hu hi hj hq hs hw => ?_⟩
  rcases h3 u i q hu hi hj hq hs hw with g | ⟨k, k1, k2, k3⟩
  · exact Or.inl g
  · by_cases c : k = P
    · subst c
      rw [k2] at e
      rcases e with e | e
      · exact Or.inl e
      · exact absurd e hw
    · exact Or.inr ⟨k, by omega, k2, k3⟩
/-- an entry is taken whose object gets a number -/
theorem df_take (hn : df_num T W m num obj) (ht : df_tree rt rf m obj par) (h : df_pile rt rf T W m num obj par (P + 1) pl pf 0) (z : num (pl P) = 0) (hw : ¬ W (pl P)) :
    df_num T W (m + 1) (pz_un num (pl P) m) (pz_un obj m (pl P)) ∧ df_tree rt rf (m + 1) (pz_un obj m (pl P)) (pz_un par m (pf P)) ∧
    df_pile rt rf T W (m + 1) (pz_un num (pl P) m) (pz_un obj m (pl P)) (pz_un par m (pf P)) P pl pf 4 := by
  obtain ⟨n0, n1, n2⟩ := hn
  obtain ⟨⟨t0, t1⟩, t2, t3, t4⟩ := ht
  have hD : Dn_p par m := ⟨t0, t1⟩
  obtain ⟨h1, h2, h3⟩ := h
  obtain ⟨p1, p2, p3, p4, qi, q1, q2⟩ := h1 P (by omega)
  have hob : ∀ k, 1 ≤ k → k < m → obj k ≠ pl P := fun k a b c => by
    have := (n1 k a b).2.1
    rw [c, z] at this
    omega
  have hD' : Dn_p (pz_un par m (pf P)) (m + 1) := by
    refine ⟨by rw [pz_ud (by omega)]; exact t0, fun k a b => ?_⟩
    by_cases c : k = m
    · subst c; rw [pz_us]; exact p1
    · rw [pz_ud c]; exact t1 k a (by omega)
  have up : ∀ a b, b < m → An_c par a b → An_c (pz_un par m (pf P)) a b := fun a b hb g => an_congr hD (fun k hk => pz_ud (by omega)) hb g
  have dwn : ∀ a b, b < m → An_c (pz_un par m (pf P)) a b → An_c par a b := fun a b hb g => an_congr (m := m) ⟨hD'.1, fun k a b => hD'.2 k a (by omega)⟩ (fun k hk => (pz_ud (by omega)).symm) hb g
  have pm : pz_un par m (pf P) m = pf P := pz_us
  have newA : ∀ a, An_c par a (pf P) → An_c (pz_un par m (pf P)) a m := fun a g => an_tr (up a (pf P) p1 g) (by have := an_par (par := pz_un par m (pf P)) m; rw [pm] at this; exact this)
  refine ⟨⟨by omega, fun k a b => ?_, fun o ho => ?_⟩, ⟨hD', fun k a b => ?_, fun u v i huv hv hi hs => ?_, fun a b c g hab hbc hc => ?_⟩, fun i hi => ?_, fun i k hik hk => ?_, fun u i q hu hi hj hq hs hwq => ?_⟩
  · by_cases c : k = m
    · subst c
      rw [pz_us, pz_us]
      exact ⟨p2, rfl, p3, hw⟩
    · rw [pz_ud c]
      obtain ⟨k1, k2, k3⟩ := n1 k a (by omega)
      exact ⟨k1, by rw [pz_ud (hob k a (by omega))]; exact k2, k3⟩
  · by_cases c : o = pl P
    · subst c
      rw [pz_us]
      exact ⟨by omega, fun _ => pz_us⟩
    · rw [pz_ud c]
      obtain ⟨k1, k2⟩ := n2 o ho
      exact ⟨by omega, fun e => by rw [pz_ud (by omega)]; exact k2 e⟩
  · by_cases c : k = m
    · subst c
      rw [pz_us, pz_us]
      refine ⟨qi, q1, ?_⟩
      rw [df_sl_upd (by omega)]
      exact q2
    · rw [pz_ud c, pz_ud c]
      have hpk := t1 k a (by omega)
      obtain ⟨i, i1, i2⟩ := t2 k a (by omega)
      refine ⟨i, i1, ?_⟩
      rw [df_sl_upd (by omega)]
      exact i2
  · rw [df_sl_upd (by omega)] at hs
    by_cases c : v = m
    · subst c
      rw [pz_us] at hs
      rcases h3 u i (pl P) huv hi (fun _ => Nat.zero_le _) p2 hs hw with g | ⟨k, k1, k2, k3⟩
      · exact absurd z g
      · refine newA u ?_
        by_cases d : k = P
        · subst d; rw [k3]; exact an_rf u
        · have := h2 k P (by omega) (by omega)
          rw [k3] at this
          exact this
    · rw [pz_ud c] at hs
      exact up u v (by omega) (t3 u v i huv (by omega) hi hs)
  · by_cases d : c = m
    · subst d
      rcases an_cases g with g | g
      · have : b = c := by omega
        subst this; subst g; exact an_rf a
      · rw [pm] at g
        have g1 := dwn _ _ p1 g
        by_cases e : b = c
        · subst e; exact newA a g1
        · exact up a b (by omega) (t4 a b (c - 1) (an_tr g1 p4) hab (by omega) (by omega))
    · exact up a b (by omega) (t4 a b c (dwn a c (by omega) g) hab hbc (by omega))
  · obtain ⟨a1, a2, a3, a4, q, b1, b2⟩ := h1 i (by omega)
    refine ⟨by omega, a2, a3, newA _ (h2 i P hi (by omega)), q, b1, ?_⟩
    rw [df_sl_upd (by omega)]
    exact b2
  · have := h1 k (by omega)
    exact up _ _ this.1 (h2 i k hik (by omega))
  · have hne : u ≠ m := fun c => by have := hj (by omega); omega
    rw [df_sl_upd hne] at hs
    rcases h3 u i q (by omega) hi (fun _ => Nat.zero_le _) hq hs hwq with g | ⟨k, k1, k2, k3⟩
    · refine Or.inl ?_
      by_cases c : q = pl P
      · subst c; rw [pz_us]; omega
      · rw [pz_ud c]; exact g
    · by_cases c : k = P
      · subst c
        rw [← k2, pz_us]
        exact Or.inl (by omega)
      · exact Or.inr ⟨k, by omega, k2, k3⟩
/-- the beginning -/
theorem df_start : df_num T W 1 (fun _ => 0) (fun _ => 0) ∧ df_tree rt rf 1 (fun _ => 0) (fun _ => 0) ∧ df_pile rt rf T W 1 (fun _ => 0) (fun _ => 0) (fun _ => 0) 0 pl pf 4 := by
  refine ⟨⟨by omega, fun k a b => by omega, fun o _ => ⟨Nat.zero_lt_one, fun z => absurd rfl z⟩⟩, ⟨⟨rfl, fun k a b => by omega⟩, fun k a b => by omega, fun u v i a b => by omega, fun a b c g h1 h2 h3 => ?_⟩, fun i hi => by omega, fun i k _ hk => by omega, fun u i q a b c => by have := c (by omega); omega⟩
  have : a = 0 ∧ b = 0 := by omega
  rw [this.1, this.2]
  exact an_rf 0
end
end
section
/-! pure: what comes out of the search; dominators by semidominators -/
/-- reachable from 0 along e without z -/
def Ra_z (e : Nat → Nat → Prop) (z q : Nat) : Prop := Rc_h (fun b => e 0 b) e (fun b => b = z) q
/-- a depth first tree over numbers below m -/
def Tr_e (m : Nat) (par : Nat → Nat) (e : Nat → Nat → Prop) : Prop :=
  Dn_p par m ∧ (∀ u v, e u v → u < m ∧ 1 ≤ v ∧ v < m) ∧ (∀ k, 1 ≤ k → k < m → e (par k) k) ∧
  (∀ u v, u < v → e u v → An_c par u v) ∧ (∀ a b c, An_c par a c → a ≤ b → b ≤ c → c < m → An_c par a b)
/-- semidominators by their recursion -/
def Se_m (m : Nat) (par : Nat → Nat) (e : Nat → Nat → Prop) (s : Nat → Nat) : Prop :=
  (∀ k w, e k w → k < w → s w ≤ k) ∧ (∀ k w u, e k w → An_c par u k → w < u → s w ≤ s u) ∧
  (∀ w, 1 ≤ w → w < m → (e (s w) w ∧ s w < w) ∨ ∃ k u, e k w ∧ An_c par u k ∧ w < u ∧ s w = s u)
/-- the immediate dominator -/
def Id_m (e : Nat → Nat → Prop) (w d : Nat) : Prop := d < w ∧ (1 ≤ d → ¬ Ra_z e d w) ∧ ∀ a, 1 ≤ a → a ≠ w → ¬ Ra_z e a w → 1 ≤ d ∧ ¬ Ra_z e a d
section
variable {m : Nat} {par s : Nat → Nat} {e : Nat → Nat → Prop}
theorem sd_t1 (t : Tr_e m par e) {z : Nat} : ∀ b, 1 ≤ b → b < m → ¬ An_c par z b → Ra_z e z b := by
  intro b
  induction b using Nat.strongRecOn with
  | ind b ih =>
    intro h1 h2 h3
    obtain ⟨t1, t2, t3, t4, t5⟩ := t
    have hp := t1.2 b h1 h2
    have hne : ¬ b = z := fun c => h3 (c ▸ an_rf b)
    have he := t3 b h1 h2
    by_cases c : par b = 0
    · rw [c] at he
      exact rc_root he hne
    · exact rc_step (ih (par b) hp (by omega) (by omega) (fun g => h3 (an_tr g (an_par b)))) he hne
theorem sd_an (t : Tr_e m par e) {z b : Nat} (h1 : 1 ≤ b) (h2 : b < m) (h : ¬ Ra_z e z b) : An_c par z b :=
  Classical.byContradiction fun g => h (sd_t1 t b h1 h2 g)
theorem sd_dwn (t : Tr_e m par e) {z u : Nat} (hz : z < u) (hu : Ra_z e z u) : ∀ k, k < m → An_c par u k → Ra_z e z k := by
  intro k
  induction k using Nat.strongRecOn with
  | ind k ih =>
    intro hk g
    obtain ⟨t1, t2, t3, t4, t5⟩ := t
    have hle := an_le t1 hk g
    rcases an_cases g with g | g
    · subst g; exact hu
    · have hp := t1.2 k (by omega) hk
      exact rc_step (ih (par k) hp (by omega) g) (t3 k (by omega) hk) (by omega)
/-- the semidominator is a proper ancestor -/
theorem sd_s1 (t : Tr_e m par e) (hs : Se_m m par e s) : ∀ n w, m - w ≤ n → 1 ≤ w → w < m → An_c par (s w) w ∧ s w < w := by
  intro n
  induction n with
  | zero => intro w a b c; omega
  | succ n ih =>
    intro w h0 h1 h2
    obtain ⟨t1, t2, t3, t4, t5⟩ := t
    obtain ⟨r1, r2, r3⟩ := hs
    have hp := t1.2 w h1 h2
    have hl : s w ≤ par w := r1 (par w) w (t3 w h1 h2) hp
    refine ⟨?_, by omega⟩
    rcases r3 w h1 h2 with ⟨g1, g2⟩ | ⟨k, u, g1, g2, g3, g4⟩
    · exact t4 (s w) w g2 g1
    · have hk := (t2 k w g1).1
      have hu := an_le t1 hk g2
      obtain ⟨i1, i2⟩ := ih u (by omega) (by omega) (by omega)
      rw [g4]
      rw [← g4] at i1
      rw [← g4]
      exact t5 (s w) w u i1 (by omega) (by omega) (by omega)
theorem sd_sm (t : Tr_e m par e) (hs : Se_m m par e s) {w : Nat} (h1 : 1 ≤ w) (h2 : w < m) : An_c par (s w) w ∧ s w < w := sd_s1 t hs (m - w) w (Nat.le_refl _) h1 h2
/-- from the semidominator one comes to it above it -/
theorem sd_av (t : Tr_e m par e) (hs : Se_m m par e s) {z : Nat} : ∀ n w, m - w ≤ n → 1 ≤ w → w < m → z < w → (s w = 0 ∨ Ra_z e z (s w)) → Ra_z e z w := by
  intro n
  induction n with
  | zero => intro w a b c; omega
  | succ n ih =>
    intro w h0 h1 h2 hz hr
    have t' := t
    obtain ⟨t1, t2, t3, t4, t5⟩ := t
    obtain ⟨r1, r2, r3⟩ := hs
    rcases r3 w h1 h2 with ⟨g1, g2⟩ | ⟨k, u, g1, g2, g3, g4⟩
    · rcases hr with hr | hr
      · rw [hr] at g1; exact rc_root g1 (by omega)
      · exact rc_step hr g1 (by omega)
    · have hk := (t2 k w g1).1
      have hu := an_le t1 hk g2
      rw [g4] at hr
      have hu' := ih u (by omega) (by omega) (by omega) (by omega) hr
      exact rc_step (sd_dwn t' (by omega) hu' k hk g2) g1 (by omega)
theorem sd_b (t : Tr_e m par e) (hs : Se_m m par e s) {z w : Nat} (h1 : 1 ≤ w) (h2 : w < m) (hne : z ≠ w) (h : ¬ Ra_z e z w) : An_c par z (s w) ∧ z < w := by
  have ha := sd_an t h1 h2 h
  have hl := an_le t.1 h2 ha
  obtain ⟨s1, s2⟩ := sd_sm t hs h1 h2
  refine ⟨Classical.byContradiction fun g => h (sd_av t hs (m - w) w (Nat.le_refl _) h1 h2 (by omega) ?_), by omega⟩
  by_cases c : s w = 0
  · exact Or.inl c
  · exact Or.inr (sd_t1 t (s w) (by omega) (by omega) g)
/-- if nothing on the way down from z to w can be come to from below z then z dominates w -/
theorem sd_snd (t : Tr_e m par e) (hs : Se_m m par e s) {z w : Nat} (hz : 1 ≤ z) (h2 : w < m) (ha : An_c par z w) (hzw : z < w)
    (hB : ∀ y, An_c par z y → z < y → An_c par y w → z ≤ s y) : ¬ Ra_z e z w := by
  intro hr
  obtain ⟨t1, t2, t3, t4, t5⟩ := t
  obtain ⟨r1, r2, r3⟩ := hs
  have key : ∀ a b, a < m → (a < z ∨ (¬ (An_c par z a ∧ z < a ∧ An_c par a w) ∧ ∃ u, An_c par u a ∧ z < u ∧ s u < z)) → e a b → b ≠ z →
      (b < z ∨ (¬ (An_c par z b ∧ z < b ∧ An_c par b w) ∧ ∃ u, An_c par u b ∧ z < u ∧ s u < z)) := by
    intro a b ham hS he hbz
    obtain ⟨_, b1, b2⟩ := t2 a b he
    by_cases c : b < z
    · exact Or.inl c
    · refine Or.inr ?_
      have low : s b < z → (¬ (An_c par z b ∧ z < b ∧ An_c par b w) ∧ ∃ u, An_c par u b ∧ z < u ∧ s u < z) := fun g =>
        ⟨fun ⟨g1, g2, g3⟩ => by have := hB b g1 g2 g3; omega, b, an_rf b, by omega, g⟩
      rcases hS with hS | ⟨hn, u, u1, u2, u3⟩
      · exact low (by have := r1 a b he (by omega); omega)
      · by_cases d : b < u
        · exact low (by have := r2 a b u he u1 d; omega)
        · have hub : An_c par u b := by
            by_cases f : a < b
            · exact an_tr u1 (t4 a b f he)
            · exact t5 u b a u1 (by omega) (by omega) ham
          refine ⟨fun ⟨g1, g2, g3⟩ => ?_, u, hub, u2, u3⟩
          have hzu : An_c par z u := an_lin_le t1 b2 g1 hub (by omega)
          have := hB u hzu u2 (an_tr hub g3)
          omega
  have : w < m ∧ (w < z ∨ (¬ (An_c par z w ∧ z < w ∧ An_c par w w) ∧ ∃ u, An_c par u w ∧ z < u ∧ s u < z)) := by
    refine hr (fun q => q < m ∧ (q < z ∨ (¬ (An_c par z q ∧ z < q ∧ An_c par q w) ∧ ∃ u, An_c par u q ∧ z < u ∧ s u < z))) (fun b hb hne => ⟨(t2 0 b hb).2.2, ?_⟩) (fun a b hS he hne => ⟨(t2 a b he).2.2, ?_⟩)
    · exact key 0 b (t2 0 b hb).1 (Or.inl (by omega)) hb hne
    · exact key a b hS.1 hS.2 he hne
  rcases this.2 with g | ⟨g, _⟩
  · omega
  · exact g ⟨ha, hzw, an_rf w⟩
/-- the theorem: from the best on the way -/
theorem sd_dom (t : Tr_e m par e) (hs : Se_m m par e s) {w u : Nat} (h1 : 1 ≤ w) (h2 : w < m) (u1 : s w < u) (u2 : An_c par u w)
    (hm : ∀ y, s w < y → An_c par y w → s u ≤ s y) : (s w ≤ s u → Id_m e w (s w)) ∧ (s u < s w → ∀ d, Id_m e u d → Id_m e w d) := by
  obtain ⟨s1, s2⟩ := sd_sm t hs h1 h2
  have hle : u ≤ w := an_le t.1 h2 u2
  refine ⟨fun c => ⟨s2, fun hd => ?_, fun a ha hne hr => ?_⟩, fun c d hd => ?_⟩
  · refine sd_snd t hs hd h2 s1 s2 fun y y1 y2 y3 => ?_
    have := hm y y2 y3
    omega
  · obtain ⟨b1, b2⟩ := sd_b t hs h1 h2 hne hr
    have hl := an_le t.1 (b := s w) (by omega) b1
    exact ⟨by omega, fun g => hr (sd_av t hs (m - w) w (Nat.le_refl _) h1 h2 b2 (Or.inr g))⟩
  · obtain ⟨d1, d2, d3⟩ := hd
    obtain ⟨su1, su2⟩ := sd_sm t hs (w := u) (by omega) (by omega)
    refine ⟨by omega, fun hd => ?_, fun a ha hne hr => ?_⟩
    · have nr := d2 hd
      have hdu : An_c par d u := sd_an t (by omega) (by omega) nr
      have hds := (sd_b t hs (z := d) (w := u) (by omega) (by omega) (by omega) nr).1
      have hds' : d ≤ s u := an_le t.1 (by omega) hds
      refine sd_snd t hs hd h2 (an_tr hdu u2) (by omega) fun y y1 y2 y3 => ?_
      by_cases f : s w < y
      · have := hm y f y3; omega
      · have hyw := an_le t.1 h2 y3
        have hyu : An_c par y u := an_lin_le t.1 h2 y3 u2 (by omega)
        refine Classical.byContradiction fun g => nr ?_
        have hy := sd_sm t hs (w := y) (by omega) (by omega)
        have hry : Ra_z e d y := by
          refine sd_av t hs (m - y) y (Nat.le_refl _) (by omega) (by omega) y2 ?_
          by_cases q : s y = 0
          · exact Or.inl q
          · refine Or.inr (sd_t1 t (s y) (by omega) (by omega) fun k => ?_)
            have := an_le t.1 (b := s y) (by omega) k
            omega
        exact sd_dwn t y2 hry u (by omega) hyu
    · obtain ⟨b1, b2⟩ := sd_b t hs h1 h2 hne hr
      have hl := an_le t.1 (b := s w) (by omega) b1
      exact d3 a ha (by omega) (fun g => hr (sd_dwn t (by omega) g w h2 u2))
/-- dominators are the chain of immediate dominators -/
theorem sd_trans {a d v : Nat} (h1 : ¬ Ra_z e d v) (h2 : ¬ Ra_z e a d) : ¬ Ra_z e a v := by
  intro h
  refine h1 (rc_ind (S := fun q => Ra_z e d q) h (fun b hb w => rc_root hb fun c => ?_) (fun x b hx hd he w => rc_step hd he fun c => ?_))
  · subst c; exact h2 (rc_root hb w)
  · subst c; exact h2 (rc_step hx he w)
theorem sd_chain {dd : Nat → Nat} (h0 : dd 0 = 0) (hd : ∀ w, 1 ≤ w → w < m → Id_m e w (dd w)) {a : Nat} (ha : 1 ≤ a) : ∀ v, 1 ≤ v → v < m → (An_c dd a v ↔ ¬ Ra_z e a v) := by
  have hD : Dn_p dd m := ⟨h0, fun k a b => (hd k a b).1⟩
  intro v
  induction v using Nat.strongRecOn with
  | ind v ih =>
    intro h1 h2
    obtain ⟨d1, d2, d3⟩ := hd v h1 h2
    constructor
    · intro g
      rcases an_cases g with g | g
      · subst g
        exact fun z => rc_notW z rfl
      · have hle := an_le hD (b := dd v) (by omega) g
        exact sd_trans (d2 (by omega)) ((ih (dd v) d1 (by omega) (by omega)).1 g)
    · intro g
      by_cases c : a = v
      · subst c; exact an_rf a
      · obtain ⟨k1, k2⟩ := d3 a ha c g
        exact an_tr ((ih (dd v) d1 k1 (by omega)).2 k2) (an_par v)
end
end
section
/-! indices and the graph of a place -/
theorem ix_3 (w o j : Nat) : (96 : Int32) * nI w + 4 * nI o + nI j = nI (96 * w + 4 * o + j) := by
  show nI 96 * nI w + nI 4 * nI o + nI j = _
  rw [pk_mul, pk_mul, nI_add, nI_add]
theorem ix_r (w j : Nat) : (4 : Int32) * nI w + nI j = nI (4 * w + j) := by
  show nI 4 * nI w + nI j = _
  rw [pk_mul, nI_add]
theorem ix_o (w j : Nat) : (24 : Int32) * nI w + nI j = nI (24 * w + j) := by
  show nI 24 * nI w + nI j = _
  rw [pk_mul, nI_add]
theorem ix_n (w j : Nat) : (96 : Int32) * nI w + nI j = nI (96 * w + j) := by
  show nI 96 * nI w + nI j = _
  rw [pk_mul, nI_add]
theorem ix_m1 : ∀ {p : Nat}, p < 2 ^ 31 → ¬ nI p = -1 := by
  intro p hp z
  have := congrArg Int32.toInt z
  rw [nI_toInt hp] at this
  have e1 : (-1 : Int32).toInt = -1 := by decide
  omega
theorem ix_lt0 : ((-1 : Int32) < 0) := by decide
theorem ix_p (p : Nat) : nI p - 1 = nI p + (-1) := by
  rw [Int32.sub_eq_add_neg]
theorem ix_dec {p : Nat} (h : 1 ≤ p) : nI p - 1 = nI (p - 1) := by
  obtain ⟨q, rfl⟩ : ∃ q, p = q + 1 := ⟨p - 1, by omega⟩
  exact nI_pred q
/-- a counter that goes down: x = nI j - 1 -/
theorem ix_d0 : nI 0 + (-1) < 0 := by decide
theorem ix_dn {j : Nat} (h : j < 2 ^ 31) : ¬ nI (j + 1) + (-1) < 0 := by
  rw [pk_m1]; exact nI_pos h
theorem gx_f {c : Bool} (h : ¬ c = true) : c = false := by
  cases c with
  | false => rfl
  | true => exact absurd rfl h
def gT (tH : Nat → Int32) (w o : Nat) : Prop := tH (24 * w + o) ≠ 0
def gt_r (rT : Nat → Int32) (w i : Nat) : Int32 := rT (4 * w + i)
def gf_f (rF : Nat → Int32) (w o i : Nat) : Int32 := rF (96 * w + 4 * o + i)
def gW (kD : Nat → Int32) (w : Nat) (k : Int32) (o : Nat) : Prop := k ≠ -1 ∧ kD (24 * w + o) = k
def gR (rT : Nat → Int32) (w b : Nat) : Prop := b < 24 ∧ ∃ i, i < 4 ∧ gt_r rT w i = nI b
def gE (tH rF : Nat → Int32) (w a b : Nat) : Prop := a < 24 ∧ gT tH w a ∧ b < 24 ∧ ∃ i, i < 4 ∧ gf_f rF w a i = nI b
/-- roots and fields of what is there: none, or something that is there -/
def gOk (tH rF rT : Nat → Int32) (w : Nat) : Prop :=
  (∀ i, i < 4 → df_ok (gT tH w) (gt_r rT w i)) ∧ (∀ o, o < 24 → gT tH w o → ∀ i, i < 4 → df_ok (gT tH w) (gf_f rF w o i))
theorem gE_T {tH rF rT : Nat → Int32} {w a b : Nat} (ok : gOk tH rF rT w) (h : gE tH rF w a b) : gT tH w b := by
  obtain ⟨h1, h2, h3, i, h4, h5⟩ := h
  rcases ok.2 a h1 h2 i h4 with g | ⟨p, g1, g2, g3⟩
  · rw [g] at h5; exact absurd h5.symm (ix_m1 (by omega))
  · rw [g2] at h5
    have : p = b := (nI_eq (by omega) (by omega)).mp h5
    subst this; exact g3
theorem gR_T {tH rF rT : Nat → Int32} {w b : Nat} (ok : gOk tH rF rT w) (h : gR rT w b) : gT tH w b := by
  obtain ⟨h3, i, h4, h5⟩ := h
  rcases ok.1 i h4 with g | ⟨p, g1, g2, g3⟩
  · rw [g] at h5; exact absurd h5.symm (ix_m1 (by omega))
  · rw [g2] at h5
    have : p = b := (nI_eq (by omega) (by omega)).mp h5
    subst this; exact g3
theorem gA_T {tH rF rT : Nat → Int32} {w b : Nat} {W : Nat → Prop} (ok : gOk tH rF rT w) (h : Rc_h (gR rT w) (gE tH rF w) W b) : b < 24 ∧ gT tH w b :=
  rc_ind (S := fun b => b < 24 ∧ gT tH w b) h (fun b hb _ => ⟨hb.1, gR_T ok hb⟩) (fun a b _ _ he _ => ⟨he.2.2.1, gE_T ok he⟩)
/-- what a search leaves -/
def df_out (rt : Nat → Int32) (rf : Nat → Nat → Int32) (T W : Nat → Prop) (m : Nat) (num obj par : Nat → Nat) : Prop :=
  df_num T W m num obj ∧ df_tree rt rf m obj par ∧ (∀ u i q, u < m → i < 4 → q < 24 → df_sl rt rf obj u i = nI q → ¬ W q → num q ≠ 0)
theorem df_fin {rt : Nat → Int32} {rf : Nat → Nat → Int32} {T W : Nat → Prop} {m : Nat} {num obj par pl pf : Nat → Nat} (h1 : df_num T W m num obj) (h2 : df_tree rt rf m obj par) (h3 : df_pile rt rf T W m num obj par 0 pl pf 0) : df_out rt rf T W m num obj par := by
  refine ⟨h1, h2, fun u i q hu hi hq hs hw => ?_⟩
  rcases h3.2.2 u i q hu hi (fun _ => Nat.zero_le _) hq hs hw with g | ⟨k, hk, _⟩
  · exact g
  · omega
/-- the numbered are the reachable -/
theorem df_rch {tH rF rT : Nat → Int32} {w : Nat} {W : Nat → Prop} {m : Nat} {num obj par : Nat → Nat} (h : df_out (gt_r rT w) (gf_f rF w) (gT tH w) W m num obj par) {o : Nat} (ho : o < 24) :
    num o ≠ 0 ↔ Rc_h (gR rT w) (gE tH rF w) W o := by
  obtain ⟨⟨n0, n1, n2⟩, ⟨t1, t2, t3, t4⟩, hc⟩ := h
  constructor
  · intro hn
    have key : ∀ k, 1 ≤ k → k < m → Rc_h (gR rT w) (gE tH rF w) W (obj k) := by
      intro k
      induction k using Nat.strongRecOn with
      | ind k ih =>
        intro h1 h2
        obtain ⟨a1, a2, a3, a4⟩ := n1 k h1 h2
        obtain ⟨i, i1, i2⟩ := t2 k h1 h2
        have hp := t1.2 k h1 h2
        unfold df_sl at i2
        by_cases c : par k = 0
        · rw [if_pos c] at i2
          exact rc_root ⟨a1, i, i1, i2⟩ a4
        · rw [if_neg c] at i2
          obtain ⟨b1, b2, b3, b4⟩ := n1 (par k) (by omega) (by omega)
          exact rc_step (ih (par k) hp (by omega) (by omega)) ⟨b1, b3, a1, i, i1, i2⟩ a4
    obtain ⟨k1, k2⟩ := n2 o ho
    have := key (num o) (by omega) k1
    rw [k2 hn] at this
    exact this
  · intro hr
    have : o < 24 ∧ num o ≠ 0 := by
      refine hr (fun q => q < 24 ∧ num q ≠ 0) (fun b hb hw => ?_) (fun a b ha he hw => ?_)
      · obtain ⟨b1, i, b2, b3⟩ := hb
        exact ⟨b1, hc 0 i b (by omega) b2 b1 (by unfold df_sl; rw [if_pos rfl]; exact b3) hw⟩
      · obtain ⟨a1, a2, b1, i, b2, b3⟩ := he
        obtain ⟨k1, k2⟩ := n2 a a1
        refine ⟨b1, hc (num a) i b k1 b2 b1 ?_ hw⟩
        unfold df_sl
        rw [if_neg ha.2, k2 ha.2]
        exact b3
    exact this.2
/-- how many -/
theorem df_cnt {T W : Nat → Prop} {m : Nat} {num obj : Nat → Nat} (h : df_num T W m num obj) : m - 1 = nn_c (fun o => decide (num o ≠ 0)) 24 := by
  obtain ⟨h0, h1, h2⟩ := h
  refine Eq.trans (nn_enum (obj := obj) (num := num) (n := m - 1) (fun k a b => ⟨(h1 k a (by omega)).1, (h1 k a (by omega)).2.1⟩) (fun o a b c => (h2 o a).2 (by omega))) (nn_c_congr fun o ho => ?_)
  have := (h2 o ho).1
  rw [decide_eq_true_iff, decide_eq_true_iff]
  omega
theorem df_sum {T W : Nat → Prop} {m : Nat} {num obj : Nat → Nat} (h : df_num T W m num obj) (g : Nat → Int32) : si_s (fun k => g (obj (k + 1))) (m - 1) = si_s (fun o => if num o ≠ 0 then g o else 0) 24 := by
  obtain ⟨h0, h1, h2⟩ := h
  refine Eq.trans (si_enum (obj := obj) (num := num) (g := g) (n := m - 1) (fun k a b => ⟨(h1 k a (by omega)).1, (h1 k a (by omega)).2.1⟩) (fun o a b c => (h2 o a).2 (by omega))) (si_congr fun o ho => ?_)
  have := (h2 o ho).1
  by_cases c : num o ≠ 0
  · rw [if_pos c, if_pos (by omega)]
  · rw [if_neg c, if_neg (by omega)]
/-- the numbers' graph is a tree with its edges -/
def ne_e (rt : Nat → Int32) (rf : Nat → Nat → Int32) (m : Nat) (obj : Nat → Nat) (u v : Nat) : Prop := u < m ∧ 1 ≤ v ∧ v < m ∧ ∃ i, i < 4 ∧ df_sl rt rf obj u i = nI (obj v)
theorem df_tr {rt : Nat → Int32} {rf : Nat → Nat → Int32} {m : Nat} {obj par : Nat → Nat} (h : df_tree rt rf m obj par) : Tr_e m par (ne_e rt rf m obj) := by
  obtain ⟨t1, t2, t3, t4⟩ := h
  refine ⟨t1, fun u v he => ⟨he.1, he.2.1, he.2.2.1⟩, fun k h1 h2 => ⟨?_, h1, h2, t2 k h1 h2⟩, fun u v huv he => ?_, t4⟩
  · have := t1.2 k h1 h2; omega
  · obtain ⟨a1, a2, a3, i, a4, a5⟩ := he
    exact t3 u v i huv a3 a4 a5
end
section
/-! X: search -/
section
variable {fM fO fC fX fP : Int32} {tH kD sZ rF rT nU oB pA pI pF sE aN lA dM bF bN rE cH dE qU lO oR oP nF cO iL rP : Nat → Int32}
/-- how the arrays hold numbers, objects, parents -/
def xs_rep (nU oB pA : Nat → Int32) (m : Nat) (num obj par : Nat → Nat) : Prop :=
  rp_a nU num 24 ∧ (∀ k, 1 ≤ k → k < m → oB k = nI (obj k)) ∧ (∀ k, 1 ≤ k → k < m → pA k = nI (par k))
theorem xs_target {post : Int32 → Prop} {w o j : Nat} (hw : w < 3) (ho : o < 24) (hj : j < 4) (h : post (gf_f rF w o j)) : wpX_target post (fM, fO, fC, fX, fP, tH, kD, sZ, rF, rT, nU, oB, pA, pI, pF, sE, aN, lA, dM, bF, bN, rE, cH, dE, qU, lO, oR, oP, nF, cO, iL, rP) (nI w) (nI o) (nI j) := by
  unfold wpX_target
  dsimp only
  rw [ix_3, nI_clamp (by omega)]
  exact ⟨vp_in_nI (by omega) (by omega), h⟩
theorem xs_plan0 {post : Int32 → SX → Prop} {f p : Int32} (h : post p (fM, fO, fC, fX, fP, tH, kD, sZ, rF, rT, nU, oB, pA, pI, pF, sE, aN, lA, dM, bF, bN, rE, cH, dE, qU, lO, oR, oP, nF, cO, iL, rP)) : wpX_plan post (fM, fO, fC, fX, fP, tH, kD, sZ, rF, rT, nU, oB, pA, pI, pF, sE, aN, lA, dM, bF, bN, rE, cH, dE, qU, lO, oR, oP, nF, cO, iL, rP) (-1) f p := by
  unfold wpX_plan
  exact br_t rfl h
theorem xs_plan1 {post : Int32 → SX → Prop} {q u P : Nat} (hq : q < 24) (hP : P < 120) (h : post (nI (P + 1)) (fM, fO, fC, fX, fP, tH, kD, sZ, rF, rT, nU, oB, pA, (upd pI P (nI q)), (upd pF P (nI u)), sE, aN, lA, dM, bF, bN, rE, cH, dE, qU, lO, oR, oP, nF, cO, iL, rP)) : wpX_plan post (fM, fO, fC, fX, fP, tH, kD, sZ, rF, rT, nU, oB, pA, pI, pF, sE, aN, lA, dM, bF, bN, rE, cH, dE, qU, lO, oR, oP, nF, cO, iL, rP) (nI q) (nI u) (nI P) := by
  have e : (nI P).toNatClampNeg = P := nI_clamp (by omega)
  have v : vp_in (nI P) 120 := vp_in_nI hP (by omega)
  unfold wpX_plan
  refine br_f (ix_m1 (by omega)) ⟨v, nm_r (e' := upd pI P (nI q)) (by rw [e]) ⟨v, nm_r (e' := upd pF P (nI u)) (by rw [e]) ?_⟩⟩
  rw [nI_1]
  exact h
/-- the fields of the object just numbered are put on the pile -/
theorem xs_166 {post : SX → Prop} {J : (Int32 → Int32 → Int32 → Int32 → Int32 → Int32 → Int32 → (Nat → Int32) → (Nat → Int32) → (Nat → Int32) → (Nat → Int32) → (Nat → Int32) → (Nat → Int32) → (Nat → Int32) → (Nat → Int32) → (Nat → Int32) → (Nat → Int32) → (Nat → Int32) → (Nat → Int32) → (Nat → Int32) → (Nat → Int32) → (Nat → Int32) → (Nat → Int32) → (Nat → Int32) → (Nat → Int32) → (Nat → Int32) → (Nat → Int32) → (Nat → Int32) → (Nat → Int32) → (Nat → Int32) → (Nat → Int32) → (Nat → Int32) → (Nat → Int32) → (Nat → Int32) → Prop)}
    {w m i : Nat} {wo : Int32} {W : Nat → Prop} {num obj par : Nat → Nat} (hw : w < 3) (hi : i < 120) (hm2 : 2 ≤ m) (hm : m ≤ 25) (ok : gOk tH rF rT w) (hn : df_num (gT tH w) W m num obj)
    (K : ∀ (P : Nat) (pI pF : Nat → Int32) (pl pf : Nat → Nat), rp_a pI pl P → rp_a pF pf P → df_pile (gt_r rT w) (gf_f rF w) (gT tH w) W m num obj par P pl pf 0 → i + 1 + P ≤ 4 * m → J (nI P) (nI (i + 1)) (nI m) fO fC fX fP tH kD sZ rF rT nU oB pA pI pF sE aN lA dM bF bN rE cH dE qU lO oR oP nF cO iL rP) :
    ∀ (j n P : Nat) (pI pF : Nat → Int32) (pl pf : Nat → Nat), j < n → j ≤ 4 → rp_a pI pl P → rp_a pF pf P → df_pile (gt_r rT w) (gf_f rF w) (gT tH w) W m num obj par P pl pf j → i + 1 + P + j ≤ 4 * m →
      wX_search_166 post J (nI w) wo (nI i) (nI (obj (m - 1))) n (nI P) (nI j + (-1)) (nI m) fO fC fX fP tH kD sZ rF rT nU oB pA pI pF sE aN lA dM bF bN rE cH dE qU lO oR oP nF cO iL rP := by
  intro j
  induction j with
  | zero =>
    intro n P pI pF pl pf hn' hj4 r1 r2 hp hb
    obtain ⟨n, rfl⟩ : ∃ k, n = k + 1 := ⟨n - 1, by omega⟩
    rw [wX_search_166]
    exact br_t ix_d0 (nm_r (nI_1 i) (K P pI pF pl pf r1 r2 hp (by omega)))
  | succ j ih =>
    intro n P pI pF pl pf hn' hj4 r1 r2 hp hb
    obtain ⟨n, rfl⟩ : ∃ k, n = k + 1 := ⟨n - 1, by omega⟩
    rw [wX_search_166]
    refine br_f (ix_dn (by omega)) ?_
    obtain ⟨o1, o2, o3, o4⟩ := hn.2.1 (m - 1) (by omega) (by omega)
    rw [pk_m1]
    refine xs_target hw o1 (by omega) ?_
    have es : df_sl (gt_r rT w) (gf_f rF w) obj (m - 1) j = gf_f rF w (obj (m - 1)) j := by
      unfold df_sl
      rw [if_neg (by omega)]
    rw [ix_dec (by omega)]
    rcases ok.2 (obj (m - 1)) o1 o3 j (by omega) with g | ⟨p, g1, g2, g3⟩
    · rw [g]
      refine xs_plan0 (nm_e ?_)
      exact ih n P pI pF pl pf (by omega) (by omega) r1 r2 (df_skip hp (es.trans g)) (by omega)
    · rw [g2]
      refine xs_plan1 g1 (by omega) (nm_e ?_)
      exact ih n (P + 1) _ _ _ _ (by omega) (by omega) (rp_push r1) (rp_push r2) (df_push (by omega) hp (by omega) g1 g3 (es.trans g2)) (by omega)
/-- the main loop -/
theorem xs_63 {post : SX → Prop} {w : Nat} {wo : Int32} (hw : w < 3) (ok : gOk tH rF rT w)
    (K : ∀ (m : Nat) (nU oB pA pI pF : Nat → Int32) (num obj par : Nat → Nat), xs_rep nU oB pA m num obj par → df_out (gt_r rT w) (gf_f rF w) (gT tH w) (gW kD w wo) m num obj par → post ((nI m), fO, fC, fX, fP, tH, kD, sZ, rF, rT, nU, oB, pA, pI, pF, sE, aN, lA, dM, bF, bN, rE, cH, dE, qU, lO, oR, oP, nF, cO, iL, rP)) :
    ∀ (n i m P : Nat) (nU oB pA pI pF : Nat → Int32) (num obj par pl pf : Nat → Nat), 120 < n + i → i ≤ 120 → xs_rep nU oB pA m num obj par → rp_a pI pl P → rp_a pF pf P →
      df_num (gT tH w) (gW kD w wo) m num obj → df_tree (gt_r rT w) (gf_f rF w) m obj par → df_pile (gt_r rT w) (gf_f rF w) (gT tH w) (gW kD w wo) m num obj par P pl pf 0 → i + P ≤ 4 * m →
      wX_search_63 post (nI w) wo n (nI P) (nI i) (nI m) fO fC fX fP tH kD sZ rF rT nU oB pA pI pF sE aN lA dM bF bN rE cH dE qU lO oR oP nF cO iL rP := by
  intro n
  induction n with
  | zero => intro i m P nU oB pA pI pF num obj par pl pf h1 h2; omega
  | succ n ih =>
    intro i m P nU oB pA pI pF num obj par pl pf h1 h2 hr r1 r2 hn ht hp hb
    have hm := df_m25 hn
    rw [wX_search_63]
    by_cases cP : P = 0
    · subst cP
      have fin := K m nU oB pA pI pF num obj par hr (df_fin hn ht hp)
      refine br_c (fun _ => fin) (fun _ => br_t ?_ fin)
      exact nI_le (a := 0) (b := 0) (by omega) (by omega)
    · obtain ⟨P, rfl⟩ : ∃ k, P = k + 1 := ⟨P - 1, by omega⟩
      have hi : i < 120 := by omega
      obtain ⟨p1, p2, p3, p4, q, q1, q2⟩ := hp.1 P (by omega)
      have ho : pI P = nI (pl P) := r1 P (by omega)
      have hf : pF P = nI (pf P) := r2 P (by omega)
      refine br_f (nI_ge (b := 120) hi (by omega)) (br_f (nI_ge (a := 0) (by omega) (by omega)) (nm_r (pk_m1 P) ?_))
      have eP : (nI P).toNatClampNeg = P := nI_clamp (by omega)
      have vP : vp_in (nI P) 120 := vp_in_nI (by omega) (by omega)
      refine ⟨vP, nm_r (e' := nI (pl P)) (by rw [eP, ho]) ?_⟩
      have eo : (nI (pl P)).toNatClampNeg = pl P := nI_clamp (by omega)
      have vo : vp_in (nI (pl P)) 24 := vp_in_nI p2 (by omega)
      refine ⟨vo, ?_⟩
      have hnum : nU (pl P) = nI (num (pl P)) := hr.1 (pl P) p2
      have hnm := (hn.2.2 (pl P) p2).1
      have drop : num (pl P) ≠ 0 ∨ gW kD w wo (pl P) → wX_search_63 post (nI w) wo n (nI P) (nI (i + 1)) (nI m) fO fC fX fP tH kD sZ rF rT nU oB pA pI pF sE aN lA dM bF bN rE cH dE qU lO oR oP nF cO iL rP := fun g =>
        ih (i + 1) m P nU oB pA pI pF num obj par pl pf (by omega) (by omega) hr (rp_le r1 (by omega)) (rp_le r2 (by omega)) hn ht (df_drop hp g) (by omega)
      rw [eo, hnum]
      by_cases z : num (pl P) = 0
      · refine br_t (by rw [z]; rfl) ?_
        have take : ¬ gW kD w wo (pl P) → wX_search_116 post (wX_search_63 post (nI w) wo n) (nI w) wo (nI P) (nI i) (nI (pl P)) (nI m) fO fC fX fP tH kD sZ rF rT nU oB pA pI pF sE aN lA dM bF bN rE cH dE qU lO oR oP nF cO iL rP := by
          intro hw'
          have hm24 := df_m24 hn p2 z
          obtain ⟨k1, k2, k3⟩ := df_take hn ht hp z hw'
          unfold wX_search_116
          have em : (nI m).toNatClampNeg = m := nI_clamp (by omega)
          have vm : vp_in (nI m) 25 := vp_in_nI (by omega) (by omega)
          refine ⟨vo, nm_r (e' := upd nU (pl P) (nI m)) (by rw [eo]) ⟨vm, nm_r (e' := upd oB m (nI (pl P))) (by rw [em]) ⟨vP, vm, nm_r (e' := upd pA m (nI (pf P))) (by rw [em, eP, hf]) (nm_r (nI_1 m) ⟨5, ?_⟩)⟩⟩⟩
          have e3 : (3 : Int32) = nI 4 + (-1) := by decide
          rw [e3]
          have eob : pl P = pz_un obj m (pl P) (m + 1 - 1) := by rw [Nat.add_sub_cancel, pz_us]
          have hrep : xs_rep (upd nU (pl P) (nI m)) (upd oB m (nI (pl P))) (upd pA m (nI (pf P))) (m + 1) (pz_un num (pl P) m) (pz_un obj m (pl P)) (pz_un par m (pf P)) := by
            refine ⟨rp_upd hr.1, fun k a b => ?_, fun k a b => ?_⟩
            · by_cases c : k = m
              · subst c; rw [pk_us, pz_us]
              · rw [pk_un c, pz_ud c]; exact hr.2.1 k a (by omega)
            · by_cases c : k = m
              · subst c; rw [pk_us, pz_us]
              · rw [pk_un c, pz_ud c]; exact hr.2.2 k a (by omega)
          have := xs_166 (post := post) (J := wX_search_63 post (nI w) wo n) (wo := wo) (i := i) (m := m + 1) (fO := fO) (fC := fC) (fX := fX) (fP := fP) (tH := tH) (kD := kD) (sZ := sZ) (rF := rF) (rT := rT) (nU := upd nU (pl P) (nI m)) (oB := upd oB m (nI (pl P))) (pA := upd pA m (nI (pf P))) (sE := sE) (aN := aN) (lA := lA) (dM := dM) (bF := bF) (bN := bN) (rE := rE) (cH := cH) (dE := dE) (qU := qU) (lO := lO) (oR := oR) (oP := oP) (nF := nF) (cO := cO) (iL := iL) (rP := rP) hw hi (by omega) (by omega) ok k1
            (fun P' pI' pF' pl' pf' a b c d => ih (i + 1) (m + 1) P' _ _ _ pI' pF' _ _ _ pl' pf' (by omega) (by omega) hrep a b k1 k2 c (by omega)) 4 5 P pI pF pl pf (by omega) (by omega) (rp_le r1 (by omega)) (rp_le r2 (by omega)) k3 (by omega)
          rw [← eob] at this
          exact this
        by_cases c : wo = -1
        · refine br_t c (take ?_)
          exact fun g => g.1 c
        · refine br_f c ?_
          rw [ix_o, nI_clamp (by omega)]
          refine ⟨vp_in_nI (by omega) (by omega), br_c (fun g => ?_) (fun g => take fun k => g k.2)⟩
          exact nm_r (nI_1 i) (drop (Or.inr ⟨c, g⟩))
      · refine br_f (fun g => z ?_) (nm_r (nI_1 i) (drop (Or.inl z)))
        rw [← nI_0] at g
        exact (nI_eq (by omega) (by omega)).mp g
/-- the roots are put on the pile -/
theorem xs_31 {post : SX → Prop} {w : Nat} {wo : Int32} (hw : w < 3) (ok : gOk tH rF rT w) (hz : rp_a nU (fun _ => 0) 24)
    (K : ∀ (m : Nat) (nU oB pA pI pF : Nat → Int32) (num obj par : Nat → Nat), xs_rep nU oB pA m num obj par → df_out (gt_r rT w) (gf_f rF w) (gT tH w) (gW kD w wo) m num obj par → post ((nI m), fO, fC, fX, fP, tH, kD, sZ, rF, rT, nU, oB, pA, pI, pF, sE, aN, lA, dM, bF, bN, rE, cH, dE, qU, lO, oR, oP, nF, cO, iL, rP)) :
    ∀ (j n P : Nat) (pI pF : Nat → Int32) (pl pf : Nat → Nat), j < n → j ≤ 4 → rp_a pI pl P → rp_a pF pf P → df_pile (gt_r rT w) (gf_f rF w) (gT tH w) (gW kD w wo) 1 (fun _ => 0) (fun _ => 0) (fun _ => 0) P pl pf j → P + j ≤ 4 →
      wX_search_31 post (nI w) wo n (nI P) (nI j + (-1)) (nI 1) fO fC fX fP tH kD sZ rF rT nU oB pA pI pF sE aN lA dM bF bN rE cH dE qU lO oR oP nF cO iL rP := by
  intro j
  induction j with
  | zero =>
    intro n P pI pF pl pf hn' hj4 r1 r2 hp hb
    obtain ⟨n, rfl⟩ : ∃ k, n = k + 1 := ⟨n - 1, by omega⟩
    rw [wX_search_31]
    refine br_t ix_d0 ⟨121, ?_⟩
    obtain ⟨s1, s2, s3⟩ := df_start (rt := gt_r rT w) (rf := gf_f rF w) (T := gT tH w) (W := gW kD w wo) (pl := pl) (pf := pf)
    exact xs_63 hw ok K 121 0 1 P nU oB pA pI pF _ _ _ pl pf (by omega) (by omega) ⟨hz, fun k a b => by omega, fun k a b => by omega⟩ r1 r2 s1 s2 hp (by omega)
  | succ j ih =>
    intro n P pI pF pl pf hn' hj4 r1 r2 hp hb
    obtain ⟨n, rfl⟩ : ∃ k, n = k + 1 := ⟨n - 1, by omega⟩
    rw [wX_search_31]
    refine br_f (ix_dn (by omega)) ?_
    rw [pk_m1, ix_r, nI_clamp (by omega)]
    refine ⟨vp_in_nI (by omega) (by omega), ?_⟩
    rcases ok.1 j (by omega) with g | ⟨p, g1, g2, g3⟩
    · rw [show rT (4 * w + j) = -1 from g]
      refine xs_plan0 (nm_e ?_)
      exact ih n P pI pF pl pf (by omega) (by omega) r1 r2 (df_skip hp g) (by omega)
    · rw [show rT (4 * w + j) = nI p from g2]
      refine xs_plan1 (u := 0) g1 (by omega) (nm_e ?_)
      exact ih n (P + 1) _ _ _ _ (by omega) (by omega) (rp_push r1) (rp_push r2) (df_push (by omega) hp (by omega) g1 g3 g2) (by omega)
theorem xs_7 {post : SX → Prop} {w : Nat} {wo : Int32} (hw : w < 3) (ok : gOk tH rF rT w)
    (K : ∀ (m : Nat) (nU oB pA pI pF : Nat → Int32) (num obj par : Nat → Nat), xs_rep nU oB pA m num obj par → df_out (gt_r rT w) (gf_f rF w) (gT tH w) (gW kD w wo) m num obj par → post ((nI m), fO, fC, fX, fP, tH, kD, sZ, rF, rT, nU, oB, pA, pI, pF, sE, aN, lA, dM, bF, bN, rE, cH, dE, qU, lO, oR, oP, nF, cO, iL, rP)) :
    ∀ (n i : Nat) (nU : Nat → Int32), 24 < n + i → i ≤ 24 → rp_a nU (fun _ => 0) i → wX_search_7 post (nI w) wo (nI 1) fO fC fX fP n (nI i) tH kD sZ rF rT nU oB pA pI pF sE aN lA dM bF bN rE cH dE qU lO oR oP nF cO iL rP := by
  intro n
  induction n with
  | zero => intro i nU h1 h2; omega
  | succ n ih =>
    intro i nU h1 h2 hz
    rw [wX_search_7]
    by_cases c : i = 24
    · subst c
      refine br_t (nI_le (a := 24) (b := 24) (by omega) (by omega)) ⟨5, ?_⟩
      obtain ⟨s1, s2, s3⟩ := df_start (rt := gt_r rT w) (rf := gf_f rF w) (T := gT tH w) (W := gW kD w wo) (pl := fun _ => 0) (pf := fun _ => 0)
      exact xs_31 hw ok hz K 4 5 0 pI pF _ _ (by omega) (by omega) (fun i hi => by omega) (fun i hi => by omega) s3 (by omega)
    · refine br_f (nI_ge (b := 24) (by omega) (by omega)) ⟨vp_in_nI (by omega) (by omega), nm_r (e' := upd nU i (nI 0)) (by rw [nI_clamp (by omega)]; rfl) (nm_r (nI_1 i) ?_)⟩
      refine ih (i + 1) _ (by omega) (by omega) fun k hk => ?_
      by_cases d : k = i
      · subst d; exact pk_us
      · rw [pk_un d]; exact hz k (by omega)
theorem xs_search {post : SX → Prop} {w : Nat} {wo : Int32} (hw : w < 3) (ok : gOk tH rF rT w)
    (K : ∀ (m : Nat) (nU oB pA pI pF : Nat → Int32) (num obj par : Nat → Nat), xs_rep nU oB pA m num obj par → df_out (gt_r rT w) (gf_f rF w) (gT tH w) (gW kD w wo) m num obj par → post ((nI m), fO, fC, fX, fP, tH, kD, sZ, rF, rT, nU, oB, pA, pI, pF, sE, aN, lA, dM, bF, bN, rE, cH, dE, qU, lO, oR, oP, nF, cO, iL, rP)) :
    wpX_search post (fM, fO, fC, fX, fP, tH, kD, sZ, rF, rT, nU, oB, pA, pI, pF, sE, aN, lA, dM, bF, bN, rE, cH, dE, qU, lO, oR, oP, nF, cO, iL, rP) (nI w) wo := by
  unfold wpX_search
  exact ⟨25, xs_7 hw ok K 25 0 nU (by omega) (by omega) (fun i hi => by omega)⟩
end
end
section
/-! bits of Int32 -/
theorem yb_1 : ∀ k, k < 32 → bt 1 k = decide (k = 0) := by decide +kernel
theorem yb_sh {p k : Nat} (hp : p < 32) (hk : k < 32) : bt ((1 : Int32) <<< (nI p &&& 31)) k = decide (k = p) := by
  rw [b_shl p hp 1 hk]
  by_cases c : p ≤ k
  · rw [yb_1 _ (by omega), decide_eq_true c, Bool.true_and]
    exact decide_eq_decide.mpr (by omega)
  · rw [decide_eq_false c, Bool.false_and]
    exact (decide_eq_false (by omega)).symm
theorem yb_not {x : Int32} {k : Nat} (hk : k < 32) : bt (x ^^^ (-1)) k = !bt x k := by
  rw [b_xor, b_m1 k hk]
  cases bt x k <;> rfl
theorem yb_v {x : Int32} {i : Nat} (hi : i < 32) : (x >>> (nI i &&& 31)) &&& 1 = if bt x i = true then 1 else 0 := by
  apply b_ext
  intro k hk
  rw [b_and, yb_1 k hk, b_sshr i hi x hk]
  by_cases c : k = 0
  · subst c
    rw [if_pos (by omega), Nat.add_zero, decide_eq_true rfl, Bool.and_true]
    cases e : bt x i
    · rw [if_neg (by decide), b_0]
    · rw [if_pos rfl, yb_1 0 (by omega)]; rfl
  · rw [decide_eq_false c, Bool.and_false]
    by_cases e : bt x i = true
    · rw [if_pos e, yb_1 k hk, decide_eq_false c]
    · rw [if_neg e, b_0]
theorem yb_is {x : Int32} {i : Nat} (hi : i < 32) : (x >>> (nI i &&& 31)) &&& 1 = 1 ↔ bt x i = true := by
  rw [yb_v hi]
  by_cases e : bt x i = true
  · rw [if_pos e]; exact ⟨fun _ => e, fun _ => rfl⟩
  · rw [if_neg e]; exact ⟨fun z => absurd z (by decide), fun z => absurd z e⟩
theorem yb_no {x : Int32} {i : Nat} (hi : i < 32) : (x >>> (nI i &&& 31)) &&& 1 = 0 ↔ bt x i = false := by
  rw [yb_v hi]
  by_cases e : bt x i = true
  · rw [if_pos e]; exact ⟨fun z => absurd z (by decide), fun z => by rw [e] at z; exact nomatch z⟩
  · rw [if_neg e]; exact ⟨fun _ => gx_f e, fun _ => rfl⟩
theorem yb_or1 {x : Int32} {p k : Nat} (hp : p < 32) (hk : k < 32) : bt (x ||| ((1 : Int32) <<< (nI p &&& 31))) k = true ↔ (bt x k = true ∨ k = p) := by
  rw [b_or, yb_sh hp hk, Bool.or_eq_true, decide_eq_true_iff]
theorem yb_lt {x : Int32} {k : Nat} (h : bt x k = true) : k < 32 := by
  rcases Nat.lt_or_ge k 32 with g | g
  · exact g
  · rw [b_big g] at h; exact nomatch h
theorem yb_eq {x y : Int32} (h : ∀ i, i < 32 → (bt x i = true ↔ bt y i = true)) : x = y := by
  apply b_ext
  intro i hi
  have := h i hi
  cases e : bt x i <;> cases f : bt y i <;> simp_all
/-- an Int32 as a set of objects -/
def ys_S (s : Int32) (P : Nat → Prop) : Prop := ∀ o, bt s o = true ↔ (o < 24 ∧ P o)
theorem ys_and {s t : Int32} {P Q : Nat → Prop} (h : ys_S s P) (g : ys_S t Q) : ys_S (s &&& t) (fun o => P o ∧ Q o) := by
  intro o
  rw [b_and, Bool.and_eq_true, h o, g o]
  exact ⟨fun ⟨a, b⟩ => ⟨a.1, a.2, b.2⟩, fun ⟨a, b, c⟩ => ⟨⟨a, b⟩, a, c⟩⟩
theorem ys_diff {s t : Int32} {P Q : Nat → Prop} (h : ys_S s P) (g : ys_S t Q) : ys_S (s &&& (t ^^^ (-1))) (fun o => P o ∧ ¬ Q o) := by
  intro o
  rw [b_and, Bool.and_eq_true, h o]
  constructor
  · rintro ⟨⟨a, b⟩, c⟩
    rw [yb_not (by omega)] at c
    refine ⟨a, b, fun q => ?_⟩
    rw [(g o).2 ⟨a, q⟩] at c
    exact nomatch c
  · rintro ⟨a, b, c⟩
    refine ⟨⟨a, b⟩, ?_⟩
    rw [yb_not (by omega), gx_f fun z => c ((g o).1 z).2]
    rfl
theorem ys_0 : ys_S 0 (fun _ => False) := fun o => by
  rw [b_0]
  exact ⟨(fun z => nomatch z), fun z => z.2.elim⟩
theorem ys_congr {s : Int32} {P Q : Nat → Prop} (h : ys_S s P) (g : ∀ o, o < 24 → (P o ↔ Q o)) : ys_S s Q := fun o => by
  rw [h o]
  exact ⟨fun a => ⟨a.1, (g o a.1).1 a.2⟩, fun a => ⟨a.1, (g o a.1).2 a.2⟩⟩
theorem ys_uniq {s t : Int32} {P : Nat → Prop} (h : ys_S s P) (g : ys_S t P) : s = t := yb_eq fun i _ => (h i).trans (g i).symm
/-- counts of equal sets -/
theorem ys_cnt {s : Int32} {P : Nat → Prop} {p : Nat → Bool} (h : ys_S s P) (g : ∀ o, o < 24 → (p o = true ↔ P o)) : nn_c (bt s) 24 = nn_c p 24 :=
  nn_c_congr fun o ho => by
    rw [h o, g o ho]
    exact ⟨fun a => a.2, fun a => ⟨ho, a⟩⟩
theorem ys_sum {s : Int32} {P : Nat → Prop} {p : Nat → Bool} {g : Nat → Int32} (h : ys_S s P) (e : ∀ o, o < 24 → (p o = true ↔ P o)) : si_s (fun o => if bt s o = true then g o else 0) 24 = si_s (fun o => if p o = true then g o else 0) 24 :=
  si_congr fun o ho => by
    have := e o ho
    by_cases c : p o = true
    · rw [if_pos c, if_pos ((h o).2 ⟨ho, this.1 c⟩)]
    · rw [if_neg c, if_neg fun z => c (this.2 ((h o).1 z).2)]
/-! Y: the small methods -/
section
variable {tH kD sZ fD rT fA lI : Nat → Int32}
theorem yi_0 {post : Int32 → Prop} {x a b : Int32} (h : x < a ∨ b < x) (k : post 0) : wpY_isIn post (tH, kD, sZ, fD, rT, fA, lI) x a b := by
  unfold wpY_isIn
  exact br_c (fun _ => k) (fun n => br_c (fun _ => k) (fun n' => (h.elim n n').elim))
theorem yi_1 {post : Int32 → Prop} {x a b : Int32} (h : ¬ x < a) (g : ¬ b < x) (k : post 1) : wpY_isIn post (tH, kD, sZ, fD, rT, fA, lI) x a b := by
  unfold wpY_isIn
  exact br_f h (br_f g k)
theorem yi_bits {post : Int32 → Prop} {s : Int32} : ∀ n i : Nat, 24 < n + i → i ≤ 24 → post (nI (nn_c (bt s) 24)) → wY_bits_4 post s tH kD sZ fD rT fA lI n (nI (nn_c (bt s) i)) (nI i) := by
  intro n
  induction n with
  | zero => intro i h1 h2; omega
  | succ n ih =>
    intro i h1 h2 hp
    rw [wY_bits_4]
    by_cases c : i = 24
    · subst c
      exact br_t (nI_le (a := 24) (b := 24) (by omega) (by omega)) hp
    · refine br_f (nI_ge (b := 24) (by omega) (by omega)) (nm_r (e' := nI (nn_c (bt s) (i + 1))) ?_ (nm_r (nI_1 i) (ih (i + 1) (by omega) (by omega) hp)))
      rw [yb_v (by omega)]
      show _ = nI (nn_c (bt s) i + if bt s i = true then 1 else 0)
      rw [← nI_add]
      by_cases e : bt s i = true
      · rw [if_pos e, if_pos e]; rfl
      · rw [if_neg e, if_neg e]; rfl
theorem y_bits {post : Int32 → Prop} {s : Int32} (h : post (nI (nn_c (bt s) 24))) : wpY_bits post (tH, kD, sZ, fD, rT, fA, lI) s := by
  unfold wpY_bits
  exact ⟨25, yi_bits 25 0 (by omega) (by omega) h⟩
theorem yi_sum {post : Int32 → Prop} {s : Int32} {w : Nat} (hw : w < 3) : ∀ n i : Nat, 24 < n + i → i ≤ 24 → post (si_s (fun o => if bt s o = true then sZ (24 * w + o) else 0) 24) →
    wY_sumOf_5 post (nI w) s tH kD sZ fD rT fA lI n (si_s (fun o => if bt s o = true then sZ (24 * w + o) else 0) i) (nI i) := by
  intro n
  induction n with
  | zero => intro i h1 h2; omega
  | succ n ih =>
    intro i h1 h2 hp
    rw [wY_sumOf_5]
    by_cases c : i = 24
    · subst c
      exact br_t (nI_le (a := 24) (b := 24) (by omega) (by omega)) hp
    · refine br_f (nI_ge (b := 24) (by omega) (by omega)) (br_c (fun g => ?_) (fun g => ?_))
      · rw [yb_is (by omega)] at g
        rw [ix_o, nI_clamp (by omega)]
        refine ⟨vp_in_nI (by omega) (by omega), nm_r (e' := si_s (fun o => if bt s o = true then sZ (24 * w + o) else 0) (i + 1)) ?_ (nm_r (nI_1 i) (ih (i + 1) (by omega) (by omega) hp))⟩
        show _ = _ + (if bt s i = true then sZ (24 * w + i) else 0)
        rw [if_pos g]
      · rw [yb_is (by omega)] at g
        refine nm_r (nI_1 i) ?_
        have e : si_s (fun o => if bt s o = true then sZ (24 * w + o) else 0) (i + 1) = si_s (fun o => if bt s o = true then sZ (24 * w + o) else 0) i := by
          show _ + (if bt s i = true then sZ (24 * w + i) else 0) = _
          rw [if_neg g, Int32.add_zero]
        rw [← e]
        exact ih (i + 1) (by omega) (by omega) hp
theorem y_sum {post : Int32 → Prop} {s : Int32} {w : Nat} (hw : w < 3) (h : post (si_s (fun o => if bt s o = true then sZ (24 * w + o) else 0) 24)) : wpY_sumOf post (tH, kD, sZ, fD, rT, fA, lI) (nI w) s := by
  unfold wpY_sumOf
  exact ⟨25, yi_sum hw 25 0 (by omega) (by omega) h⟩
theorem yi_all {post : Int32 → Prop} (K : ∀ s, ys_S s (fun o => tH o ≠ 0) → post s) : ∀ (n i : Nat) (s : Int32), 24 < n + i → i ≤ 24 → ys_S s (fun o => o < i ∧ tH o ≠ 0) → wY_all_4 post tH kD sZ fD rT fA lI n s (nI i) := by
  intro n
  induction n with
  | zero => intro i s h1 h2; omega
  | succ n ih =>
    intro i s h1 h2 hs
    rw [wY_all_4]
    by_cases c : i = 24
    · subst c
      exact br_t (nI_le (a := 24) (b := 24) (by omega) (by omega)) (K s (ys_congr hs fun o ho => ⟨fun a => a.2, fun a => ⟨ho, a⟩⟩))
    · refine br_f (nI_ge (b := 24) (by omega) (by omega)) ⟨vp_in_nI (by omega) (by omega), ?_⟩
      rw [nI_clamp (by omega)]
      refine br_c (fun g => ?_) (fun g => ?_)
      · refine nm_r (nI_1 i) (ih (i + 1) s (by omega) (by omega) (ys_congr hs fun o ho => ?_))
        refine ⟨fun a => ⟨by omega, a.2⟩, fun a => ⟨?_, a.2⟩⟩
        have : o ≠ i := fun z => by subst z; exact a.2 g
        omega
      · refine nm_e (nm_r (nI_1 i) (ih (i + 1) _ (by omega) (by omega) fun o => ?_))
        constructor
        · intro z
          have := yb_lt z
          rw [yb_or1 (by omega) this, hs o] at z
          rcases z with z | z
          · exact ⟨z.1, by omega, z.2.2⟩
          · subst z; exact ⟨by omega, by omega, g⟩
        · intro z
          rw [yb_or1 (by omega) (by omega), hs o]
          by_cases d : o = i
          · exact Or.inr d
          · exact Or.inl ⟨z.1, by omega, z.2.2⟩
theorem y_all {post : Int32 → Prop} (K : ∀ s, ys_S s (fun o => tH o ≠ 0) → post s) : wpY_all post (tH, kD, sZ, fD, rT, fA, lI) := by
  unfold wpY_all
  exact ⟨25, yi_all K 25 0 0 (by omega) (by omega) (ys_congr ys_0 fun o _ => ⟨fun z => z.elim, fun z => by omega⟩)⟩
theorem yi_kind {post : Int32 → Prop} {w : Nat} {k : Int32} (hw : w < 3) (K : ∀ s, ys_S s (fun o => k = -1 ∨ kD (24 * w + o) = k) → post s) : ∀ (n i : Nat) (s : Int32), 24 < n + i → i ≤ 24 → ys_S s (fun o => o < i ∧ (k = -1 ∨ kD (24 * w + o) = k)) → wY_ofKind_5 post (nI w) k tH kD sZ fD rT fA lI n s (nI i) := by
  intro n
  induction n with
  | zero => intro i s h1 h2; omega
  | succ n ih =>
    intro i s h1 h2 hs
    rw [wY_ofKind_5]
    by_cases c : i = 24
    · subst c
      exact br_t (nI_le (a := 24) (b := 24) (by omega) (by omega)) (K s (ys_congr hs fun o ho => ⟨fun a => a.2, fun a => ⟨ho, a⟩⟩))
    · refine br_f (nI_ge (b := 24) (by omega) (by omega)) ?_
      have yes : (k = -1 ∨ kD (24 * w + i) = k) → wY_ofKind_33 post (wY_ofKind_5 post (nI w) k tH kD sZ fD rT fA lI n) (nI w) k s (nI i) tH kD sZ fD rT fA lI := by
        intro g
        unfold wY_ofKind_33
        refine nm_e (nm_r (nI_1 i) (ih (i + 1) _ (by omega) (by omega) fun o => ?_))
        constructor
        · intro z
          have := yb_lt z
          rw [yb_or1 (by omega) this, hs o] at z
          rcases z with z | z
          · exact ⟨z.1, by omega, z.2.2⟩
          · subst z; exact ⟨by omega, by omega, g⟩
        · intro z
          rw [yb_or1 (by omega) (by omega), hs o]
          by_cases d : o = i
          · exact Or.inr d
          · exact Or.inl ⟨z.1, by omega, z.2.2⟩
      refine br_c (fun g => yes (Or.inl g)) (fun g => ?_)
      rw [ix_o, nI_clamp (by omega)]
      refine ⟨vp_in_nI (by omega) (by omega), br_c (fun g' => yes (Or.inr g')) (fun g' => ?_)⟩
      refine nm_r (nI_1 i) (ih (i + 1) s (by omega) (by omega) (ys_congr hs fun o ho => ?_))
      refine ⟨fun a => ⟨by omega, a.2⟩, fun a => ⟨?_, a.2⟩⟩
      have : o ≠ i := fun z => by subst z; exact a.2.elim g g'
      omega
theorem y_kind {post : Int32 → Prop} {w : Nat} {k : Int32} (hw : w < 3) (K : ∀ s, ys_S s (fun o => k = -1 ∨ kD (24 * w + o) = k) → post s) : wpY_ofKind post (tH, kD, sZ, fD, rT, fA, lI) (nI w) k := by
  unfold wpY_ofKind
  exact ⟨25, yi_kind hw K 25 0 0 (by omega) (by omega) (ys_congr ys_0 fun o _ => ⟨fun z => z.elim, fun z => by omega⟩)⟩
end
end
section
/-! Y: live, comesTo -/
section
variable {tH kD sZ fD rT fA lI : Nat → Int32}
/-- the slot k of 96 -/
theorem yl_slot (w k : Nat) : fD (96 * w + k) = gf_f fD w (k / 4) (k % 4) := by
  unfold gf_f
  rw [show 96 * w + 4 * (k / 4) + k % 4 = 96 * w + k by omega]
/-- what one pass has done up to slot k -/
def yl_P (fD : Nat → Int32) (w : Nat) (A W : Nat → Prop) (b : Int32) (k : Nat) (s : Int32) : Prop :=
  (∀ o, bt s o = true → o < 24 ∧ A o) ∧ (∀ o, bt b o = true → bt s o = true) ∧
  (∀ j q, j < k → bt b (j / 4) = true → q < 24 → fD (96 * w + j) = nI q → ¬ W q → bt s q = true)
theorem yl_67 {post : Int32 → Prop} {J : Int32 → Int32 → Prop} {w : Nat} {wo b x4 : Int32} (hw : w < 3) (ok : gOk tH fD rT w)
    (K : ∀ s, yl_P fD w (Rc_h (gR rT w) (gE tH fD w) (fun q => bt wo q = true)) (fun q => bt wo q = true) b 96 s → J s x4) :
    ∀ (n k : Nat) (s : Int32), 96 < n + k → k ≤ 96 → yl_P fD w (Rc_h (gR rT w) (gE tH fD w) (fun q => bt wo q = true)) (fun q => bt wo q = true) b k s →
      wY_live_67 post J (nI w) wo x4 tH kD sZ fD rT fA lI n s (nI k) := by
  intro n
  induction n with
  | zero => intro i s h1 h2; omega
  | succ n ih =>
    intro k s h1 h2 hs
    rw [wY_live_67]
    by_cases c : k = 96
    · subst c
      exact br_t (nI_le (a := 96) (b := 96) (by omega) (by omega)) (K s hs)
    · refine br_f (nI_ge (b := 96) (by omega) (by omega)) ⟨by decide, ?_⟩
      obtain ⟨s1, s2, s3⟩ := hs
      have e4 : nI k / 4 = nI (k / 4) := pk_div (d := 4) (by omega) (by omega) (by omega)
      rw [e4]
      have skip : (¬ bt s (k / 4) = true ∨ fD (96 * w + k) = -1) → wY_live_67 post J (nI w) wo x4 tH kD sZ fD rT fA lI n s (nI (k + 1)) := by
        intro g
        refine ih (k + 1) s (by omega) (by omega) ⟨s1, s2, fun j q hj hb hq hf hW => ?_⟩
        by_cases d : j = k
        · subst d
          rcases g with g | g
          · exact absurd (s2 _ hb) g
          · rw [g] at hf; exact absurd hf.symm (ix_m1 (by omega))
        · exact s3 j q (by omega) hb hq hf hW
      refine br_c (fun g => ?_) (fun g => ?_)
      · rw [yb_is (by omega)] at g
        obtain ⟨a1, a2⟩ := s1 _ g
        have aT := (gA_T ok a2).2
        rw [ix_n, nI_clamp (by omega)]
        refine ⟨vp_in_nI (by omega) (by omega), ?_⟩
        unfold wY_live_102
        rcases ok.2 (k / 4) a1 aT (k % 4) (by omega) with f | ⟨p, f1, f2, f3⟩
        · rw [← yl_slot] at f
          rw [f]
          exact br_t ix_lt0 (nm_r (nI_1 k) (skip (Or.inr f)))
        · rw [← yl_slot] at f2
          rw [f2]
          refine br_f (nI_pos (by omega)) (nm_e (nm_r (nI_1 k) (ih (k + 1) _ (by omega) (by omega) ?_)))
          have hb : ∀ o, o < 32 → (bt (s ||| (((1 : Int32) <<< (nI p &&& 31)) &&& (wo ^^^ (-1)))) o = true ↔ (bt s o = true ∨ (o = p ∧ ¬ bt wo o = true))) := by
            intro o ho
            rw [b_or, b_and, yb_sh (by omega) ho, yb_not ho, Bool.or_eq_true, Bool.and_eq_true, decide_eq_true_iff]
            cases bt wo o <;> simp
          refine ⟨fun o z => ?_, fun o z => ?_, fun j q hj hb' hq hf hW => ?_⟩
          · rw [hb o (yb_lt z)] at z
            rcases z with z | ⟨z, z'⟩
            · exact s1 o z
            · subst z
              refine ⟨f1, rc_step a2 ⟨a1, aT, f1, k % 4, by omega, ?_⟩ z'⟩
              rw [← yl_slot]; exact f2
          · exact (hb o (yb_lt z)).2 (Or.inl (s2 o z))
          · rw [hb q (by omega)]
            by_cases d : j = k
            · subst d
              rw [f2] at hf
              exact Or.inr ⟨((nI_eq (by omega) (by omega)).mp hf).symm, hW⟩
            · exact Or.inl (s3 j q (by omega) hb' hq hf hW)
      · rw [yb_is (by omega)] at g
        unfold wY_live_102
        exact br_t ix_lt0 (nm_r (nI_1 k) (skip (Or.inl g)))
theorem yl_55 {post : Int32 → Prop} {w : Nat} {wo : Int32} (hw : w < 3) (ok : gOk tH fD rT w)
    (K : ∀ s, ys_S s (Rc_h (gR rT w) (gE tH fD w) (fun q => bt wo q = true)) → post s) :
    ∀ (n : Nat) (s b : Int32), (b ≠ s → 25 < n + nn_c (bt s) 24) → 1 ≤ n → (∀ o, bt s o = true → o < 24 ∧ Rc_h (gR rT w) (gE tH fD w) (fun q => bt wo q = true) o) →
      (∀ o, gR rT w o → ¬ bt wo o = true → bt s o = true) → (b = -1 ∨ yl_P fD w (Rc_h (gR rT w) (gE tH fD w) (fun q => bt wo q = true)) (fun q => bt wo q = true) b 96 s) →
      wY_live_55 post (nI w) wo tH kD sZ fD rT fA lI n s b := by
  intro n
  induction n with
  | zero => intro s b h1 h2; omega
  | succ n ih =>
    intro s b h1 h2 h3 h4 h5
    rw [wY_live_55]
    by_cases c : b = s
    · refine br_t c (K s fun o => ⟨h3 o, fun z => ?_⟩)
      have hcl : yl_P fD w (Rc_h (gR rT w) (gE tH fD w) (fun q => bt wo q = true)) (fun q => bt wo q = true) b 96 s := by
        rcases h5 with h5 | h5
        · have : bt s 31 = true := by rw [← c, h5]; exact b_m1 31 (by omega)
          have := (h3 31 this).1
          omega
        · exact h5
      subst c
      refine rc_ind (S := fun o => bt b o = true) z.2 (fun q hq hW => h4 q hq hW) (fun a q _ ha he hW => ?_)
      obtain ⟨e1, e2, e3, i, e4, e5⟩ := he
      refine hcl.2.2 (4 * a + i) q (by omega) (by rw [show (4 * a + i) / 4 = a by omega]; exact ha) e3 ?_ hW
      rw [← Nat.add_assoc]
      exact e5
    · refine br_f c ⟨97, ?_⟩
      have hb := h1 c
      refine yl_67 (b := s) hw ok (fun s' hs' => ?_) 97 0 s (by omega) (by omega) ⟨h3, fun _ z => z, fun j q hj => by omega⟩
      refine ih s' s (fun hne => ?_) ?_ hs'.1 (fun o a b => hs'.2.1 o (h4 o a b)) (Or.inr hs')
      · have hex : ∃ j, j < 24 ∧ bt s j = false ∧ bt s' j = true := by
          refine Classical.byContradiction fun hn => hne (yb_eq fun i hi => ⟨hs'.2.1 i, fun z => ?_⟩)
          refine Classical.byContradiction fun k => hn ⟨i, (hs'.1 i z).1, gx_f k, z⟩
        obtain ⟨j, j1, j2, j3⟩ := hex
        have := nn_c_lt (p := bt s) (q := bt s') j2 j3 (n := 24) (fun i _ z => hs'.2.1 i z) j1
        omega
      · have := nn_c_le (bt s) 24
        omega
theorem yl_5 {post : Int32 → Prop} {w : Nat} {wo : Int32} (hw : w < 3) (ok : gOk tH fD rT w)
    (K : ∀ s, ys_S s (Rc_h (gR rT w) (gE tH fD w) (fun q => bt wo q = true)) → post s) :
    ∀ (n i : Nat) (s : Int32), 4 < n + i → i ≤ 4 → (∀ o, bt s o = true ↔ (o < 24 ∧ ∃ j, j < i ∧ gt_r rT w j = nI o)) → wY_live_5 post (nI w) wo tH kD sZ fD rT fA lI n s (nI i) := by
  intro n
  induction n with
  | zero => intro i s h1 h2; omega
  | succ n ih =>
    intro i s h1 h2 hs
    rw [wY_live_5]
    by_cases c : i = 4
    · subst c
      refine br_t (nI_le (a := 4) (b := 4) (by omega) (by omega)) (nm_e ⟨27, ?_⟩)
      have hb : ∀ o, o < 32 → (bt (s &&& (wo ^^^ (-1))) o = true ↔ (bt s o = true ∧ ¬ bt wo o = true)) := by
        intro o ho
        rw [b_and, yb_not ho, Bool.and_eq_true]
        cases bt wo o <;> simp
      refine yl_55 hw ok K 27 _ _ (fun _ => by omega) (by omega) (fun o z => ?_) (fun o hr hW => ?_) (Or.inl rfl)
      · rw [hb o (yb_lt z), hs o] at z
        exact ⟨z.1.1, rc_root ⟨z.1.1, z.1.2⟩ z.2⟩
      · rw [hb o (by have := hr.1; omega), hs o]
        exact ⟨hr, hW⟩
    · refine br_f (nI_ge (b := 4) (by omega) (by omega)) ?_
      rw [ix_r, nI_clamp (by omega)]
      refine ⟨vp_in_nI (by omega) (by omega), nm_e ?_⟩
      have er : gt_r rT w i = rT (4 * w + i) := rfl
      rcases ok.1 i (by omega) with f | ⟨p, f1, f2, f3⟩
      · rw [← er, f]
        refine br_t ix_lt0 (nm_r (nI_1 i) (ih (i + 1) s (by omega) (by omega) fun o => ?_))
        rw [hs o]
        refine ⟨fun ⟨a, j, b, d⟩ => ⟨a, j, by omega, d⟩, fun ⟨a, j, b, d⟩ => ⟨a, j, ?_, d⟩⟩
        have : j ≠ i := fun z => by subst z; rw [f] at d; exact ix_m1 (by omega) d.symm
        omega
      · rw [← er, f2]
        refine br_f (nI_pos (by omega)) (nm_e (nm_r (nI_1 i) (ih (i + 1) _ (by omega) (by omega) fun o => ?_)))
        constructor
        · intro z
          rw [yb_or1 (by omega) (yb_lt z), hs o] at z
          rcases z with ⟨a, j, b, d⟩ | z
          · exact ⟨a, j, by omega, d⟩
          · subst z; exact ⟨f1, i, by omega, f2⟩
        · rintro ⟨a, j, b, d⟩
          rw [yb_or1 (by omega) (by omega), hs o]
          by_cases q : j = i
          · subst q
            rw [f2] at d
            exact Or.inr ((nI_eq (by omega) (by omega)).mp d).symm
          · exact Or.inl ⟨a, j, by omega, d⟩
/-- what is reachable without a set -/
theorem y_live {post : Int32 → Prop} {w : Nat} {wo : Int32} (hw : w < 3) (ok : gOk tH fD rT w)
    (K : ∀ s, ys_S s (Rc_h (gR rT w) (gE tH fD w) (fun q => bt wo q = true)) → post s) : wpY_live post (tH, kD, sZ, fD, rT, fA, lI) (nI w) wo := by
  unfold wpY_live
  refine ⟨5, yl_5 hw ok K 5 0 0 (by omega) (by omega) fun o => ?_⟩
  rw [b_0]
  exact ⟨(fun z => nomatch z), fun ⟨_, j, hj, _⟩ => by omega⟩
/-- with nothing left out -/
def gA (tH rF rT : Nat → Int32) (w : Nat) : Nat → Prop := Rc_h (gR rT w) (gE tH rF w) (fun _ => False)
theorem y_live0 {post : Int32 → Prop} {w : Nat} (hw : w < 3) (ok : gOk tH fD rT w) (K : ∀ s, ys_S s (gA tH fD rT w) → post s) : wpY_live post (tH, kD, sZ, fD, rT, fA, lI) (nI w) 0 := by
  refine y_live hw ok fun s hs => K s (ys_congr hs fun o _ => ⟨fun h => rc_sub h fun _ z => z.elim, fun h => rc_sub h fun b z => ?_⟩)
  rw [b_0] at z
  exact nomatch z
theorem y_isAlive0 {post : Int32 → Prop} {w x : Int32} (h : x < 0 ∨ nI 24 ≤ x) (k : post 0) : wpY_isAlive post (tH, kD, sZ, fD, rT, fA, lI) w x := by
  unfold wpY_isAlive
  refine yi_0 ?_ (br_t rfl k)
  rcases h with h | h
  · exact Or.inl h
  · refine Or.inr (Int32.lt_iff_toInt_lt.mpr ?_)
    have := Int32.le_iff_toInt_le.mp h
    rw [nI_toInt (by omega)] at this
    show (nI 23).toInt < _
    rw [nI_toInt (by omega)]
    omega
theorem yi_in {post : Int32 → Prop} {a b : Nat} (hab : a ≤ b) (hb : b < 2 ^ 31) (k : post 1) : wpY_isIn post (tH, kD, sZ, fD, rT, fA, lI) (nI a) 0 (nI b) :=
  yi_1 (nI_pos (by omega)) (nI_nlt hab hb) k
theorem y_isAlive {post : Int32 → Prop} {w o : Nat} (hw : w < 3) (ho : o < 24) (ok : gOk tH fD rT w) (k1 : gA tH fD rT w o → post 1) (k0 : ¬ gA tH fD rT w o → post 0) : wpY_isAlive post (tH, kD, sZ, fD, rT, fA, lI) (nI w) (nI o) := by
  unfold wpY_isAlive
  refine yi_in (b := 23) (by omega) (by omega) (br_f (by decide) (y_live0 hw ok fun s hs => ?_))
  refine br_c (fun g => ?_) (fun g => ?_)
  · rw [yb_is (by omega)] at g
    exact k1 ((hs o).1 g).2
  · rw [yb_is (by omega)] at g
    exact k0 fun z => g ((hs o).2 ⟨ho, z⟩)
/-- what is kept by one -/
def gK (tH rF rT : Nat → Int32) (w a o : Nat) : Prop := gA tH rF rT w o ∧ ¬ Rc_h (gR rT w) (gE tH rF w) (fun q => q = a) o
theorem y_kept {post : Int32 → Prop} {w a : Nat} (hw : w < 3) (ha : a < 24) (ok : gOk tH fD rT w) (K : ∀ s, ys_S s (gK tH fD rT w a) → post s) : wpY_kept post (tH, kD, sZ, fD, rT, fA, lI) (nI w) (nI a) := by
  unfold wpY_kept
  refine y_live0 hw ok fun s hs => y_live hw ok fun t ht => K _ (ys_congr (ys_diff hs ht) fun o ho => ?_)
  have e : ∀ q, q < 32 → (bt ((1 : Int32) <<< (nI a &&& 31)) q = true ↔ q = a) := fun q hq => by rw [yb_sh (by omega) hq, decide_eq_true_iff]
  refine and_congr_right fun _ => not_congr ⟨fun h => rc_sub h fun b z => ?_, fun h => rc_sub h fun b z => ?_⟩
  · subst z; exact (e b (by omega)).2 rfl
  · exact (e b (yb_lt z)).1 z
theorem y_place1 {post : Int32 → Prop} {w : Nat} (hw : w < 3) (k : post 1) : wpY_isPlace post (tH, kD, sZ, fD, rT, fA, lI) (nI w) := by
  unfold wpY_isPlace
  exact yi_in (b := 2) (by omega) (by omega) ⟨rfl, k⟩
theorem y_place0 {post : Int32 → Prop} {x : Int32} (h : x < 0 ∨ nI 3 ≤ x) (k : post 0) : wpY_isPlace post (tH, kD, sZ, fD, rT, fA, lI) x := by
  unfold wpY_isPlace
  refine yi_0 ?_ ⟨rfl, k⟩
  rcases h with h | h
  · exact Or.inl h
  · refine Or.inr (Int32.lt_iff_toInt_lt.mpr ?_)
    have := Int32.le_iff_toInt_le.mp h
    rw [nI_toInt (by omega)] at this
    show (nI 2).toInt < _
    rw [nI_toInt (by omega)]
    omega
end
end
section
/-! X: the forest with shortened ways; best -/
/-- numbers from b on are linked: what stands above, and the best on the way up to it -/
def lf_I (par s : Nat → Nat) (m b : Nat) (aN lA : Nat → Int32) : Prop :=
  ∀ x, x < m → (b ≤ x → ∃ y l, aN x = nI y ∧ lA x = nI l ∧ y < x ∧ An_c par y x ∧ y < l ∧ An_c par l x ∧ ∀ t, An_c par t x → y < t → b ≤ t ∧ s l ≤ s t) ∧
    (x < b → aN x = -1 ∧ lA x = nI x)
theorem lf_congr {par s s' : Nat → Nat} {m b : Nat} {aN lA : Nat → Int32} (h : lf_I par s m b aN lA) (e : ∀ t, b ≤ t → s' t = s t) : lf_I par s' m b aN lA := by
  intro x hx
  obtain ⟨h1, h2⟩ := h x hx
  refine ⟨fun hb => ?_, h2⟩
  obtain ⟨y, l, a1, a2, a3, a4, a5, a6, a7⟩ := h1 hb
  refine ⟨y, l, a1, a2, a3, a4, a5, a6, fun t t1 t2 => ?_⟩
  obtain ⟨c1, c2⟩ := a7 t t1 t2
  have := (a7 l a6 a5).1
  rw [e l this, e t c1]
  exact ⟨c1, c2⟩
/-- one shortening -/
theorem lf_short {par s : Nat → Nat} {m b x up y l : Nat} {aN lA : Nat → Int32} (hD : Dn_p par m) (h : lf_I par s m b aN lA) (hx : x < m) (hbx : b ≤ x) (hup : aN x = nI up) (hup2 : up < m) (hy : aN up = nI y) (hy2 : y < m)
    (hl : ∃ l1 l2, lA up = nI l1 ∧ lA x = nI l2 ∧ l1 < m ∧ l2 < m ∧ ((s l2 ≤ s l1 ∧ l = l2) ∨ (s l1 < s l2 ∧ l = l1))) (hbup : b ≤ up) (hm : m ≤ 25) :
    lf_I par s m b (upd aN x (nI y)) (upd lA x (nI l)) ∧ l < m := by
  obtain ⟨l1, l2, e1, e2, e3, e4, e5⟩ := hl
  obtain ⟨y1, k1, a1, a2, a3, a4, a5, a6, a7⟩ := (h x hx).1 hbx
  obtain ⟨y2, k2, c1, c2, c3, c4, c5, c6, c7⟩ := (h up hup2).1 hbup
  have i1 : y1 = up := (nI_eq (by omega) (by omega)).mp (a1.symm.trans hup)
  have i2 : y2 = y := (nI_eq (by omega) (by omega)).mp (c1.symm.trans hy)
  have hk1 := an_le hD hx a6
  have hk2 := an_le hD hup2 c6
  have i3 : k1 = l2 := (nI_eq (by omega) (by omega)).mp (a2.symm.trans e2)
  have i4 : k2 = l1 := (nI_eq (by omega) (by omega)).mp (c2.symm.trans e1)
  subst i1; subst i2; subst i3; subst i4
  have hsl : s l ≤ s k1 ∧ s l ≤ s k2 := by
    rcases e5 with ⟨e, e'⟩ | ⟨e, e'⟩ <;> rw [e'] <;> omega
  refine ⟨fun z hz => ?_, by omega⟩
  by_cases d : z = x
  · subst d
    rw [pk_us, pk_us]
    refine ⟨fun _ => ⟨y2, l, rfl, rfl, by omega, an_tr c4 a4, ?_, ?_, fun t t1 t2 => ?_⟩, fun z => by omega⟩
    · omega
    · rcases e5 with ⟨_, e⟩ | ⟨_, e⟩
      · rw [e]; exact a6
      · rw [e]; exact an_tr c6 a4
    · by_cases g : y1 < t
      · have := a7 t t1 g
        omega
      · have ht : An_c par t y1 := an_lin_le hD hz t1 a4 (by omega)
        have := c7 t ht t2
        omega
  · rw [pk_un d, pk_un d]
    exact h z hz
section
variable {fM fO fC fX fP : Int32} {tH kD sZ rF rT nU oB pA pI pF sE aN lA dM bF bN rE cH dE qU lO oR oP nF cO iL rP : Nat → Int32}
theorem xb_74 {post : Int32 → SX → Prop} {par s ch : Nat → Nat} {m b k : Nat} (hD : Dn_p par m) (hm : m ≤ 25) (hs : rp_a sE s m) (hsb : ∀ x, x < m → s x ≤ x) (hk : k < m) (hbk : b ≤ k) (hc0 : ch 0 = k)
    (K : ∀ (l : Nat) (aN lA : Nat → Int32), lf_I par s m b aN lA → l < m → b ≤ l → An_c par l k → (∀ t, An_c par t k → b ≤ t → s l ≤ s t) → post (nI l) (fM, fO, fC, fX, fP, tH, kD, sZ, rF, rT, nU, oB, pA, pI, pF, sE, aN, lA, dM, bF, bN, rE, cH, dE, qU, lO, oR, oP, nF, cO, iL, rP)) :
    ∀ (j n : Nat) (aN lA : Nat → Int32), j < n → j ≤ 24 → rp_a cH ch j → lf_I par s m b aN lA → (∀ i, i ≤ j → ch i < m ∧ b ≤ ch i) → (∀ i, i < j → aN (ch i) = nI (ch (i + 1)) ∧ ch (i + 1) < ch i) → (∀ i k, i < k → k ≤ j → ch k < ch i) →
      (∃ y, y < b ∧ aN (ch j) = nI y) → wX_best_74 post (nI k) fM fO fC fX fP n (nI j + (-1)) tH kD sZ rF rT nU oB pA pI pF sE aN lA dM bF bN rE cH dE qU lO oR oP nF cO iL rP := by
  intro j
  induction j with
  | zero =>
    intro n aN lA hn hj hc hf h1 h2 h2' h3
    obtain ⟨n, rfl⟩ : ∃ k, n = k + 1 := ⟨n - 1, by omega⟩
    rw [wX_best_74]
    refine br_t ix_d0 ⟨vp_in_nI (by omega) (by omega), ?_⟩
    obtain ⟨y, l, a1, a2, a3, a4, a5, a6, a7⟩ := (hf k hk).1 hbk
    obtain ⟨y', hy1, hy2⟩ := h3
    rw [hc0] at hy2
    have e : y = y' := (nI_eq (by omega) (by omega)).mp (a1.symm.trans hy2)
    have hle := an_le hD hk a6
    rw [nI_clamp (by omega), a2]
    exact K l aN lA hf (by omega) (a7 l a6 a5).1 a6 fun t t1 t2 => (a7 t t1 (by omega)).2
  | succ j ih =>
    intro n aN lA hn hj hc hf h1 h2 h2' h3
    obtain ⟨n, rfl⟩ : ∃ k, n = k + 1 := ⟨n - 1, by omega⟩
    rw [wX_best_74]
    refine br_f (ix_dn (by omega)) ?_
    rw [pk_m1]
    obtain ⟨x1, x2⟩ := h1 j (by omega)
    obtain ⟨u1, u2⟩ := h1 (j + 1) (by omega)
    obtain ⟨g1, g2⟩ := h2 j (by omega)
    obtain ⟨y, hy1, hy2⟩ := h3
    obtain ⟨_, l2, _, b2, _, _, _, b6, _⟩ := (hf (ch j) x1).1 x2
    obtain ⟨_, l1, _, c2, _, _, _, c6, _⟩ := (hf (ch (j + 1)) u1).1 u2
    have hl2 := an_le hD x1 b6
    have hl1 := an_le hD u1 c6
    have vx : vp_in (nI (ch j)) 25 := vp_in_nI (by omega) (by omega)
    have vu : vp_in (nI (ch (j + 1))) 25 := vp_in_nI (by omega) (by omega)
    have ex : (nI (ch j)).toNatClampNeg = ch j := nI_clamp (by omega)
    have eu : (nI (ch (j + 1))).toNatClampNeg = ch (j + 1) := nI_clamp (by omega)
    refine ⟨vp_in_nI (by omega) (by omega), nm_r (e' := nI (ch j)) (by rw [nI_clamp (by omega)]; exact hc j (by omega)) ⟨vx, nm_r (e' := nI (ch (j + 1))) (by rw [ex]; exact g1) ⟨vu, ?_⟩⟩⟩
    rw [ex, eu, b2, c2, nI_clamp (show l1 < 2 ^ 31 by omega), nI_clamp (show l2 < 2 ^ 31 by omega), hs l1 (by omega), hs l2 (by omega)]
    have step : ∀ l, ((s l2 ≤ s l1 ∧ l = l2) ∨ (s l1 < s l2 ∧ l = l1)) → wX_best_147 post (wX_best_74 post (nI k) fM fO fC fX fP n) (nI k) (nI j) (nI (ch j)) (nI (ch (j + 1))) (nI l) (nI (ch j)) fM fO fC fX fP tH kD sZ rF rT nU oB pA pI pF sE aN lA dM bF bN rE cH dE qU lO oR oP nF cO iL rP := by
      intro l hl
      unfold wX_best_147
      obtain ⟨f1, f2⟩ := lf_short (l := l) hD hf x1 x2 g1 u1 hy2 (by omega) ⟨l1, l2, c2, b2, by omega, by omega, hl⟩ u2 hm
      refine ⟨vx, nm_r (e' := upd lA (ch j) (nI l)) (by rw [ex]) ⟨vu, vx, nm_r (e' := upd aN (ch j) (nI y)) (by rw [ex, eu, hy2]) (nm_e ?_)⟩⟩
      refine ih n _ _ (by omega) (by omega) (rp_le hc (by omega)) f1 (fun i hi => h1 i (by omega)) (fun i hi => ?_) (fun i k a b => h2' i k a (by omega)) ⟨y, hy1, pk_us⟩
      have := h2' i j hi (by omega)
      rw [pk_un (by omega)]
      exact h2 i (by omega)
    have q1 := hsb l1 (by omega)
    have q2 := hsb l2 (by omega)
    refine ⟨vp_in_nI (by omega) (by omega), vx, vp_in_nI (by omega) (by omega), pk_le (s l2) (s l1) (fun g => ⟨vx, step l2 (Or.inl ⟨g, rfl⟩)⟩) (fun g => ⟨vu, step l1 (Or.inr ⟨g, rfl⟩)⟩)⟩
theorem xb_24 {post : Int32 → SX → Prop} {par s : Nat → Nat} {m b k : Nat} (hD : Dn_p par m) (hm : m ≤ 25) (hs : rp_a sE s m) (hsb : ∀ x, x < m → s x ≤ x) (hk : k < m) (hbk : b ≤ k) (hb1 : 1 ≤ b) (hf : lf_I par s m b aN lA)
    (K : ∀ (l : Nat) (aN lA cH : Nat → Int32), lf_I par s m b aN lA → l < m → b ≤ l → An_c par l k → (∀ t, An_c par t k → b ≤ t → s l ≤ s t) → post (nI l) (fM, fO, fC, fX, fP, tH, kD, sZ, rF, rT, nU, oB, pA, pI, pF, sE, aN, lA, dM, bF, bN, rE, cH, dE, qU, lO, oR, oP, nF, cO, iL, rP)) :
    ∀ (n c : Nat) (ch : Nat → Nat) (cH : Nat → Int32), 24 < n + c → c + ch c ≤ k → ch 0 = k → rp_a cH ch c → (∀ i, i ≤ c → ch i < m ∧ b ≤ ch i) → (∀ i, i < c → aN (ch i) = nI (ch (i + 1)) ∧ ch (i + 1) < ch i) → (∀ i k, i < k → k ≤ c → ch k < ch i) →
      wX_best_24 post (nI k) fM fO fC fX fP n (nI c) (nI (ch c)) (nI c) tH kD sZ rF rT nU oB pA pI pF sE aN lA dM bF bN rE cH dE qU lO oR oP nF cO iL rP := by
  intro n
  induction n with
  | zero => intro c ch cH h0 h1 h2 h3 h4; have := h4 c (Nat.le_refl c); omega
  | succ n ih =>
    intro c ch cH h0 h1 h2 h3 h4 h5 h6
    obtain ⟨x1, x2⟩ := h4 c (Nat.le_refl c)
    rw [wX_best_24]
    obtain ⟨y, l, a1, a2, a3, a4, a5, a6, a7⟩ := (hf (ch c) x1).1 x2
    have ex : (nI (ch c)).toNatClampNeg = ch c := nI_clamp (by omega)
    have vx : vp_in (nI (ch c)) 25 := vp_in_nI (by omega) (by omega)
    refine br_f (nI_ge (b := 25) (by omega) (by omega)) ⟨vx, ?_⟩
    rw [ex, a1, nI_clamp (show y < 2 ^ 31 by omega)]
    refine ⟨vp_in_nI (by omega) (by omega), ?_⟩
    by_cases g : y < b
    · refine br_t ((hf y (by omega)).2 g).1 (nm_r (ix_p c) ⟨c + 1, ?_⟩)
      exact xb_74 hD hm hs hsb hk hbk h2 (fun l aN lA => K l aN lA cH) c (c + 1) aN lA (by omega) (by omega) h3 hf h4 h5 h6 ⟨y, g, a1⟩
    · obtain ⟨y', _, z1, _⟩ := (hf y (by omega)).1 (by omega)
      refine br_f (fun z => ?_) ⟨vp_in_nI (by omega) (by omega), nm_r (e' := upd cH c (nI (ch c))) (by rw [nI_clamp (by omega)]) (nm_r (nI_1 c) ⟨vx, nm_e (nm_r (nI_1 c) ?_)⟩)⟩
      · obtain ⟨y'', l'', b1, b2, b3, _⟩ := (hf y (by omega)).1 (by omega)
        rw [b1] at z
        exact ix_m1 (by omega) z
      · have e1 : ∀ i, i ≤ c → pz_un ch (c + 1) y i = ch i := fun i hi => pz_ud (by omega)
        have e2 : pz_un ch (c + 1) y (c + 1) = y := pz_us
        have := ih (c + 1) (pz_un ch (c + 1) y) (upd cH c (nI (ch c))) (by omega) (by rw [e2]; omega) (by rw [e1 0 (by omega)]; exact h2) (fun i hi => ?_) (fun i hi => ?_) (fun i hi => ?_) (fun i k hik hk' => ?_)
        · rw [e2] at this; exact this
        · rw [e1 i (by omega)]
          by_cases d : i = c
          · subst d; exact pk_us
          · rw [pk_un d]; exact h3 i (by omega)
        · by_cases d : i = c + 1
          · subst d; rw [e2]; exact ⟨by omega, by omega⟩
          · rw [e1 i (by omega)]; exact h4 i (by omega)
        · rw [e1 i (by omega)]
          by_cases d : i = c
          · subst d; rw [e2]; exact ⟨a1, a3⟩
          · rw [e1 (i + 1) (by omega)]; exact h5 i (by omega)
        · rw [e1 i (by omega)]
          by_cases d : k = c + 1
          · subst d
            rw [e2]
            by_cases q : i = c
            · subst q; exact a3
            · have := h6 i c (by omega) (Nat.le_refl c); omega
          · rw [e1 k (by omega)]; exact h6 i k hik (by omega)
/-- best: itself if it isn't linked; else the best on the way up, among the linked -/
theorem x_best {post : Int32 → SX → Prop} {par s : Nat → Nat} {m b k : Nat} (hD : Dn_p par m) (hm : m ≤ 25) (hs : rp_a sE s m) (hsb : ∀ x, x < m → s x ≤ x) (hk : k < m) (hb1 : 1 ≤ b) (hf : lf_I par s m b aN lA)
    (K : ∀ (l : Nat) (aN lA cH : Nat → Int32), lf_I par s m b aN lA → l < m → (k < b → l = k) → (b ≤ k → b ≤ l ∧ An_c par l k ∧ ∀ t, An_c par t k → b ≤ t → s l ≤ s t) → post (nI l) (fM, fO, fC, fX, fP, tH, kD, sZ, rF, rT, nU, oB, pA, pI, pF, sE, aN, lA, dM, bF, bN, rE, cH, dE, qU, lO, oR, oP, nF, cO, iL, rP)) : wpX_best post (fM, fO, fC, fX, fP, tH, kD, sZ, rF, rT, nU, oB, pA, pI, pF, sE, aN, lA, dM, bF, bN, rE, cH, dE, qU, lO, oR, oP, nF, cO, iL, rP) (nI k) := by
  unfold wpX_best
  have ek : (nI k).toNatClampNeg = k := nI_clamp (by omega)
  have vk : vp_in (nI k) 25 := vp_in_nI (by omega) (by omega)
  refine ⟨vk, ?_⟩
  rw [ek]
  by_cases g : k < b
  · obtain ⟨a1, a2⟩ := (hf k hk).2 g
    refine br_t a1 ⟨vk, ?_⟩
    rw [a2]
    exact K k aN lA cH hf hk (fun _ => rfl) (fun z => by omega)
  · obtain ⟨y, l, a1, a2, a3, _⟩ := (hf k hk).1 (by omega)
    refine br_f (fun z => ix_m1 (p := y) (by omega) (a1.symm.trans z)) ⟨25, ?_⟩
    exact xb_24 hD hm hs hsb hk (by omega) hb1 hf (fun l aN lA cH f1 f2 f3 f4 f5 => K l aN lA cH f1 f2 (fun z => by omega) (fun _ => ⟨f3, f4, f5⟩)) 25 0 (fun _ => k) cH (by omega) (by omega) rfl (fun i hi => by omega) (fun i hi => ⟨hk, by omega⟩) (fun i hi => by omega) (fun i k hik hk => by omega)
end
end
section
/-! X: semidominators of one number -/
/-- the slots looked at so far, row u up to i -/
def fs_I (rt : Nat → Int32) (rf : Nat → Nat → Int32) (obj par s0 : Nat → Nat) (m v u i c : Nat) : Prop :=
  (∀ u' i', u' < m → i' < 4 → (u' < u ∨ (u' = u ∧ i' < i)) → df_sl rt rf obj u' i' = nI (obj v) → (u' < v → c ≤ u') ∧ (∀ t, An_c par t u' → v < t → c ≤ s0 t)) ∧
  c ≤ v ∧ (c = v ∨ (c < v ∧ ∃ i, i < 4 ∧ df_sl rt rf obj c i = nI (obj v)) ∨ ∃ u' i' t, u' < m ∧ i' < 4 ∧ df_sl rt rf obj u' i' = nI (obj v) ∧ An_c par t u' ∧ v < t ∧ c = s0 t)
section
variable {rt : Nat → Int32} {rf : Nat → Nat → Int32} {obj par s0 : Nat → Nat} {m v u i c : Nat}
theorem fs_0 : fs_I rt rf obj par s0 m v 0 0 v := ⟨fun u' i' _ _ h => by omega, Nat.le_refl v, Or.inl rfl⟩
theorem fs_row (h : fs_I rt rf obj par s0 m v u 4 c) : fs_I rt rf obj par s0 m v (u + 1) 0 c :=
  ⟨fun u' i' a b d => h.1 u' i' a b (by omega), h.2⟩
theorem fs_skip (h : fs_I rt rf obj par s0 m v u i c) (hs : ¬ df_sl rt rf obj u i = nI (obj v)) : fs_I rt rf obj par s0 m v u (i + 1) c := by
  refine ⟨fun u' i' a b d e => ?_, h.2⟩
  by_cases q : u' = u ∧ i' = i
  · obtain ⟨q1, q2⟩ := q
    subst q1; subst q2; exact absurd e hs
  · exact h.1 u' i' a b (by omega) e
theorem fs_low {l c' : Nat} (hD : Dn_p par m) (h : fs_I rt rf obj par s0 m v u i c) (hu : u < m) (hi : i < 4) (hv : v < m) (hs : df_sl rt rf obj u i = nI (obj v)) (hid : ∀ x, x < v → s0 x = x) (hlo : ∀ x, v < x → x < m → s0 x ≤ v ∨ True)
    (l1 : u < v + 1 → l = u) (l2 : v + 1 ≤ u → v + 1 ≤ l ∧ An_c par l u ∧ ∀ t, An_c par t u → v + 1 ≤ t → pz_un s0 v c l ≤ pz_un s0 v c t)
    (hc : (c' = c ∧ c ≤ pz_un s0 v c l) ∨ (c' = pz_un s0 v c l ∧ pz_un s0 v c l < c)) : fs_I rt rf obj par s0 m v u (i + 1) c' := by
  obtain ⟨h1, h2, h3⟩ := h
  have hcc : c' ≤ c := by omega
  have hcl : c' ≤ pz_un s0 v c l := by omega
  have hnew : (∀ t, An_c par t u → v < t → c' ≤ s0 t) ∧ (u < v → c' ≤ u) := by
    refine ⟨fun t t1 t2 => ?_, fun g => ?_⟩
    · have := an_le hD hu t1
      have g := (l2 (by omega)).2.2 t t1 (by omega)
      rw [pz_ud (i := t) (by omega)] at g
      omega
    · have e := l1 (by omega)
      rw [e, pz_ud (by omega), hid u g] at hcl
      exact hcl
  refine ⟨fun u' i' a b d e => ?_, by omega, ?_⟩
  · by_cases q : u' = u ∧ i' = i
    · obtain ⟨q1, q2⟩ := q
      subst q1; subst q2
      exact ⟨hnew.2, hnew.1⟩
    · obtain ⟨k1, k2⟩ := h1 u' i' a b (by omega) e
      exact ⟨fun g => by have := k1 g; omega, fun t t1 t2 => by have := k2 t t1 t2; omega⟩
  · rcases hc with ⟨hc, _⟩ | ⟨hc, hlt⟩
    · rw [hc]; exact h3
    · rcases Nat.lt_trichotomy u v with g | g | g
      · have e := l1 (by omega)
        rw [e, pz_ud (by omega), hid u g] at hc
        subst hc
        exact Or.inr (Or.inl ⟨g, i, hi, hs⟩)
      · have e := l1 (by omega)
        rw [e, g, pz_us] at hlt
        omega
      · obtain ⟨k1, k2, k3⟩ := l2 (by omega)
        rw [pz_ud (by omega)] at hc
        exact Or.inr (Or.inr ⟨u, i, l, hu, hi, hs, k2, by omega, hc⟩)
end
section
variable {fM fO fC fX fP : Int32} {tH kD sZ rF rT nU oB pA pI pF sE aN lA dM bF bN rE cH dE qU lO oR oP nF cO iL rP : Nat → Int32}
theorem x_lowerSemi {post : SX → Prop} {par s : Nat → Nat} {m b k v : Nat} (hD : Dn_p par m) (hm : m ≤ 25) (hs : rp_a sE s m) (hsb : ∀ x, x < m → s x ≤ x) (hk : k < m) (hv : v < m) (hb1 : 1 ≤ b) (hf : lf_I par s m b aN lA)
    (K : ∀ (l c : Nat) (aN lA cH sE : Nat → Int32), lf_I par s m b aN lA → l < m → (k < b → l = k) → (b ≤ k → b ≤ l ∧ An_c par l k ∧ ∀ t, An_c par t k → b ≤ t → s l ≤ s t) →
      ((c = s v ∧ s v ≤ s l) ∨ (c = s l ∧ s l < s v)) → rp_a sE (pz_un s v c) m → post (fM, fO, fC, fX, fP, tH, kD, sZ, rF, rT, nU, oB, pA, pI, pF, sE, aN, lA, dM, bF, bN, rE, cH, dE, qU, lO, oR, oP, nF, cO, iL, rP)) : wpX_lowerSemi post (fM, fO, fC, fX, fP, tH, kD, sZ, rF, rT, nU, oB, pA, pI, pF, sE, aN, lA, dM, bF, bN, rE, cH, dE, qU, lO, oR, oP, nF, cO, iL, rP) (nI v) (nI k) := by
  unfold wpX_lowerSemi
  refine x_best hD hm hs hsb hk hb1 hf fun l aN' lA' cH' f1 f2 f3 f4 => ?_
  have ev : (nI v).toNatClampNeg = v := nI_clamp (by omega)
  have vv : vp_in (nI v) 25 := vp_in_nI (by omega) (by omega)
  have el : (nI l).toNatClampNeg = l := nI_clamp (by omega)
  have vl : vp_in (nI l) 25 := vp_in_nI (by omega) (by omega)
  have b1 := hsb v hv
  have b2 := hsb l f2
  refine ⟨vl, vv, ?_⟩
  rw [ev, el, hs v hv, hs l f2]
  refine pk_le (s v) (s l) (fun g => ?_) (fun g => ?_)
  · exact ⟨vv, vv, nm_e (K l (s v) aN' lA' cH' _ f1 f2 f3 f4 (Or.inl ⟨rfl, g⟩) (rp_upd hs))⟩
  · exact ⟨vl, vv, nm_e (K l (s l) aN' lA' cH' _ f1 f2 f3 f4 (Or.inr ⟨rfl, g⟩) (rp_upd hs))⟩
/-- what one slot does -/
theorem fs_one {post : SX → Prop} {rt : Nat → Int32} {rf : Nat → Nat → Int32} {obj par s0 : Nat → Nat} {m v u i c : Nat} (hD : Dn_p par m) (hm : m ≤ 25) (hv : v < m) (hu : u < m) (hi : i < 4) (hid : ∀ x, x < v → s0 x = x) (hsb : ∀ x, x < m → s0 x ≤ x)
    (hs : rp_a sE (pz_un s0 v c) m) (hf : lf_I par s0 m (v + 1) aN lA) (h : fs_I rt rf obj par s0 m v u i c) (he : df_sl rt rf obj u i = nI (obj v))
    (K : ∀ (c : Nat) (aN lA cH sE : Nat → Int32), lf_I par s0 m (v + 1) aN lA → rp_a sE (pz_un s0 v c) m → fs_I rt rf obj par s0 m v u (i + 1) c → post (fM, fO, fC, fX, fP, tH, kD, sZ, rF, rT, nU, oB, pA, pI, pF, sE, aN, lA, dM, bF, bN, rE, cH, dE, qU, lO, oR, oP, nF, cO, iL, rP)) : wpX_lowerSemi post (fM, fO, fC, fX, fP, tH, kD, sZ, rF, rT, nU, oB, pA, pI, pF, sE, aN, lA, dM, bF, bN, rE, cH, dE, qU, lO, oR, oP, nF, cO, iL, rP) (nI v) (nI u) := by
  have hcv := h.2.1
  have hsb' : ∀ x, x < m → pz_un s0 v c x ≤ x := fun x hx => by
    by_cases d : x = v
    · subst d; rw [pz_us]; exact hcv
    · rw [pz_ud d]; exact hsb x hx
  refine x_lowerSemi hD hm hs hsb' hu hv (by omega) (lf_congr hf fun t ht => pz_ud (by omega)) fun l c' aN' lA' cH' sE' f1 f2 f3 f4 f5 f6 => ?_
  rw [pz_us] at f5
  have e : pz_un (pz_un s0 v c) v c' = pz_un s0 v c' := by
    funext x
    by_cases d : x = v
    · subst d; rw [pz_us, pz_us]
    · rw [pz_ud d, pz_ud d, pz_ud d]
  rw [e] at f6
  exact K c' aN' lA' cH' sE' (lf_congr f1 fun t ht => (pz_ud (by omega)).symm) f6 (fs_low hD h hu hi hv he hid (fun _ _ _ => Or.inr trivial) f3 f4 f5)
theorem x_fs58 {post : SX → Prop} {J : (Int32 → Int32 → Int32 → Int32 → Int32 → Int32 → (Nat → Int32) → (Nat → Int32) → (Nat → Int32) → (Nat → Int32) → (Nat → Int32) → (Nat → Int32) → (Nat → Int32) → (Nat → Int32) → (Nat → Int32) → (Nat → Int32) → (Nat → Int32) → (Nat → Int32) → (Nat → Int32) → (Nat → Int32) → (Nat → Int32) → (Nat → Int32) → (Nat → Int32) → (Nat → Int32) → (Nat → Int32) → (Nat → Int32) → (Nat → Int32) → (Nat → Int32) → (Nat → Int32) → (Nat → Int32) → (Nat → Int32) → (Nat → Int32) → (Nat → Int32) → Prop)}
    {obj par s0 : Nat → Nat} {w m v u : Nat} (hw : w < 3) (hD : Dn_p par m) (hm : m ≤ 25) (hv : v < m) (hu1 : 1 ≤ u) (hu : u < m) (hou : obj u < 24) (eo : oB u = nI (obj u)) (hid : ∀ x, x < v → s0 x = x) (hsb : ∀ x, x < m → s0 x ≤ x)
    (K : ∀ (c : Nat) (aN lA cH sE : Nat → Int32), lf_I par s0 m (v + 1) aN lA → rp_a sE (pz_un s0 v c) m → fs_I (gt_r rT w) (gf_f rF w) obj par s0 m v u 4 c → J (nI (u + 1)) fM fO fC fX fP tH kD sZ rF rT nU oB pA pI pF sE aN lA dM bF bN rE cH dE qU lO oR oP nF cO iL rP) :
    ∀ (n i c : Nat) (aN lA cH sE : Nat → Int32), 4 < n + i → i ≤ 4 → lf_I par s0 m (v + 1) aN lA → rp_a sE (pz_un s0 v c) m → fs_I (gt_r rT w) (gf_f rF w) obj par s0 m v u i c →
      wX_findSemi_58 post J (nI w) (nI v) (nI (obj v)) (nI u) n (nI i) fM fO fC fX fP tH kD sZ rF rT nU oB pA pI pF sE aN lA dM bF bN rE cH dE qU lO oR oP nF cO iL rP := by
  intro n
  induction n with
  | zero => intro i c aN lA cH sE h1 h2; omega
  | succ n ih =>
    intro i c aN lA cH sE h1 h2 hf hs h
    rw [wX_findSemi_58]
    by_cases d : i = 4
    · subst d
      exact br_t (nI_le (a := 4) (b := 4) (by omega) (by omega)) (nm_r (nI_1 u) (K c aN lA cH sE hf hs h))
    · refine br_f (nI_ge (b := 4) (by omega) (by omega)) ⟨vp_in_nI (by omega) (by omega), ?_⟩
      rw [nI_clamp (by omega), eo]
      refine xs_target hw hou (by omega) ?_
      have es : df_sl (gt_r rT w) (gf_f rF w) obj u i = gf_f rF w (obj u) i := by
        unfold df_sl
        rw [if_neg (by omega)]
      rw [← es]
      refine br_c (fun g => ?_) (fun g => ?_)
      · refine fs_one hD hm hv hu (by omega) hid hsb hs hf h g fun c' aN' lA' cH' sE' f1 f2 f3 => ?_
        exact nm_r (nI_1 i) (ih (i + 1) c' aN' lA' cH' sE' (by omega) (by omega) f1 f2 f3)
      · exact nm_r (nI_1 i) (ih (i + 1) c aN lA cH sE (by omega) (by omega) hf hs (fs_skip h g))
theorem x_fs46 {post : SX → Prop} {obj par s0 : Nat → Nat} {w m v : Nat} (hw : w < 3) (hD : Dn_p par m) (hm : m ≤ 25) (hv : v < m) (ho : ∀ k, 1 ≤ k → k < m → obj k < 24 ∧ oB k = nI (obj k)) (hid : ∀ x, x < v → s0 x = x) (hsb : ∀ x, x < m → s0 x ≤ x)
    (K : ∀ (c : Nat) (aN lA cH sE : Nat → Int32), lf_I par s0 m (v + 1) aN lA → rp_a sE (pz_un s0 v c) m → fs_I (gt_r rT w) (gf_f rF w) obj par s0 m v m 0 c → post ((nI m), fO, fC, fX, fP, tH, kD, sZ, rF, rT, nU, oB, pA, pI, pF, sE, aN, lA, dM, bF, bN, rE, cH, dE, qU, lO, oR, oP, nF, cO, iL, rP)) :
    ∀ (n u c : Nat) (aN lA cH sE : Nat → Int32), m < n + u → 1 ≤ u → u ≤ m → lf_I par s0 m (v + 1) aN lA → rp_a sE (pz_un s0 v c) m → fs_I (gt_r rT w) (gf_f rF w) obj par s0 m v u 0 c →
      wX_findSemi_46 post (nI w) (nI v) (nI (obj v)) n (nI u) (nI m) fO fC fX fP tH kD sZ rF rT nU oB pA pI pF sE aN lA dM bF bN rE cH dE qU lO oR oP nF cO iL rP := by
  intro n
  induction n with
  | zero => intro i c aN lA cH sE h1 h2; omega
  | succ n ih =>
    intro u c aN lA cH sE h1 h2 h3 hf hs h
    rw [wX_findSemi_46]
    by_cases d : u = m
    · subst d
      exact br_t (nI_le (Nat.le_refl u) (by omega)) (K c aN lA cH sE hf hs h)
    · refine br_f (nI_ge (by omega) (by omega)) ⟨5, ?_⟩
      obtain ⟨o1, o2⟩ := ho u h2 (by omega)
      exact x_fs58 hw hD hm hv h2 (by omega) o1 o2 hid hsb (fun c' aN' lA' cH' sE' f1 f2 f3 => ih (u + 1) c' aN' lA' cH' sE' (by omega) (by omega) (by omega) f1 f2 (fs_row f3)) 5 0 c aN lA cH sE (by omega) (by omega) hf hs h
theorem x_fs10 {post : SX → Prop} {obj par s0 : Nat → Nat} {w m v : Nat} (hw : w < 3) (hD : Dn_p par m) (hm : m ≤ 25) (hv1 : 1 ≤ v) (hv : v < m) (ho : ∀ k, 1 ≤ k → k < m → obj k < 24 ∧ oB k = nI (obj k)) (hid : ∀ x, x < v → s0 x = x) (hsb : ∀ x, x < m → s0 x ≤ x)
    (K : ∀ (c : Nat) (aN lA cH sE : Nat → Int32), lf_I par s0 m (v + 1) aN lA → rp_a sE (pz_un s0 v c) m → fs_I (gt_r rT w) (gf_f rF w) obj par s0 m v m 0 c → post ((nI m), fO, fC, fX, fP, tH, kD, sZ, rF, rT, nU, oB, pA, pI, pF, sE, aN, lA, dM, bF, bN, rE, cH, dE, qU, lO, oR, oP, nF, cO, iL, rP)) :
    ∀ (n i c : Nat) (aN lA cH sE : Nat → Int32), 4 < n + i → i ≤ 4 → lf_I par s0 m (v + 1) aN lA → rp_a sE (pz_un s0 v c) m → fs_I (gt_r rT w) (gf_f rF w) obj par s0 m v 0 i c →
      wX_findSemi_10 post (nI w) (nI v) (nI (obj v)) n (nI i) (nI m) fO fC fX fP tH kD sZ rF rT nU oB pA pI pF sE aN lA dM bF bN rE cH dE qU lO oR oP nF cO iL rP := by
  intro n
  induction n with
  | zero => intro i c aN lA cH sE h1 h2; omega
  | succ n ih =>
    intro i c aN lA cH sE h1 h2 hf hs h
    rw [wX_findSemi_10]
    by_cases d : i = 4
    · subst d
      refine br_t (nI_le (a := 4) (b := 4) (by omega) (by omega)) ⟨m + 1, ?_⟩
      exact x_fs46 hw hD hm hv ho hid hsb K (m + 1) 1 c aN lA cH sE (by omega) (by omega) (by omega) hf hs (fs_row h)
    · refine br_f (nI_ge (b := 4) (by omega) (by omega)) ?_
      rw [ix_r, nI_clamp (by omega)]
      refine ⟨vp_in_nI (by omega) (by omega), ?_⟩
      refine br_c (fun g => ?_) (fun g => ?_)
      · refine fs_one (u := 0) hD hm hv (by omega) (by omega) hid hsb hs hf h g fun c' aN' lA' cH' sE' f1 f2 f3 => ?_
        exact nm_r (nI_1 i) (ih (i + 1) c' aN' lA' cH' sE' (by omega) (by omega) f1 f2 f3)
      · exact nm_r (nI_1 i) (ih (i + 1) c aN lA cH sE (by omega) (by omega) hf hs (fs_skip h g))
theorem x_findSemi {post : SX → Prop} {obj par s0 : Nat → Nat} {w m v : Nat} (hw : w < 3) (hD : Dn_p par m) (hm : m ≤ 25) (hv1 : 1 ≤ v) (hv : v < m) (ho : ∀ k, 1 ≤ k → k < m → obj k < 24 ∧ oB k = nI (obj k)) (hid : ∀ x, x ≤ v → s0 x = x) (hsb : ∀ x, x < m → s0 x ≤ x)
    (hf : lf_I par s0 m (v + 1) aN lA) (hs : rp_a sE s0 m)
    (K : ∀ (c : Nat) (aN lA cH sE : Nat → Int32), lf_I par s0 m (v + 1) aN lA → rp_a sE (pz_un s0 v c) m → fs_I (gt_r rT w) (gf_f rF w) obj par s0 m v m 0 c → post ((nI m), fO, fC, fX, fP, tH, kD, sZ, rF, rT, nU, oB, pA, pI, pF, sE, aN, lA, dM, bF, bN, rE, cH, dE, qU, lO, oR, oP, nF, cO, iL, rP)) :
    wpX_findSemi post ((nI m), fO, fC, fX, fP, tH, kD, sZ, rF, rT, nU, oB, pA, pI, pF, sE, aN, lA, dM, bF, bN, rE, cH, dE, qU, lO, oR, oP, nF, cO, iL, rP) (nI w) (nI v) := by
  unfold wpX_findSemi
  refine ⟨vp_in_nI (by omega) (by omega), nm_r (e' := nI (obj v)) (by rw [nI_clamp (by omega)]; exact (ho v hv1 hv).2) ⟨5, ?_⟩⟩
  have e : pz_un s0 v v = s0 := by
    funext x
    by_cases d : x = v
    · subst d; rw [pz_us]; exact (hid x (Nat.le_refl x)).symm
    · rw [pz_ud d]
  exact x_fs10 hw hD hm hv1 hv ho (fun x hx => hid x (by omega)) hsb K 5 0 v aN lA cH sE (by omega) (by omega) hf (by rw [e]; exact hs) fs_0
end
end
section
/-! X: buckets and dominators -/
/-- a linked list -/
def bk_L (bN : Nat → Int32) : Int32 → List Nat → Prop
  | h, [] => h = -1
  | h, x :: xs => h = nI x ∧ bk_L bN (bN x) xs
theorem bk_upd {bN : Nat → Int32} {v : Nat} {z : Int32} : ∀ {L : List Nat} {h : Int32}, (∀ x, x ∈ L → x ≠ v) → bk_L bN h L → bk_L (upd bN v z) h L
  | [], _, _, g => g
  | x :: xs, h, hv, g => by
    refine ⟨g.1, ?_⟩
    rw [pk_un (hv x (List.mem_cons_self))]
    exact bk_upd (fun y hy => hv y (List.mem_cons_of_mem x hy)) g.2
theorem bk_len : ∀ {L : List Nat} {a m : Nat}, List.Pairwise (fun x y => x < y) L → (∀ x, x ∈ L → a ≤ x ∧ x < m) → L.length + a ≤ m ∨ L = []
  | [], _, _, _, _ => Or.inr rfl
  | x :: xs, a, m, hp, hb => by
    rw [List.pairwise_cons] at hp
    have h0 := hb x List.mem_cons_self
    rcases bk_len (L := xs) (a := x + 1) (m := m) hp.2 (fun y hy => ⟨hp.1 y hy, (hb y (List.mem_cons_of_mem x hy)).2⟩) with g | g
    · left; rw [List.length_cons]; omega
    · left; rw [g]; show 1 + a ≤ m; omega
/-- a dominator, or one that has the same -/
def Dk_d (par s : Nat → Nat) (b x d : Nat) : Prop :=
  ∃ u, s x < u ∧ An_c par u x ∧ (∀ y, s x < y → An_c par y x → b ≤ y ∧ s u ≤ s y) ∧ ((s x ≤ s u ∧ d = s x) ∨ (s u < s x ∧ d = u))
/-- semidominator of one number -/
def Se_w (par : Nat → Nat) (e : Nat → Nat → Prop) (s : Nat → Nat) (w : Nat) : Prop :=
  (∀ k, e k w → k < w → s w ≤ k) ∧ (∀ k u, e k w → An_c par u k → w < u → s w ≤ s u) ∧
  ((e (s w) w ∧ s w < w) ∨ ∃ k u, e k w ∧ An_c par u k ∧ w < u ∧ s w = s u)
theorem Se_up {par s s' : Nat → Nat} {e : Nat → Nat → Prop} {w : Nat} (h : Se_w par e s w) (hw : ∀ t, w ≤ t → s' t = s t) : Se_w par e s' w := by
  obtain ⟨h1, h2, h3⟩ := h
  refine ⟨fun k a b => ?_, fun k u a b c => ?_, ?_⟩
  · rw [hw w (Nat.le_refl w)]; exact h1 k a b
  · rw [hw w (Nat.le_refl w), hw u (by omega)]; exact h2 k u a b c
  · rw [hw w (Nat.le_refl w)]
    rcases h3 with h3 | ⟨k, u, a, b, c, d⟩
    · exact Or.inl h3
    · exact Or.inr ⟨k, u, a, b, c, by rw [hw u (by omega)]; exact d⟩
/-- the state of the run when numbers from b on are done -/
def Ld_I (par : Nat → Nat) (e : Nat → Nat → Prop) (m b : Nat) (s : Nat → Nat) (Lf : Nat → List Nat) (sE aN lA bF bN dM : Nat → Int32) : Prop :=
  rp_a sE s m ∧ (∀ x, x < m → s x ≤ x) ∧ (∀ x, x < b → s x = x) ∧ (∀ w, b ≤ w → w < m → Se_w par e s w) ∧ lf_I par s m b aN lA ∧
  (∀ p, p < m → bk_L bN (bF p) (Lf p) ∧ List.Pairwise (fun x y => x < y) (Lf p) ∧ ∀ x, x ∈ Lf p → b ≤ x ∧ x < m ∧ s x = p ∧ ∀ c, b ≤ c → c < m → par c = p → x < c) ∧
  (∀ x, b ≤ x → x < m → x ∈ Lf (s x) ∨ ∃ d, dM x = nI d ∧ Dk_d par s b x d)
theorem Ld_child {par : Nat → Nat} {m p : Nat} (hD : Dn_p par m) : ∀ x, x < m → An_c par p x → p < x → ∃ c, 1 ≤ c ∧ par c = p ∧ An_c par c x := by
  intro x
  induction x using Nat.strongRecOn with
  | ind x ih =>
    intro hx ha hp
    rcases an_cases ha with g | g
    · omega
    · by_cases d : par x = p
      · exact ⟨x, by omega, d, an_rf x⟩
      · have h1 := hD.2 x (by omega) hx
        have h2 := an_le hD (b := par x) (by omega) g
        obtain ⟨c, c1, c2, c3⟩ := ih (par x) h1 (by omega) g (by omega)
        exact ⟨c, c1, c2, an_tr c3 (an_par x)⟩
/-- all done: semidominators, and for each number a dominator or one that has the same -/
theorem Ld_end {par s : Nat → Nat} {e : Nat → Nat → Prop} {m : Nat} {Lf : Nat → List Nat} {sE aN lA bF bN dM : Nat → Int32} (t : Tr_e m par e) (h : Ld_I par e m 1 s Lf sE aN lA bF bN dM) :
    Se_m m par e s ∧ rp_a sE s m ∧ (∀ x, x < m → s x ≤ x) ∧ ∀ x, 1 ≤ x → x < m → ∃ d, dM x = nI d ∧ Dk_d par s 1 x d := by
  obtain ⟨h1, h2, h3, h4, h5, h6, h7⟩ := h
  have hS : Se_m m par e s := ⟨fun k w he hk => (h4 w (t.2.1 k w he).2.1 (t.2.1 k w he).2.2).1 k he hk, fun k w u he a b => (h4 w (t.2.1 k w he).2.1 (t.2.1 k w he).2.2).2.1 k u he a b, fun w a b => (h4 w a b).2.2⟩
  refine ⟨hS, h1, h2, fun x x1 x2 => ?_⟩
  rcases h7 x x1 x2 with g | g
  · exfalso
    obtain ⟨a1, a2⟩ := sd_sm t hS x1 x2
    obtain ⟨c, c1, c2, c3⟩ := Ld_child t.1 x x2 a1 a2
    have hc := an_le t.1 x2 c3
    have := ((h6 (s x) (by omega)).2.2 x g).2.2.2 c c1 (by omega) c2
    omega
  · exact g
/-- the step at v: its semidominator c is known, it is put into c's bucket and linked -/
theorem Ld_link {par s : Nat → Nat} {e : Nat → Nat → Prop} {m v c : Nat} {Lf : Nat → List Nat} {sE aN lA bF bN dM sE' : Nat → Int32} (t : Tr_e m par e) (hm : m ≤ 25) (hv1 : 1 ≤ v) (hv : v < m) (h : Ld_I par e m (v + 1) s Lf sE aN lA bF bN dM)
    (hs : rp_a sE' (pz_un s v c) m) (hcv : c < v) (hw : Se_w par e (pz_un s v c) v) :
    rp_a sE' (pz_un s v c) m ∧ (∀ x, x < m → pz_un s v c x ≤ x) ∧ (∀ x, x < v → pz_un s v c x = x) ∧ (∀ w, v ≤ w → w < m → Se_w par e (pz_un s v c) w) ∧ lf_I par (pz_un s v c) m v (upd aN v (nI (par v))) lA ∧
    (∀ p, p < m → bk_L (upd bN v (bF c)) (upd bF c (nI v) p) (if p = c then v :: Lf c else Lf p) ∧ List.Pairwise (fun x y => x < y) (if p = c then v :: Lf c else Lf p) ∧
      ∀ x, x ∈ (if p = c then v :: Lf c else Lf p) → v ≤ x ∧ x < m ∧ pz_un s v c x = p ∧ ∀ k, v + 1 ≤ k → k < m → par k = p → x < k) ∧
    (∀ x, v ≤ x → x < m → x ∈ (if pz_un s v c x = c then v :: Lf c else Lf (pz_un s v c x)) ∨ ∃ d, dM x = nI d ∧ Dk_d par (pz_un s v c) v x d) := by
  obtain ⟨h1, h2, h3, h4, h5, h6, h7⟩ := h
  have hD := t.1
  have eq : ∀ x, v + 1 ≤ x → pz_un s v c x = s x := fun x hx => pz_ud (by omega)
  refine ⟨hs, fun x hx => ?_, fun x hx => ?_, fun w a b => ?_, fun x hx => ⟨fun hb => ?_, fun hb => ?_⟩, fun p hp => ?_, fun x a b => ?_⟩
  · by_cases d : x = v
    · subst d; rw [pz_us]; omega
    · rw [pz_ud d]; exact h2 x hx
  · rw [pz_ud (by omega)]; exact h3 x (by omega)
  · by_cases d : w = v
    · subst d; exact hw
    · exact Se_up (h4 w (by omega) b) fun t ht => pz_ud (by omega)
  · by_cases d : x = v
    · subst d
      rw [pk_us]
      have hp := hD.2 x hv1 hv
      refine ⟨par x, x, rfl, ((h5 x hx).2 (by omega)).2, hp, an_par x, hp, an_rf x, fun t t1 t2 => ?_⟩
      rcases an_cases t1 with g | g
      · subst g; exact ⟨Nat.le_refl _, Nat.le_refl _⟩
      · have := an_le hD (b := par x) (by omega) g
        omega
    · rw [pk_un d]
      obtain ⟨y, l, a1, a2, a3, a4, a5, a6, a7⟩ := (h5 x hx).1 (by omega)
      refine ⟨y, l, a1, a2, a3, a4, a5, a6, fun t t1 t2 => ?_⟩
      obtain ⟨c1, c2⟩ := a7 t t1 t2
      rw [eq l (a7 l a6 a5).1, eq t c1]
      exact ⟨by omega, c2⟩
  · rw [pk_un (by omega)]
    exact (h5 x hx).2 (by omega)
  · obtain ⟨k1, k2, k3⟩ := h6 p hp
    have hne : ∀ x, x ∈ Lf p → x ≠ v := fun x hx => by have := (k3 x hx).1; omega
    by_cases d : p = c
    · subst d
      rw [if_pos rfl, pk_us]
      refine ⟨⟨rfl, ?_⟩, ?_, fun x hx => ?_⟩
      · rw [pk_us]; exact bk_upd hne k1
      · rw [List.pairwise_cons]
        exact ⟨fun y hy => (k3 y hy).1, k2⟩
      · rcases List.mem_cons.mp hx with g | g
        · subst g
          exact ⟨Nat.le_refl _, hv, pz_us, fun k a _ _ => a⟩
        · obtain ⟨q1, q2, q3, q4⟩ := k3 x g
          exact ⟨by omega, q2, by rw [eq x q1]; exact q3, fun k a b c => q4 k a b c⟩
    · rw [if_neg d, pk_un d]
      refine ⟨bk_upd hne k1, k2, fun x hx => ?_⟩
      obtain ⟨q1, q2, q3, q4⟩ := k3 x hx
      exact ⟨by omega, q2, by rw [eq x q1]; exact q3, fun k a b c => q4 k a b c⟩
  · by_cases d : x = v
    · subst d
      rw [pz_us, if_pos rfl]
      exact Or.inl List.mem_cons_self
    · rw [eq x (by omega)]
      rcases h7 x (by omega) b with g | ⟨d', g1, u, g2, g3, g4, g5⟩
      · left
        by_cases q : s x = c
        · rw [if_pos q, ← q]; exact List.mem_cons_of_mem v g
        · rw [if_neg q]; exact g
      · refine Or.inr ⟨d', g1, u, ?_, g3, fun y y1 y2 => ?_, ?_⟩
        · rw [eq x (by omega)]; exact g2
        · rw [eq x (by omega)] at y1
          obtain ⟨z1, z2⟩ := g4 y y1 y2
          rw [eq u (g4 u g2 g3).1, eq y z1]
          exact ⟨by omega, z2⟩
        · rw [eq x (by omega), eq u (g4 u g2 g3).1]; exact g5
/-- the bucket of v's parent is emptied -/
theorem Ld_empty {par s : Nat → Nat} {e : Nat → Nat → Prop} {m v : Nat} {Lf : Nat → List Nat} {sE bF bN dM aN' lA' dM' : Nat → Int32} (t : Tr_e m par e) (hm : m ≤ 25) (hv1 : 1 ≤ v) (hv : v < m)
    (h1 : rp_a sE s m) (h2 : ∀ x, x < m → s x ≤ x) (h3 : ∀ x, x < v → s x = x) (h4 : ∀ w, v ≤ w → w < m → Se_w par e s w) (h5 : lf_I par s m v aN' lA')
    (h6 : ∀ p, p < m → bk_L bN (bF p) (Lf p) ∧ List.Pairwise (fun x y => x < y) (Lf p) ∧ ∀ x, x ∈ Lf p → v ≤ x ∧ x < m ∧ s x = p ∧ ∀ k, v + 1 ≤ k → k < m → par k = p → x < k)
    (h7 : ∀ x, v ≤ x → x < m → x ∈ Lf (s x) ∨ ∃ d, dM x = nI d ∧ Dk_d par s v x d)
    (k1 : ∀ x, x ∈ Lf (par v) → ∃ l, v ≤ l ∧ An_c par l x ∧ (∀ t, An_c par t x → v ≤ t → s l ≤ s t) ∧ ((s x ≤ s l ∧ dM' x = nI (par v)) ∨ (s l < s x ∧ dM' x = nI l)))
    (k2 : ∀ x, ¬ x ∈ Lf (par v) → dM' x = dM x) :
    Ld_I par e m v s (fun p => if p = par v then [] else Lf p) sE aN' lA' (upd bF (par v) (-1)) bN dM' := by
  have hD := t.1
  have hp := hD.2 v hv1 hv
  refine ⟨h1, h2, h3, h4, h5, fun p hpm => ?_, fun x a b => ?_⟩
  · by_cases d : p = par v
    · subst d
      dsimp only
      rw [if_pos rfl, pk_us]
      exact ⟨rfl, List.Pairwise.nil, fun x hx => absurd hx (List.not_mem_nil)⟩
    · dsimp only
      rw [if_neg d, pk_un d]
      obtain ⟨q1, q2, q3⟩ := h6 p hpm
      refine ⟨q1, q2, fun x hx => ?_⟩
      obtain ⟨z1, z2, z3, z4⟩ := q3 x hx
      refine ⟨z1, z2, z3, fun c c1 c2 c3 => ?_⟩
      by_cases q : c = v
      · subst q; exact absurd c3.symm d
      · exact z4 c (by omega) c2 c3
  · by_cases d : x ∈ Lf (par v)
    · right
      obtain ⟨l, l1, l2, l3, l4⟩ := k1 x d
      obtain ⟨z1, z2, z3, z4⟩ := (h6 (par v) (by omega)).2.2 x d
      have hy : ∀ y, s x < y → An_c par y x → v ≤ y ∧ s l ≤ s y := by
        intro y y1 y2
        have hvy : v ≤ y := by
          refine Classical.byContradiction fun g => ?_
          have hyv : An_c par y v := t.2.2.2.2 y v x y2 (by omega) (by omega) z2
          rcases an_cases hyv with q | q
          · omega
          · have := an_le hD (b := par v) (by omega) q
            omega
        exact ⟨hvy, l3 y y2 hvy⟩
      rcases l4 with ⟨l4, l5⟩ | ⟨l4, l5⟩
      · exact ⟨par v, l5, l, by omega, l2, hy, Or.inl ⟨l4, by omega⟩⟩
      · exact ⟨l, l5, l, by omega, l2, hy, Or.inr ⟨l4, rfl⟩⟩
    · rw [k2 x d]
      rcases h7 x a b with g | g
      · left
        dsimp only
        have hne : s x ≠ par v := fun z => d (by rw [← z]; exact g)
        rw [if_neg hne]
        exact g
      · exact Or.inr g
section
variable {fM fO fC fX fP : Int32} {tH kD sZ rF rT nU oB pA pI pF sE aN lA dM bF bN rE cH dE qU lO oR oP nF cO iL rP : Nat → Int32}
theorem x_eb9 {post : SX → Prop} {par s : Nat → Nat} {m b p : Nat} (hD : Dn_p par m) (hm : m ≤ 25) (hp : p < m) (hs : rp_a sE s m) (hsb : ∀ x, x < m → s x ≤ x) (hb1 : 1 ≤ b) :
    ∀ (L : List Nat) (n i : Nat) (h : Int32) (aN lA cH dM : Nat → Int32), L.length < n → i + L.length ≤ 24 → bk_L bN h L → (∀ x, x ∈ L → b ≤ x ∧ x < m) → lf_I par s m b aN lA →
      (K : ∀ (aN lA cH dM' : Nat → Int32), lf_I par s m b aN lA → (∀ x, x ∈ L → ∃ l, b ≤ l ∧ An_c par l x ∧ (∀ t, An_c par t x → b ≤ t → s l ≤ s t) ∧ ((s x ≤ s l ∧ dM' x = nI p) ∨ (s l < s x ∧ dM' x = nI l))) →
        (∀ x, ¬ x ∈ L → dM' x = dM x) → post (fM, fO, fC, fX, fP, tH, kD, sZ, rF, rT, nU, oB, pA, pI, pF, sE, aN, lA, dM', (upd bF p (-1)), bN, rE, cH, dE, qU, lO, oR, oP, nF, cO, iL, rP)) →
      wX_emptyBucket_9 post (nI p) n h (nI i) fM fO fC fX fP tH kD sZ rF rT nU oB pA pI pF sE aN lA dM bF bN rE cH dE qU lO oR oP nF cO iL rP := by
  intro L
  induction L with
  | nil =>
    intro n i h aN lA cH dM h0 h1 h2 h3 h4 K
    obtain ⟨n, rfl⟩ : ∃ k, n = k + 1 := ⟨n - 1, by omega⟩
    rw [wX_emptyBucket_9]
    have hi : i ≤ 24 := by simpa using h1
    refine br_f (nI_ge (b := 25) (by omega) (by omega)) (br_t h2 ⟨vp_in_nI (by omega) (by omega), nm_r (e' := upd bF p (-1)) (by rw [nI_clamp (by omega)]) ?_⟩)
    exact K aN lA cH dM h4 (fun x hx => absurd hx List.not_mem_nil) (fun x _ => rfl)
  | cons x xs ih =>
    intro n i h aN lA cH dM h0 h1 h2 h3 h4 K
    rw [List.length_cons] at h0 h1
    obtain ⟨n, rfl⟩ : ∃ k, n = k + 1 := ⟨n - 1, by omega⟩
    obtain ⟨rfl, g⟩ := h2
    obtain ⟨x1, x2⟩ := h3 x List.mem_cons_self
    rw [wX_emptyBucket_9]
    refine br_f (nI_ge (b := 25) (by omega) (by omega)) (br_f (ix_m1 (by omega)) ?_)
    refine x_best hD hm hs hsb x2 hb1 h4 fun l aN' lA' cH' f1 f2 f3 f4 => ?_
    obtain ⟨g1, g2, g3⟩ := f4 x1
    have ex : (nI x).toNatClampNeg = x := nI_clamp (by omega)
    have vx : vp_in (nI x) 25 := vp_in_nI (by omega) (by omega)
    have el : (nI l).toNatClampNeg = l := nI_clamp (by omega)
    have b1 := hsb x x2
    have b2 := hsb l f2
    refine ⟨vp_in_nI (by omega) (by omega), vx, ?_⟩
    rw [ex, el, hs x x2, hs l f2]
    have step : ∀ d, ((s x ≤ s l ∧ d = p) ∨ (s l < s x ∧ d = l)) → wX_emptyBucket_54 post (wX_emptyBucket_9 post (nI p) n) (nI p) (nI x) (nI i) (nI d) (nI x) fM fO fC fX fP tH kD sZ rF rT nU oB pA pI pF sE aN' lA' dM bF bN rE cH' dE qU lO oR oP nF cO iL rP := by
      intro d hd
      unfold wX_emptyBucket_54
      refine ⟨vx, nm_r (e' := upd dM x (nI d)) (by rw [ex]) ⟨vx, nm_r (e' := bN x) (by rw [ex]) (nm_r (nI_1 i) ?_)⟩⟩
      refine ih n (i + 1) (bN x) aN' lA' cH' (upd dM x (nI d)) (by omega) (by omega) g (fun y hy => h3 y (List.mem_cons_of_mem x hy)) f1 fun aN2 lA2 cH2 dM2 e1 e2 e3 => ?_
      refine K aN2 lA2 cH2 dM2 e1 (fun y hy => ?_) (fun y hy => ?_)
      · by_cases q : y ∈ xs
        · exact e2 y q
        · rcases List.mem_cons.mp hy with z | z
          · subst z
            refine ⟨l, g1, g2, g3, ?_⟩
            rw [e3 y q, pk_us]
            rcases hd with ⟨a, b⟩ | ⟨a, b⟩
            · exact Or.inl ⟨a, by rw [b]⟩
            · exact Or.inr ⟨a, by rw [b]⟩
          · exact absurd z q
      · rw [List.mem_cons, not_or] at hy
        rw [e3 y hy.2, pk_un hy.1]
    exact pk_le (s x) (s l) (fun g => step p (Or.inl ⟨g, rfl⟩)) (fun g => step l (Or.inr ⟨g, rfl⟩))
theorem x_emptyBucket {post : SX → Prop} {par s : Nat → Nat} {m b p : Nat} {L : List Nat} (hD : Dn_p par m) (hm : m ≤ 25) (hp : p < m) (hs : rp_a sE s m) (hsb : ∀ x, x < m → s x ≤ x) (hb1 : 1 ≤ b)
    (hL : L.length ≤ 24) (h2 : bk_L bN (bF p) L) (h3 : ∀ x, x ∈ L → b ≤ x ∧ x < m) (h4 : lf_I par s m b aN lA)
    (K : ∀ (aN lA cH dM' : Nat → Int32), lf_I par s m b aN lA → (∀ x, x ∈ L → ∃ l, b ≤ l ∧ An_c par l x ∧ (∀ t, An_c par t x → b ≤ t → s l ≤ s t) ∧ ((s x ≤ s l ∧ dM' x = nI p) ∨ (s l < s x ∧ dM' x = nI l))) →
        (∀ x, ¬ x ∈ L → dM' x = dM x) → post (fM, fO, fC, fX, fP, tH, kD, sZ, rF, rT, nU, oB, pA, pI, pF, sE, aN, lA, dM', (upd bF p (-1)), bN, rE, cH, dE, qU, lO, oR, oP, nF, cO, iL, rP)) : wpX_emptyBucket post (fM, fO, fC, fX, fP, tH, kD, sZ, rF, rT, nU, oB, pA, pI, pF, sE, aN, lA, dM, bF, bN, rE, cH, dE, qU, lO, oR, oP, nF, cO, iL, rP) (nI p) := by
  unfold wpX_emptyBucket
  refine ⟨vp_in_nI (by omega) (by omega), nm_r (e' := bF p) (by rw [nI_clamp (by omega)]) ⟨25, ?_⟩⟩
  exact x_eb9 hD hm hp hs hsb hb1 L 25 0 (bF p) aN lA cH dM (by omega) (by omega) h2 h3 h4 K
end
end
section
/-! X: findDominators -/
theorem fs_done {rt : Nat → Int32} {rf : Nat → Nat → Int32} {obj par s : Nat → Nat} {m v c : Nat} (t : Tr_e m par (ne_e rt rf m obj)) (hv1 : 1 ≤ v) (hv : v < m) (h : fs_I rt rf obj par s m v m 0 c) :
    c < v ∧ Se_w par (ne_e rt rf m obj) (pz_un s v c) v := by
  obtain ⟨h1, h2, h3⟩ := h
  obtain ⟨t1, t2, t3, t4, t5⟩ := t
  have hp := t1.2 v hv1 hv
  have hlt : c ≤ par v := by
    obtain ⟨a, _, _, i, b, d⟩ := t3 v hv1 hv
    exact (h1 (par v) i a b (Or.inl a) d).1 hp
  have hcv : c < v := by omega
  refine ⟨hcv, fun k he hk => ?_, fun k u he hu hw => ?_, ?_⟩
  · obtain ⟨a, _, _, i, b, d⟩ := he
    rw [pz_us]
    exact (h1 k i a b (Or.inl a) d).1 hk
  · obtain ⟨a, _, _, i, b, d⟩ := he
    rw [pz_us, pz_ud (by omega)]
    exact (h1 k i a b (Or.inl a) d).2 u hu hw
  · rw [pz_us]
    rcases h3 with h3 | ⟨a, i, b, d⟩ | ⟨u', i, t, a, b, d, f, g, q⟩
    · omega
    · exact Or.inl ⟨⟨by omega, hv1, hv, i, b, d⟩, hcv⟩
    · exact Or.inr ⟨u', t, ⟨a, hv1, hv, i, b, d⟩, f, g, by rw [pz_ud (by omega)]; exact q⟩
section
variable {fM fO fC fX fP : Int32} {tH kD sZ rF rT nU oB pA pI pF sE aN lA dM bF bN rE cH dE qU lO oR oP nF cO iL rP : Nat → Int32}
theorem x_fd131 {post : SX → Prop} {par s : Nat → Nat} {e : Nat → Nat → Prop} {m : Nat} (t : Tr_e m par e) (hS : Se_m m par e s) (hm : m ≤ 25) (hs : rp_a sE s m) (hsb : ∀ x, x < m → s x ≤ x)
    (K : ∀ (dM : Nat → Int32) (dd : Nat → Nat), dd 0 = 0 → rp_a dM dd m → (∀ x, 1 ≤ x → x < m → Id_m e x (dd x)) → post ((nI m), fO, fC, fX, fP, tH, kD, sZ, rF, rT, nU, oB, pA, pI, pF, sE, aN, lA, dM, bF, bN, rE, cH, dE, qU, lO, oR, oP, nF, cO, iL, rP)) :
    ∀ (n v : Nat) (dM : Nat → Int32) (dd : Nat → Nat), m < n + v → 1 ≤ v → v ≤ m → dd 0 = 0 → rp_a dM dd v → (∀ x, 1 ≤ x → x < v → Id_m e x (dd x)) → (∀ x, v ≤ x → x < m → ∃ d, dM x = nI d ∧ Dk_d par s 1 x d) →
      wX_findDominators_131 post (nI m) fO fC fX fP n (nI v) tH kD sZ rF rT nU oB pA pI pF sE aN lA dM bF bN rE cH dE qU lO oR oP nF cO iL rP := by
  intro n
  induction n with
  | zero => intro v dM dd h1 h2 h3; omega
  | succ n ih =>
    intro v dM dd h1 h2 h3 h4 h5 h6 h7
    rw [wX_findDominators_131]
    by_cases c : v = m
    · subst c
      exact br_t (nI_le (Nat.le_refl v) (by omega)) (K dM dd h4 h5 h6)
    · obtain ⟨d, d1, u, u1, u2, u3, u4⟩ := h7 v (Nat.le_refl v) (by omega)
      have hle := an_le t.1 (b := v) (by omega) u2
      have hb := hsb v (by omega)
      have ev : (nI v).toNatClampNeg = v := nI_clamp (by omega)
      have vv : vp_in (nI v) 25 := vp_in_nI (by omega) (by omega)
      have hdom := sd_dom t hS h2 (by omega) u1 u2 (fun y a b => (u3 y a b).2)
      have hd : d < m := by omega
      have fin : ∀ d', Id_m e v d' → wX_findDominators_131 post (nI m) fO fC fX fP n (nI (v + 1)) tH kD sZ rF rT nU oB pA pI pF sE aN lA (upd dM v (nI d')) bF bN rE cH dE qU lO oR oP nF cO iL rP := by
        intro d' hd'
        refine ih (v + 1) _ (pz_un dd v d') (by omega) (by omega) (by omega) (by rw [pz_ud (by omega)]; exact h4) (rp_push h5) (fun x a b => ?_) (fun x a b => ?_)
        · by_cases q : x = v
          · subst q; rw [pz_us]; exact hd'
          · rw [pz_ud q]; exact h6 x a (by omega)
        · rw [pk_un (by omega)]; exact h7 x (by omega) b
      refine br_f (nI_ge (by omega) (by omega)) ⟨vv, vv, ?_⟩
      rw [ev, d1, hs v (by omega), nI_clamp (show d < 2 ^ 31 by omega)]
      rcases u4 with ⟨a, b⟩ | ⟨a, b⟩
      · refine br_t (by rw [b]) ⟨vv, vv, nm_e (nm_r (nI_1 v) ?_)⟩
        rw [b]
        exact fin (s v) (hdom.1 a)
      · have hne : u ≠ v := fun z => by rw [z] at a; omega
        refine br_f (fun z => ?_) ⟨vv, vp_in_nI (by omega) (by omega), vv, nm_e (nm_r (nI_1 v) ?_)⟩
        · have := (nI_eq (by omega) (by omega)).mp z
          omega
        · rw [h5 d (by omega)]
          have := hdom.2 a (dd u) (h6 u (by omega) (by omega))
          rw [b]
          exact fin (dd u) this
theorem x_fd57 {post : SX → Prop} {obj par : Nat → Nat} {w m : Nat} (hw : w < 3) (hm : m ≤ 25) (hm1 : 1 ≤ m) (t : Tr_e m par (ne_e (gt_r rT w) (gf_f rF w) m obj)) (ho : ∀ k, 1 ≤ k → k < m → obj k < 24 ∧ oB k = nI (obj k)) (hpa : ∀ k, 1 ≤ k → k < m → pA k = nI (par k))
    (K : ∀ (sE aN lA cH bF bN dM : Nat → Int32) (dd : Nat → Nat), dd 0 = 0 → rp_a dM dd m → (∀ x, 1 ≤ x → x < m → Id_m (ne_e (gt_r rT w) (gf_f rF w) m obj) x (dd x)) → post ((nI m), fO, fC, fX, fP, tH, kD, sZ, rF, rT, nU, oB, pA, pI, pF, sE, aN, lA, dM, bF, bN, rE, cH, dE, qU, lO, oR, oP, nF, cO, iL, rP)) :
    ∀ (v n : Nat) (s : Nat → Nat) (Lf : Nat → List Nat) (sE aN lA cH bF bN dM : Nat → Int32), v < n → v < m → Ld_I par (ne_e (gt_r rT w) (gf_f rF w) m obj) m (v + 1) s Lf sE aN lA bF bN dM →
      wX_findDominators_57 post (nI w) n (nI v) (nI m) fO fC fX fP tH kD sZ rF rT nU oB pA pI pF sE aN lA dM bF bN rE cH dE qU lO oR oP nF cO iL rP := by
  intro v
  induction v with
  | zero =>
    intro n s Lf sE aN lA cH bF bN dM h0 h1 hI
    obtain ⟨n, rfl⟩ : ∃ k, n = k + 1 := ⟨n - 1, by omega⟩
    obtain ⟨e1, e2, e3, e4⟩ := Ld_end t hI
    rw [wX_findDominators_57]
    refine br_t (nI_lt (a := 0) (b := 1) (by omega) (by omega)) (nm_e ⟨m + 1, ?_⟩)
    refine x_fd131 t e1 hm e2 e3 (fun dM dd a b c => K sE aN lA cH bF bN dM dd a b c) (m + 1) 1 _ (fun _ => 0) (by omega) (by omega) (by omega) rfl (fun x hx => ?_) (fun x a b => by omega) (fun x a b => ?_)
    · have : x = 0 := by omega
      subst this
      exact pk_us
    · rw [pk_un (by omega)]; exact e4 x a b
  | succ v ih =>
    intro n s Lf sE aN lA cH bF bN dM h0 h1 hI
    obtain ⟨n, rfl⟩ : ∃ k, n = k + 1 := ⟨n - 1, by omega⟩
    have ev : (nI (v + 1)).toNatClampNeg = v + 1 := nI_clamp (by omega)
    have vv : vp_in (nI (v + 1)) 25 := vp_in_nI (by omega) (by omega)
    have hp := t.1.2 (v + 1) (by omega) h1
    rw [wX_findDominators_57]
    refine br_f (nI_nlt (b := 1) (by omega) (by omega)) ⟨vv, nm_r (e' := nI (par (v + 1))) (by rw [ev]; exact hpa (v + 1) (by omega) h1) ?_⟩
    have hI' := hI
    obtain ⟨i1, i2, i3, i4, i5, i6, i7⟩ := hI'
    refine x_findSemi hw t.1 hm (by omega) h1 ho (fun x hx => i3 x (by omega)) i2 i5 i1 fun c aN' lA' cH' sE' f1 f2 f3 => ?_
    obtain ⟨g1, g2⟩ := fs_done t (by omega) h1 f3
    have hI2 : Ld_I par (ne_e (gt_r rT w) (gf_f rF w) m obj) m (v + 1 + 1) s Lf sE aN' lA' bF bN dM := ⟨i1, i2, i3, i4, f1, i6, i7⟩
    obtain ⟨l1, l2, l3, l4, l5, l6, l7⟩ := Ld_link t hm (by omega) h1 hI2 f2 g1 g2
    have ec : sE' (v + 1) = nI c := by rw [f2 (v + 1) h1, pz_us]
    have vc : vp_in (nI c) 25 := vp_in_nI (by omega) (by omega)
    have ecl : (nI c).toNatClampNeg = c := nI_clamp (by omega)
    refine ⟨vv, ?_⟩
    rw [ev, ec, ecl]
    refine ⟨vc, vv, nm_e ⟨vv, vc, nm_e ⟨vv, nm_e ?_⟩⟩⟩
    obtain ⟨q1, q2, q3⟩ := l6 (par (v + 1)) (by omega)
    have hlen := bk_len q2 (a := v + 1) (m := m) (fun x hx => ⟨(q3 x hx).1, (q3 x hx).2.1⟩)
    refine x_emptyBucket (L := if par (v + 1) = c then (v + 1) :: Lf c else Lf (par (v + 1))) t.1 hm (by omega) l1 l2 (by omega) ?_ q1 (fun x hx => ⟨(q3 x hx).1, (q3 x hx).2.1⟩) l5 fun aN2 lA2 cH2 dM2 z1 z2 z3 => ?_
    · rcases hlen with g | g
      · omega
      · rw [g]; exact Nat.zero_le _
    · refine nm_r (pk_m1 v) ?_
      refine ih n (pz_un s (v + 1) c) (fun p => if p = par (v + 1) then [] else if p = c then (v + 1) :: Lf c else Lf p) _ _ _ _ _ _ _ (by omega) (by omega) ?_
      exact Ld_empty (Lf := fun p => if p = c then (v + 1) :: Lf c else Lf p) t hm (by omega) h1 l1 l2 l3 l4 z1 l6 l7 z2 z3
theorem x_fd8 {post : SX → Prop} {obj par : Nat → Nat} {w m : Nat} (hw : w < 3) (hm : m ≤ 25) (hm1 : 1 ≤ m) (t : Tr_e m par (ne_e (gt_r rT w) (gf_f rF w) m obj)) (ho : ∀ k, 1 ≤ k → k < m → obj k < 24 ∧ oB k = nI (obj k)) (hpa : ∀ k, 1 ≤ k → k < m → pA k = nI (par k))
    (K : ∀ (sE aN lA cH bF bN dM : Nat → Int32) (dd : Nat → Nat), dd 0 = 0 → rp_a dM dd m → (∀ x, 1 ≤ x → x < m → Id_m (ne_e (gt_r rT w) (gf_f rF w) m obj) x (dd x)) → post ((nI m), fO, fC, fX, fP, tH, kD, sZ, rF, rT, nU, oB, pA, pI, pF, sE, aN, lA, dM, bF, bN, rE, cH, dE, qU, lO, oR, oP, nF, cO, iL, rP)) :
    ∀ (n v : Nat) (sE aN lA bF : Nat → Int32), m < n + v → v ≤ m → (∀ x, x < v → sE x = nI x ∧ aN x = -1 ∧ lA x = nI x ∧ bF x = -1) →
      wX_findDominators_8 post (nI w) (nI m) fO fC fX fP n (nI v) tH kD sZ rF rT nU oB pA pI pF sE aN lA dM bF bN rE cH dE qU lO oR oP nF cO iL rP := by
  intro n
  induction n with
  | zero => intro v sE aN lA bF h1 h2; omega
  | succ n ih =>
    intro v sE aN lA bF h1 h2 h3
    rw [wX_findDominators_8]
    by_cases c : v = m
    · subst c
      refine br_t (nI_le (Nat.le_refl v) (by omega)) (nm_r (ix_dec hm1) ⟨v, ?_⟩)
      refine x_fd57 hw hm hm1 t ho hpa K (v - 1) v (fun x => x) (fun _ => []) sE aN lA cH bF bN dM (by omega) (by omega) ?_
      rw [Nat.sub_add_cancel hm1]
      refine ⟨fun x hx => (h3 x hx).1, fun x _ => Nat.le_refl x, fun _ _ => rfl, fun w a b => by omega, fun x hx => ⟨fun g => by omega, fun _ => ⟨(h3 x hx).2.1, (h3 x hx).2.2.1⟩⟩, fun p hp => ⟨(h3 p hp).2.2.2, List.Pairwise.nil, fun x hx => absurd hx List.not_mem_nil⟩, fun x a b => by omega⟩
    · have ev : (nI v).toNatClampNeg = v := nI_clamp (by omega)
      have vv : vp_in (nI v) 25 := vp_in_nI (by omega) (by omega)
      refine br_f (nI_ge (by omega) (by omega)) ⟨vv, nm_r (e' := upd sE v (nI v)) (by rw [ev]) ⟨vv, nm_r (e' := upd aN v (-1)) (by rw [ev]) ⟨vv, nm_r (e' := upd lA v (nI v)) (by rw [ev]) ⟨vv, nm_r (e' := upd bF v (-1)) (by rw [ev]) (nm_r (nI_1 v) ?_)⟩⟩⟩⟩
      refine ih (v + 1) _ _ _ _ (by omega) (by omega) fun x hx => ?_
      by_cases d : x = v
      · subst d; rw [pk_us, pk_us, pk_us, pk_us]; exact ⟨rfl, rfl, rfl, rfl⟩
      · rw [pk_un d, pk_un d, pk_un d, pk_un d]; exact h3 x (by omega)
/-- dominators of a place -/
theorem x_findDom {post : SX → Prop} {w : Nat} (hw : w < 3) (ok : gOk tH rF rT w)
    (K : ∀ (m : Nat) (nU oB pA pI pF sE aN lA cH bF bN dM : Nat → Int32) (num obj par dd : Nat → Nat), xs_rep nU oB pA m num obj par → df_out (gt_r rT w) (gf_f rF w) (gT tH w) (gW kD w (-1)) m num obj par →
      dd 0 = 0 → rp_a dM dd m → (∀ x, 1 ≤ x → x < m → Id_m (ne_e (gt_r rT w) (gf_f rF w) m obj) x (dd x)) → post ((nI m), fO, fC, fX, fP, tH, kD, sZ, rF, rT, nU, oB, pA, pI, pF, sE, aN, lA, dM, bF, bN, rE, cH, dE, qU, lO, oR, oP, nF, cO, iL, rP)) :
    wpX_findDominators post (fM, fO, fC, fX, fP, tH, kD, sZ, rF, rT, nU, oB, pA, pI, pF, sE, aN, lA, dM, bF, bN, rE, cH, dE, qU, lO, oR, oP, nF, cO, iL, rP) (nI w) := by
  unfold wpX_findDominators
  refine xs_search hw ok fun m nU oB pA pI pF num obj par hr hd => ⟨m + 1, ?_⟩
  have hm := df_m25 hd.1
  refine x_fd8 hw hm hd.1.1 (df_tr hd.2.1) (fun k a b => ⟨(hd.1.2.1 k a b).1, hr.2.1 k a b⟩) hr.2.2 (fun sE aN lA cH bF bN dM dd a b c => K m nU oB pA pI pF sE aN lA cH bF bN dM num obj par dd hr hd a b c) (m + 1) 0 sE aN lA bF (by omega) (by omega) (fun x hx => by omega)
end
end
section
/-! X: findRetained -/
noncomputable def pc_v (p : Prop) (x : Int32) : Int32 := @ite Int32 p (Classical.propDecidable p) x 0
theorem pc_t {p : Prop} {x : Int32} (h : p) : pc_v p x = x := by unfold pc_v; exact if_pos h
theorem pc_n {p : Prop} {x : Int32} (h : ¬ p) : pc_v p x = 0 := by unfold pc_v; exact if_neg h
theorem pc_c {p q : Prop} {x : Int32} (h : p ↔ q) : pc_v p x = pc_v q x := by
  rw [propext h]
theorem pc_or {p q : Prop} {x : Int32} (h : ¬ (p ∧ q)) : pc_v (p ∨ q) x = pc_v p x + pc_v q x := by
  by_cases a : p
  · rw [pc_t (Or.inl a), pc_t a, pc_n fun b => h ⟨a, b⟩, Int32.add_zero]
  · by_cases b : q
    · rw [pc_t (Or.inr b), pc_n a, pc_t b, Int32.zero_add]
    · rw [pc_n fun z => z.elim a b, pc_n a, pc_n b, Int32.add_zero]
theorem si_shift (f : Nat → Int32) : ∀ n, si_s f (n + 1) = f 0 + si_s (fun k => f (k + 1)) n
  | 0 => by
    show 0 + f 0 = f 0 + 0
    rw [Int32.add_zero, Int32.zero_add]
  | n + 1 => by
    show si_s f (n + 1) + f (n + 1) = f 0 + (si_s (fun k => f (k + 1)) n + f (n + 1))
    rw [si_shift f n, Int32.add_assoc]
/-- whose weight has come to x when numbers above k are done -/
def rt_P (dd : Nat → Nat) (m k x y : Nat) : Prop := x = y ∨ ∃ c, k < c ∧ c < m ∧ dd c = x ∧ An_c dd c y
theorem rt_kk {dd : Nat → Nat} {m k y : Nat} (hD : Dn_p dd m) (hy : y < m) : rt_P dd m k k y ↔ An_c dd k y := by
  constructor
  · rintro (h | ⟨c, c1, c2, c3, c4⟩)
    · subst h; exact an_rf k
    · rw [← c3]; exact an_tr (an_par c) c4
  · intro h
    have hle := an_le hD hy h
    by_cases d : k = y
    · exact Or.inl d
    · obtain ⟨c, c1, c2, c3⟩ := Ld_child hD y hy h (by omega)
      have h1 := an_le hD hy c3
      have h2 := hD.2 c c1 (by omega)
      exact Or.inr ⟨c, by omega, by omega, c2, c3⟩
theorem rt_0 {dd : Nat → Nat} {m x y : Nat} (hD : Dn_p dd m) (hy : y < m) : rt_P dd m 0 x y ↔ An_c dd x y := by
  constructor
  · rintro (h | ⟨c, c1, c2, c3, c4⟩)
    · subst h; exact an_rf x
    · rw [← c3]; exact an_tr (an_par c) c4
  · intro h
    have hle := an_le hD hy h
    by_cases d : x = y
    · exact Or.inl d
    · obtain ⟨c, c1, c2, c3⟩ := Ld_child hD y hy h (by omega)
      have h1 := an_le hD hy c3
      exact Or.inr ⟨c, by omega, by omega, c2, c3⟩
theorem rt_m {dd : Nat → Nat} {m x y : Nat} (hm : 1 ≤ m) : rt_P dd m (m - 1) x y ↔ x = y :=
  ⟨fun h => h.elim id fun ⟨c, c1, c2, _⟩ => by omega, Or.inl⟩
theorem rt_ne {dd : Nat → Nat} {m k x y : Nat} (h : x ≠ dd (k + 1)) : rt_P dd m k x y ↔ rt_P dd m (k + 1) x y := by
  constructor
  · rintro (g | ⟨c, c1, c2, c3, c4⟩)
    · exact Or.inl g
    · have : c ≠ k + 1 := fun z => by subst z; exact h c3.symm
      exact Or.inr ⟨c, by omega, c2, c3, c4⟩
  · rintro (g | ⟨c, c1, c2, c3, c4⟩)
    · exact Or.inl g
    · exact Or.inr ⟨c, by omega, c2, c3, c4⟩
theorem rt_eq {dd : Nat → Nat} {m k y : Nat} (hk : k + 1 < m) : rt_P dd m k (dd (k + 1)) y ↔ (rt_P dd m (k + 1) (dd (k + 1)) y ∨ An_c dd (k + 1) y) := by
  constructor
  · rintro (g | ⟨c, c1, c2, c3, c4⟩)
    · exact Or.inl (Or.inl g)
    · by_cases d : c = k + 1
      · subst d; exact Or.inr c4
      · exact Or.inl (Or.inr ⟨c, by omega, c2, c3, c4⟩)
  · rintro ((g | ⟨c, c1, c2, c3, c4⟩) | g)
    · exact Or.inl g
    · exact Or.inr ⟨c, by omega, c2, c3, c4⟩
    · exact Or.inr ⟨k + 1, by omega, hk, rfl, g⟩
theorem rt_dis {dd : Nat → Nat} {m k y : Nat} (hD : Dn_p dd m) (hk : k + 1 < m) (hy : y < m) : ¬ (rt_P dd m (k + 1) (dd (k + 1)) y ∧ An_c dd (k + 1) y) := by
  have hd := hD.2 (k + 1) (by omega) hk
  rintro ⟨g | ⟨c, c1, c2, c3, c4⟩, h⟩
  · have := an_le hD hy h
    omega
  · have hc := hD.2 c (by omega) c2
    have := an_lin_le hD hy h c4 (by omega)
    rcases an_cases this with q | q
    · omega
    · rw [c3] at q
      have := an_le hD (b := dd (k + 1)) (by omega) q
      omega
section
variable {fM fO fC fX fP : Int32} {tH kD sZ rF rT nU oB pA pI pF sE aN lA dM bF bN rE cH dE qU lO oR oP nF cO iL rP : Nat → Int32}
theorem x_fr58 {post : SX → Prop} {dd : Nat → Nat} {g : Nat → Int32} {m : Nat} (hD : Dn_p dd m) (hm : m ≤ 25) (hd : rp_a dM dd m)
    (K : ∀ rE : Nat → Int32, (∀ x, x < m → rE x = si_s (fun y => pc_v (An_c dd x y) (g y)) m) → post (fM, fO, fC, fX, fP, tH, kD, sZ, rF, rT, nU, oB, pA, pI, pF, sE, aN, lA, dM, bF, bN, rE, cH, dE, qU, lO, oR, oP, nF, cO, iL, rP)) :
    ∀ (k n : Nat) (rE : Nat → Int32), k < n → k < m → (∀ x, x < m → rE x = si_s (fun y => pc_v (rt_P dd m k x y) (g y)) m) → wX_findRetained_58 post fM fO fC fX fP n (nI k) tH kD sZ rF rT nU oB pA pI pF sE aN lA dM bF bN rE cH dE qU lO oR oP nF cO iL rP := by
  intro k
  induction k with
  | zero =>
    intro n rE h0 h1 h2
    obtain ⟨n, rfl⟩ : ∃ k, n = k + 1 := ⟨n - 1, by omega⟩
    rw [wX_findRetained_58]
    refine br_t (nI_lt (a := 0) (b := 1) (by omega) (by omega)) (K rE fun x hx => ?_)
    rw [h2 x hx]
    exact si_congr fun y hy => pc_c (rt_0 hD hy)
  | succ k ih =>
    intro n rE h0 h1 h2
    obtain ⟨n, rfl⟩ : ∃ k, n = k + 1 := ⟨n - 1, by omega⟩
    have ek : (nI (k + 1)).toNatClampNeg = k + 1 := nI_clamp (by omega)
    have vk : vp_in (nI (k + 1)) 25 := vp_in_nI (by omega) (by omega)
    have hdk := hD.2 (k + 1) (by omega) h1
    have ed : (nI (dd (k + 1))).toNatClampNeg = dd (k + 1) := nI_clamp (by omega)
    have vd : vp_in (nI (dd (k + 1))) 25 := vp_in_nI (by omega) (by omega)
    rw [wX_findRetained_58]
    refine br_f (nI_nlt (b := 1) (by omega) (by omega)) ⟨vk, nm_r (e' := nI (dd (k + 1))) (by rw [ek]; exact hd (k + 1) h1) ⟨vd, vk, vd, nm_r (e' := upd rE (dd (k + 1)) (rE (dd (k + 1)) + rE (k + 1))) (by rw [ed, ek]) (nm_r (pk_m1 k) ?_)⟩⟩
    refine ih n _ (by omega) (by omega) fun x hx => ?_
    by_cases c : x = dd (k + 1)
    · subst c
      rw [pk_us, h2 _ hx, h2 (k + 1) h1, ← si_add]
      refine si_congr fun y hy => ?_
      rw [pc_c (rt_kk hD hy), pc_c (rt_eq h1), pc_or (rt_dis hD h1 hy)]
    · rw [pk_un c, h2 x hx]
      exact si_congr fun y _ => (pc_c (rt_ne c)).symm
theorem si_dirac {g : Nat → Int32} {x : Nat} : ∀ {m : Nat}, x < m → si_s (fun y => pc_v (x = y) (g y)) m = g x
  | 0, h => absurd h (Nat.not_lt_zero x)
  | m + 1, h => by
    refine (si_one (f := fun _ => 0) (j := x) (fun i _ hne => ?_) h rfl).trans ?_
    · exact pc_n fun z => hne z.symm
    · rw [si_zero, pc_t rfl, Int32.zero_add]
theorem x_fr7 {post : SX → Prop} {obj dd : Nat → Nat} {w m : Nat} (hw : w < 3) (hD : Dn_p dd m) (hm : m ≤ 25) (hm1 : 1 ≤ m) (hd : rp_a dM dd m) (ho : ∀ k, 1 ≤ k → k < m → obj k < 24 ∧ oB k = nI (obj k))
    (K : ∀ rE : Nat → Int32, (∀ x, x < m → rE x = si_s (fun y => pc_v (An_c dd x y) (if y = 0 then 0 else sZ (24 * w + obj y))) m) → post ((nI m), fO, fC, fX, fP, tH, kD, sZ, rF, rT, nU, oB, pA, pI, pF, sE, aN, lA, dM, bF, bN, rE, cH, dE, qU, lO, oR, oP, nF, cO, iL, rP)) :
    ∀ (n v : Nat) (rE : Nat → Int32), m < n + v → v ≤ m → (∀ x, x < v → rE x = if x = 0 then 0 else sZ (24 * w + obj x)) → wX_findRetained_7 post (nI w) (nI m) fO fC fX fP n (nI v) tH kD sZ rF rT nU oB pA pI pF sE aN lA dM bF bN rE cH dE qU lO oR oP nF cO iL rP := by
  intro n
  induction n with
  | zero => intro v rE h1 h2; omega
  | succ n ih =>
    intro v rE h1 h2 h3
    rw [wX_findRetained_7]
    by_cases c : v = m
    · subst c
      refine br_t (nI_le (Nat.le_refl v) (by omega)) (nm_r (ix_dec hm1) ⟨v, ?_⟩)
      refine x_fr58 hD hm hd K (v - 1) v rE (by omega) (by omega) fun x hx => ?_
      rw [h3 x hx]
      refine Eq.trans ?_ (si_congr fun y _ => (pc_c (rt_m hm1)).symm)
      exact (si_dirac (g := fun y => if y = 0 then 0 else sZ (24 * w + obj y)) hx).symm
    · have ev : (nI v).toNatClampNeg = v := nI_clamp (by omega)
      have vv : vp_in (nI v) 25 := vp_in_nI (by omega) (by omega)
      refine br_f (nI_ge (by omega) (by omega)) ?_
      have nxt : ∀ z, z = (if v = 0 then 0 else sZ (24 * w + obj v)) → wX_findRetained_7 post (nI w) (nI m) fO fC fX fP n (nI (v + 1)) tH kD sZ rF rT nU oB pA pI pF sE aN lA dM bF bN (upd rE v z) cH dE qU lO oR oP nF cO iL rP := by
        intro z hz
        refine ih (v + 1) _ (by omega) (by omega) fun x hx => ?_
        by_cases d : x = v
        · subst d; rw [pk_us]; exact hz
        · rw [pk_un d]; exact h3 x (by omega)
      by_cases d : v = 0
      · refine br_t (by rw [d]; rfl) ⟨vv, nm_r (e' := upd rE v 0) (by rw [ev]) (nm_r (nI_1 v) (nxt 0 (by rw [if_pos d])))⟩
      · obtain ⟨o1, o2⟩ := ho v (by omega) (by omega)
        refine br_f (nI_ne0 (by omega) (by omega)) ⟨vv, ?_⟩
        rw [ev, o2, ix_o, nI_clamp (by omega)]
        exact ⟨vp_in_nI (by omega) (by omega), vv, nm_e (nm_r (nI_1 v) (nxt _ (by rw [if_neg d])))⟩
end
/-- numbers and objects: reachable without one -/
theorem nb_iff {tH rF rT : Nat → Int32} {w : Nat} {W : Nat → Prop} {m : Nat} {num obj par : Nat → Nat} (hW : ∀ b, ¬ W b) (h : df_out (gt_r rT w) (gf_f rF w) (gT tH w) W m num obj par) {v y : Nat} (hv1 : 1 ≤ v) (hv : v < m) (hy1 : 1 ≤ y) (hy : y < m) :
    Ra_z (ne_e (gt_r rT w) (gf_f rF w) m obj) v y ↔ Rc_h (gR rT w) (gE tH rF w) (fun q => q = obj v) (obj y) := by
  obtain ⟨⟨n0, n1, n2⟩, ht, hc⟩ := h
  constructor
  · intro hr
    have : 1 ≤ y ∧ Rc_h (gR rT w) (gE tH rF w) (fun q => q = obj v) (obj y) := by
      refine hr (fun q => 1 ≤ q ∧ Rc_h (gR rT w) (gE tH rF w) (fun q => q = obj v) (obj q)) (fun b hb hne => ?_) (fun a b ha he hne => ?_)
      · obtain ⟨_, b1, b2, i, b3, b4⟩ := hb
        obtain ⟨o1, o2, o3, o4⟩ := n1 b b1 b2
        unfold df_sl at b4
        rw [if_pos rfl] at b4
        refine ⟨b1, rc_root ⟨o1, i, b3, b4⟩ fun z => hne ?_⟩
        rw [← o2, z]; exact (n1 v hv1 hv).2.1
      · obtain ⟨a2, b1, b2, i, b3, b4⟩ := he
        obtain ⟨o1, o2, o3, o4⟩ := n1 b b1 b2
        obtain ⟨p1, p2, p3, p4⟩ := n1 a ha.1 a2
        unfold df_sl at b4
        rw [if_neg (by have := ha.1; omega)] at b4
        refine ⟨b1, rc_step ha.2 ⟨p1, p3, o1, i, b3, b4⟩ fun z => hne ?_⟩
        rw [← o2, z]; exact (n1 v hv1 hv).2.1
    exact this.2
  · intro hr
    have : obj y < 24 ∧ num (obj y) ≠ 0 ∧ Ra_z (ne_e (gt_r rT w) (gf_f rF w) m obj) v (num (obj y)) := by
      refine hr (fun o => o < 24 ∧ num o ≠ 0 ∧ Ra_z (ne_e (gt_r rT w) (gf_f rF w) m obj) v (num o)) (fun b hb hne => ?_) (fun a b ha he hne => ?_)
      · obtain ⟨b1, i, b3, b4⟩ := hb
        have hs : df_sl (gt_r rT w) (gf_f rF w) obj 0 i = nI b := by unfold df_sl; rw [if_pos rfl]; exact b4
        have hn := hc 0 i b (by omega) b3 b1 hs (hW b)
        obtain ⟨k1, k2⟩ := n2 b b1
        refine ⟨b1, hn, rc_root ⟨by omega, by omega, k1, i, b3, by rw [k2 hn]; exact hs⟩ fun z => hne ?_⟩
        rw [← z, k2 hn]
      · obtain ⟨a1, a2, b1, i, b3, b4⟩ := he
        obtain ⟨_, ha2, ha3⟩ := ha
        obtain ⟨j1, j2⟩ := n2 a a1
        have hs : df_sl (gt_r rT w) (gf_f rF w) obj (num a) i = nI b := by unfold df_sl; rw [if_neg ha2, j2 ha2]; exact b4
        have hn := hc (num a) i b j1 b3 b1 hs (hW b)
        obtain ⟨k1, k2⟩ := n2 b b1
        refine ⟨b1, hn, rc_step ha3 ⟨j1, by omega, k1, i, b3, by rw [k2 hn]; exact hs⟩ fun z => hne ?_⟩
        rw [← z, k2 hn]
    have e := (n1 y hy1 hy).2.1
    rw [e] at this
    exact this.2.2
theorem gW_m1 {kD : Nat → Int32} {w : Nat} : ∀ b, ¬ gW kD w (-1) b := fun _ h => h.1 rfl
theorem gW_A {tH kD rF rT : Nat → Int32} {w o : Nat} : Rc_h (gR rT w) (gE tH rF w) (gW kD w (-1)) o ↔ gA tH rF rT w o :=
  ⟨fun h => rc_sub h fun _ z => z.elim, fun h => rc_sub h fun b z => gW_m1 b z⟩
/-- numbered is alive -/
theorem df_A {tH kD rF rT : Nat → Int32} {w m : Nat} {num obj par : Nat → Nat} (h : df_out (gt_r rT w) (gf_f rF w) (gT tH w) (gW kD w (-1)) m num obj par) {o : Nat} (ho : o < 24) : num o ≠ 0 ↔ gA tH rF rT w o := (df_rch h ho).trans gW_A
section
variable {fM fO fC fX fP : Int32} {tH kD sZ rF rT nU oB pA pI pF sE aN lA dM bF bN rE cH dE qU lO oR oP nF cO iL rP : Nat → Int32}
/-- what each number retains: the sum over what it keeps -/
theorem x_findRet {post : SX → Prop} {w : Nat} (hw : w < 3) (ok : gOk tH rF rT w)
    (K : ∀ (m : Nat) (nU oB pA pI pF sE aN lA cH bF bN dM rE : Nat → Int32) (num obj par : Nat → Nat), xs_rep nU oB pA m num obj par → df_out (gt_r rT w) (gf_f rF w) (gT tH w) (gW kD w (-1)) m num obj par →
      (∀ o, o < 24 → num o ≠ 0 → rE (num o) = si_s (fun x => pc_v (gK tH rF rT w o x) (sZ (24 * w + x))) 24) → post ((nI m), fO, fC, fX, fP, tH, kD, sZ, rF, rT, nU, oB, pA, pI, pF, sE, aN, lA, dM, bF, bN, rE, cH, dE, qU, lO, oR, oP, nF, cO, iL, rP)) :
    wpX_findRetained post (fM, fO, fC, fX, fP, tH, kD, sZ, rF, rT, nU, oB, pA, pI, pF, sE, aN, lA, dM, bF, bN, rE, cH, dE, qU, lO, oR, oP, nF, cO, iL, rP) (nI w) := by
  unfold wpX_findRetained
  refine x_findDom hw ok fun m nU oB pA pI pF sE aN lA cH bF bN dM num obj par dd hr hd h0 h1 h2 => ⟨m + 1, ?_⟩
  have hm := df_m25 hd.1
  have hD : Dn_p dd m := ⟨h0, fun k a b => (h2 k a b).1⟩
  refine x_fr7 hw hD hm hd.1.1 h1 (fun k a b => ⟨(hd.1.2.1 k a b).1, hr.2.1 k a b⟩) (fun rE hrE => K m nU oB pA pI pF sE aN lA cH bF bN dM rE num obj par hr hd fun o ho hn => ?_) (m + 1) 0 rE (by omega) (by omega) (fun x hx => by omega)
  obtain ⟨k1, k2⟩ := hd.1.2.2 o ho
  rw [hrE (num o) k1]
  obtain ⟨M, rfl⟩ : ∃ M, m = M + 1 := ⟨m - 1, by have := hd.1.1; omega⟩
  rw [si_shift]
  have e0 : pc_v (An_c dd (num o) 0) (if 0 = 0 then 0 else sZ (24 * w + obj 0)) = 0 := by
    rw [if_pos rfl]
    by_cases c : An_c dd (num o) 0
    · rw [pc_t c]
    · rw [pc_n c]
  rw [e0, Int32.zero_add]
  have e1 : ∀ k, k < M → pc_v (An_c dd (num o) (k + 1)) (if k + 1 = 0 then 0 else sZ (24 * w + obj (k + 1))) = (fun x => pc_v (gK tH rF rT w o x) (sZ (24 * w + x))) (obj (k + 1)) := by
    intro k hk
    rw [if_neg (by omega)]
    refine pc_c ?_
    obtain ⟨o1, o2, o3, o4⟩ := hd.1.2.1 (k + 1) (by omega) (by omega)
    rw [sd_chain h0 h2 (a := num o) (by omega) (k + 1) (by omega) (by omega), nb_iff gW_m1 hd (by omega) k1 (by omega) (by omega), k2 hn]
    exact ⟨fun h => ⟨(df_A hd o1).1 (by omega), h⟩, fun h => h.2⟩
  rw [si_congr e1]
  have e2 := df_sum hd.1 (fun x => pc_v (gK tH rF rT w o x) (sZ (24 * w + x)))
  rw [Nat.add_sub_cancel] at e2
  rw [e2]
  refine si_congr fun x hx => ?_
  by_cases c : num x ≠ 0
  · rw [if_pos c]
  · rw [if_neg c]
    exact (pc_n fun z => c ((df_A hd hx).2 z.1)).symm
end
end
section
/-! pure: rings (strongly connected sets) by one search with a pile -/
/-- reachable, by no step or more -/
def Rr_s (E : Nat → Nat → Prop) (a b : Nat) : Prop := ∀ S : Nat → Prop, S a → (∀ x y, S x → E x y → S y) → S b
/-- by one step or more -/
def Tc_s (E : Nat → Nat → Prop) (a b : Nat) : Prop := Rc_h (fun x => E a x) E (fun _ => False) b
section
variable {E : Nat → Nat → Prop}
theorem rr_rf (a : Nat) : Rr_s E a a := fun _ h _ => h
theorem rr_tr {a b c : Nat} (h : Rr_s E a b) (g : Rr_s E b c) : Rr_s E a c := fun S ha hs => g S (h S ha hs) hs
theorem rr_e {a b : Nat} (h : E a b) : Rr_s E a b := fun _ ha hs => hs a b ha h
theorem rr_st {a b c : Nat} (h : Rr_s E a b) (g : E b c) : Rr_s E a c := rr_tr h (rr_e g)
theorem tc_rr {a b : Nat} (h : Tc_s E a b) : Rr_s E a b := rc_ind (S := fun y => Rr_s E a y) h (fun _ hb _ => rr_e hb) (fun _ _ _ ha he _ => rr_st ha he)
theorem tc_e {a b : Nat} (h : E a b) : Tc_s E a b := rc_root h id
theorem tc_st {a b c : Nat} (h : Tc_s E a b) (g : E b c) : Tc_s E a c := rc_step h g id
theorem tc_rr_tr {a b c : Nat} (h : Tc_s E a b) (g : Rr_s E b c) : Tc_s E a c := g (fun y => Tc_s E a y) h (fun _ _ hx he => tc_st hx he)
theorem rr_cases {a b : Nat} (h : Rr_s E a b) : a = b ∨ Tc_s E a b :=
  h (fun y => a = y ∨ Tc_s E a y) (Or.inl rfl) (fun x y hx he => Or.inr (hx.elim (fun z => tc_e (z ▸ he)) (fun z => tc_st z he)))
theorem e_rr_tc {a b c : Nat} (h : E a b) (g : Rr_s E b c) : Tc_s E a c := tc_rr_tr (tc_e h) g
theorem rr_tc_tr {a b c : Nat} (h : Rr_s E a b) (g : Tc_s E b c) : Tc_s E a c := by
  rcases rr_cases h with z | z
  · subst z; exact g
  · exact tc_rr_tr z (tc_rr g)
theorem tc_head {a b : Nat} (h : Tc_s E a b) : ∃ c, E a c ∧ Rr_s E c b :=
  rc_ind (S := fun y => ∃ c, E a c ∧ Rr_s E c y) h (fun b hb _ => ⟨b, hb, rr_rf b⟩) (fun x y _ ⟨c, c1, c2⟩ he _ => ⟨c, c1, rr_st c2 he⟩)
/-- in one ring -/
def Eq_s (E : Nat → Nat → Prop) (a b : Nat) : Prop := Tc_s E a b ∧ Tc_s E b a
theorem eq_sy {a b : Nat} (h : Eq_s E a b) : Eq_s E b a := ⟨h.2, h.1⟩
theorem eq_tr {a b c : Nat} (h : Eq_s E a b) (g : Eq_s E b c) : Eq_s E a c := ⟨tc_rr_tr h.1 (tc_rr g.1), tc_rr_tr g.2 (tc_rr h.2)⟩
theorem eq_len : ∀ {L M : List Nat}, List.Pairwise (fun x y => ¬ Eq_s E x y) L → (∀ r, r ∈ L → ∃ r', r' ∈ M ∧ Eq_s E r r') → L.length ≤ M.length
  | [], _, _, _ => Nat.zero_le _
  | r :: L, M, hp, hc => by
    rw [List.pairwise_cons] at hp
    obtain ⟨r', r1, r2⟩ := hc r List.mem_cons_self
    have ih := eq_len (L := L) (M := M.erase r') hp.2 (fun s hs => by
      obtain ⟨s', s1, s2⟩ := hc s (List.mem_cons_of_mem r hs)
      have hne : s' ≠ r' := fun z => hp.1 s hs (eq_tr r2 (eq_sy (z ▸ s2)))
      exact ⟨s', (List.mem_erase_of_ne hne).mpr s1, s2⟩)
    rw [List.length_erase_of_mem r1] at ih
    have : 0 < M.length := List.length_pos_of_mem r1
    rw [List.length_cons]
    omega
end
noncomputable def pc_b (p : Prop) : Bool := @decide p (Classical.propDecidable p)
theorem pb_iff {p : Prop} : pc_b p = true ↔ p := by unfold pc_b; exact @decide_eq_true_iff p (Classical.propDecidable p)
theorem pb_f {p : Prop} (h : ¬ p) : pc_b p = false := gx_f fun z => h (pb_iff.1 z)
/-- how many are in a ring with r -/
noncomputable def Sz_s (E : Nat → Nat → Prop) (r : Nat) : Nat := nn_c (fun a => pc_b (Eq_s E r a)) 24
/-- the rings of a set A: one of each, and the size of the greatest -/
def Rg_s (E : Nat → Nat → Prop) (A : Nat → Prop) (L : List Nat) (most : Nat) : Prop :=
  (∀ r, r ∈ L → A r ∧ Tc_s E r r) ∧ List.Pairwise (fun x y => ¬ Eq_s E x y) L ∧ (∀ x, A x → Tc_s E x x → ∃ r, r ∈ L ∧ Eq_s E x r) ∧
  (∀ r, r ∈ L → Sz_s E r ≤ most) ∧ (most = 0 ∨ ∃ r, r ∈ L ∧ Sz_s E r = most)
theorem sz_eq {E : Nat → Nat → Prop} {a b : Nat} (h : Eq_s E a b) : Sz_s E a = Sz_s E b :=
  nn_c_congr fun x _ => by
    rw [pb_iff, pb_iff]
    exact ⟨fun g => eq_tr (eq_sy h) g, fun g => eq_tr h g⟩
theorem rg_uniq {E : Nat → Nat → Prop} {A : Nat → Prop} {L M : List Nat} {p q : Nat} (h : Rg_s E A L p) (g : Rg_s E A M q) : L.length = M.length ∧ p = q := by
  have le : ∀ {L M : List Nat} {p q : Nat}, Rg_s E A L p → Rg_s E A M q → L.length ≤ M.length ∧ p ≤ q := by
    intro L M p q h g
    obtain ⟨h1, h2, h3, h4, h5⟩ := h
    obtain ⟨g1, g2, g3, g4, g5⟩ := g
    refine ⟨eq_len h2 fun r hr => g3 r (h1 r hr).1 (h1 r hr).2, ?_⟩
    rcases h5 with h5 | ⟨r, r1, r2⟩
    · omega
    · obtain ⟨s, s1, s2⟩ := g3 r (h1 r r1).1 (h1 r r1).2
      have := g4 s s1
      rw [← sz_eq s2] at this
      omega
  have a := le h g
  have b := le g h
  omega
/-! the search's state: od order, lw low, nf next field, op on the pile, lf left, rp the pile, qu the way, Rs rings found -/
/-- orders -/
def ta_o (cnt : Nat) (od : Nat → Nat) (op lf : Nat → Bool) : Prop :=
  cnt = nn_c (fun o => decide (od o ≠ 0)) 24 ∧ (∀ o, o < 24 → od o ≤ cnt) ∧ (∀ a b, a < 24 → b < 24 → od a = od b → od a ≠ 0 → a = b) ∧ (∀ o, o < 24 → op o = true → od o ≠ 0) ∧ (∀ o, o < 24 → op o = false → od o ≠ 0 → lf o = true) ∧ (∀ o, o < 24 → lf o = true → od o ≠ 0)
/-- the pile -/
def ta_p (RP : Nat) (rp od : Nat → Nat) (op : Nat → Bool) : Prop :=
  RP = nn_c op 24 ∧ (∀ i, i < RP → rp i < 24 ∧ op (rp i) = true) ∧ (∀ i j, i < j → j < RP → od (rp i) < od (rp j)) ∧ (∀ o, o < 24 → op o = true → ∃ i, i < RP ∧ rp i = o)
/-- the way -/
def ta_q (E : Nat → Nat → Prop) (d : Nat) (qu od : Nat → Nat) (op lf : Nat → Bool) : Prop :=
  (∀ i, i < d → qu i < 24 ∧ op (qu i) = true ∧ lf (qu i) = false) ∧ (∀ i j, i < j → j < d → od (qu i) < od (qu j)) ∧ (∀ i, i + 1 < d → E (qu i) (qu (i + 1))) ∧
  (∀ o, o < 24 → od o ≠ 0 → lf o = false → ∃ i, i < d ∧ qu i = o) ∧ (∀ i, i < d → i < od (qu i))
/-- what low says -/
def ta_l (E : Nat → Nat → Prop) (rf : Nat → Nat → Int32) (d : Nat) (qu od lw nf : Nat → Nat) (op lf : Nat → Bool) : Prop :=
  (∀ x, x < 24 → op x = true → lw x ≤ od x ∧ ∃ y, y < 24 ∧ op y = true ∧ od y = lw x ∧ Rr_s E x y) ∧
  (∀ x i y, x < 24 → op x = true → i < nf x → i < 4 → y < 24 → rf x i = nI y → (od y ≠ 0 ∧ op y = false) ∨ (op y = true ∧ lw x ≤ od y)) ∧
  (∀ x, x < 24 → op x = true → nf x ≤ 4) ∧
  (∀ x, x < 24 → op x = true → lf x = true → nf x = 4 ∧ lw x < od x ∧ ∀ i, i < d → od (qu i) < od x → (∀ j, j < d → i < j → od x < od (qu j)) → lw (qu i) ≤ lw x) ∧
  (∀ x i, x < 24 → op x = true → i < d → od (qu i) ≤ od x → Rr_s E (qu i) x) ∧
  (∀ x, x < 24 → op x = true → 0 < d ∧ od (qu 0) ≤ od x)
/-- what is done -/
def ta_d (E : Nat → Nat → Prop) (A : Nat → Prop) (od : Nat → Nat) (op : Nat → Bool) (Rs : List Nat) (most : Nat) : Prop :=
  (∀ o, o < 24 → od o ≠ 0 → A o) ∧ (∀ a b, a < 24 → od a ≠ 0 → op a = false → E a b → od b ≠ 0 ∧ op b = false) ∧
  Rg_s E (fun x => x < 24 ∧ od x ≠ 0 ∧ op x = false) Rs most
/-- what is still to do -/
def ta_m (od nf : Nat → Nat) (lf : Nat → Bool) : Nat := sn_s (fun x => if od x = 0 then 5 else if lf x = true then 0 else 5 - nf x) 24
def ta_I (E : Nat → Nat → Prop) (A : Nat → Prop) (rf : Nat → Nat → Int32) (cnt d RP : Nat) (od lw nf rp qu : Nat → Nat) (op lf : Nat → Bool) (Rs : List Nat) (most : Nat) : Prop :=
  ta_o cnt od op lf ∧ ta_p RP rp od op ∧ ta_q E d qu od op lf ∧ ta_l E rf d qu od lw nf op lf ∧ ta_d E A od op Rs most
def pz_ub (f : Nat → Bool) (k : Nat) (x : Bool) : Nat → Bool := fun i => if i = k then x else f i
theorem pz_ubs {f : Nat → Bool} {k : Nat} {x : Bool} : pz_ub f k x k = x := if_pos rfl
theorem pz_ubd {f : Nat → Bool} {k i : Nat} {x : Bool} (h : i ≠ k) : pz_ub f k x i = f i := if_neg h
section
variable {E : Nat → Nat → Prop} {A : Nat → Prop} {rf : Nat → Nat → Int32} {cnt d RP most : Nat} {od lw nf rp qu : Nat → Nat} {op lf : Nat → Bool} {Rs : List Nat}
/-- the next field of the way's end is looked at; perhaps low falls -/
theorem ta_look {l : Nat} (hd : 0 < d) (h : ta_I E A rf cnt d RP od lw nf rp qu op lf Rs most) (hn : nf (qu (d - 1)) < 4)
    (hl : (l = lw (qu (d - 1)) ∧ ∀ y, y < 24 → rf (qu (d - 1)) (nf (qu (d - 1))) = nI y → (od y ≠ 0 ∧ op y = false) ∨ (op y = true ∧ lw (qu (d - 1)) ≤ od y)) ∨
      ∃ p, p < 24 ∧ op p = true ∧ rf (qu (d - 1)) (nf (qu (d - 1))) = nI p ∧ E (qu (d - 1)) p ∧ ((l = lw (qu (d - 1)) ∧ l ≤ od p) ∨ (l = od p ∧ l < lw (qu (d - 1))))) :
    ta_I E A rf cnt d RP od (pz_un lw (qu (d - 1)) l) (pz_un nf (qu (d - 1)) (nf (qu (d - 1)) + 1)) rp qu op lf Rs most := by
  obtain ⟨h1, h2, h3, ⟨l1, l2, l3, l4, l5, l6⟩, h5⟩ := h
  obtain ⟨q1, q2, q3⟩ := h3.1 (d - 1) (by omega)
  have hle : l ≤ lw (qu (d - 1)) := by
    rcases hl with ⟨hl, _⟩ | ⟨p, _, _, _, _, hl⟩ <;> omega
  have hlw : ∀ x, pz_un lw (qu (d - 1)) l x ≤ lw x := fun x => by
    by_cases c : x = qu (d - 1)
    · subst c; rw [pz_us]; exact hle
    · rw [pz_ud c]; exact Nat.le_refl _
  refine ⟨h1, h2, h3, ⟨fun x hx ho => ?_, fun x i y hx ho hi hi4 hy hf => ?_, fun x hx ho => ?_, fun x hx ho hlf => ?_, l5, l6⟩, h5⟩
  · obtain ⟨a1, y, a2, a3, a4, a5⟩ := l1 x hx ho
    refine ⟨Nat.le_trans (hlw x) a1, ?_⟩
    by_cases c : x = qu (d - 1)
    · subst c
      rw [pz_us]
      rcases hl with ⟨hl, _⟩ | ⟨p, p1, p2, p3, p4, ⟨hl, _⟩ | ⟨hl, _⟩⟩
      · rw [hl]; exact ⟨y, a2, a3, a4, a5⟩
      · rw [hl]; exact ⟨y, a2, a3, a4, a5⟩
      · rw [hl]; exact ⟨p, p1, p2, rfl, rr_e p4⟩
    · rw [pz_ud c]; exact ⟨y, a2, a3, a4, a5⟩
  · by_cases c : x = qu (d - 1)
    · subst c
      rw [pz_us] at hi
      by_cases g : i = nf (qu (d - 1))
      · subst g
        rw [pz_us]
        rcases hl with ⟨hl, hl2⟩ | ⟨p, p1, p2, p3, p4, hl⟩
        · rw [hl]; exact hl2 y hy hf
        · rw [p3] at hf
          have : p = y := (nI_eq (by omega) (by omega)).mp hf
          subst this
          exact Or.inr ⟨p2, by omega⟩
      · rcases l2 (qu (d - 1)) i y hx ho (by omega) hi4 hy hf with k | ⟨k1, k2⟩
        · exact Or.inl k
        · exact Or.inr ⟨k1, Nat.le_trans (hlw _) k2⟩
    · rw [pz_ud c] at hi
      rcases l2 x i y hx ho hi hi4 hy hf with k | ⟨k1, k2⟩
      · exact Or.inl k
      · exact Or.inr ⟨k1, Nat.le_trans (hlw _) k2⟩
  · by_cases c : x = qu (d - 1)
    · subst c; rw [pz_us]; omega
    · rw [pz_ud c]; exact l3 x hx ho
  · have c : x ≠ qu (d - 1) := fun z => by rw [z, q3] at hlf; exact nomatch hlf
    obtain ⟨a1, a2, a3⟩ := l4 x hx ho hlf
    rw [pz_ud c, pz_ud c]
    exact ⟨a1, a2, fun i hi b1 b2 => Nat.le_trans (hlw _) (a3 i hi b1 b2)⟩
/-- what is to do falls by a look -/
theorem ta_m_look {x : Nat} (hx : x < 24) (ho : od x ≠ 0) (hl : lf x = false) (hn : nf x < 4) : ta_m od (pz_un nf x (nf x + 1)) lf + 1 = ta_m od nf lf := by
  have := sn_one (f := fun x => if od x = 0 then 5 else if lf x = true then 0 else 5 - nf x) (g := fun y => if od y = 0 then 5 else if lf y = true then 0 else 5 - pz_un nf x (nf x + 1) y) (j := x) (n := 24) (fun i _ hne => by rw [pz_ud hne]) hx
  rw [if_neg ho, if_neg (by rw [hl]; decide), if_neg ho, if_neg (by rw [hl]; decide), pz_us] at this
  unfold ta_m
  omega
/-- a new object is entered -/
theorem ta_enter {p : Nat} (h : ta_I E A rf cnt d RP od lw nf rp qu op lf Rs most) (hp : p < 24) (hw : od p = 0) (hA : A p) (h0 : d = 0 ∨ (0 < d ∧ E (qu (d - 1)) p)) :
    ta_I E A rf (cnt + 1) (d + 1) (RP + 1) (pz_un od p (cnt + 1)) (pz_un lw p (cnt + 1)) (pz_un nf p 0) (pz_un rp RP p) (pz_un qu d p) (pz_ub op p true) lf Rs most := by
  obtain ⟨⟨o1, o2, o3, o4, o5, o6⟩, ⟨p1, p2, p3, p4⟩, ⟨q1, q2, q3, q4, q5⟩, ⟨l1, l2, l3, l4, l5, l6⟩, ⟨d1, d2, d3⟩⟩ := h
  have hop : op p = false := gx_f fun z => o4 p hp z hw
  have hlf : lf p = false := gx_f fun z => o6 p hp z hw
  have od' : ∀ o, o ≠ p → pz_un od p (cnt + 1) o = od o := fun o ho => pz_ud ho
  have odp : pz_un od p (cnt + 1) p = cnt + 1 := pz_us
  have hne : ∀ x, x < 24 → op x = true → x ≠ p := fun x _ ho z => by rw [z, hop] at ho; exact nomatch ho
  have quo : ∀ i, i < d → pz_un qu d p i = qu i := fun i hi => pz_ud (by omega)
  have qup : pz_un qu d p d = p := pz_us
  have hqn : ∀ i, i < d → qu i ≠ p := fun i hi => hne _ (q1 i hi).1 (q1 i hi).2.1
  have hrn : ∀ i, i < RP → rp i ≠ p := fun i hi => hne _ (p2 i hi).1 (p2 i hi).2
  have hcd : d ≤ cnt := by
    by_cases c : d = 0
    · omega
    · have := q5 (d - 1) (by omega)
      have := o2 (qu (d - 1)) (q1 (d - 1) (by omega)).1
      omega
  refine ⟨⟨?_, fun o ho => ?_, fun a b ha hb e hz => ?_, fun o ho e => ?_, fun o ho e hz => ?_, fun o ho e => ?_⟩, ⟨?_, fun i hi => ?_, fun i j hij hj => ?_, fun o ho e => ?_⟩, ⟨fun i hi => ?_, fun i j hij hj => ?_, fun i hi => ?_, fun o ho hz e => ?_, fun i hi => ?_⟩, ⟨fun x hx ho => ?_, fun x i y hx ho hi hi4 hy hf => ?_, fun x hx ho => ?_, fun x hx ho e => ?_, fun x i hx ho hi hle => ?_, fun x hx ho => ?_⟩, ⟨fun o ho hz => ?_, fun a b ha hz hoa he => ?_, ?_⟩⟩
  · rw [nn_c_ins (p := fun o => decide (od o ≠ 0)) (j := p) (decide_eq_false (by omega)) (by rw [odp]; exact decide_eq_true (by omega)) (fun i _ hne' => by rw [od' i hne']) hp, ← o1]
  · by_cases c : o = p
    · subst c; rw [odp]; exact Nat.le_refl _
    · rw [od' o c]; have := o2 o ho; omega
  · by_cases c : a = p
    · by_cases c' : b = p
      · rw [c, c']
      · rw [c, odp, od' b c'] at e
        have := o2 b hb
        omega
    · by_cases c' : b = p
      · rw [c', odp, od' a c] at e
        have := o2 a ha
        omega
      · rw [od' a c, od' b c'] at e
        rw [od' a c] at hz
        exact o3 a b ha hb e hz
  · by_cases c : o = p
    · subst c; rw [odp]; omega
    · rw [pz_ubd c] at e; rw [od' o c]; exact o4 o ho e
  · by_cases c : o = p
    · subst c; rw [pz_ubs] at e; exact nomatch e
    · rw [pz_ubd c] at e; rw [od' o c] at hz; exact o5 o ho e hz
  · by_cases c : o = p
    · subst c; rw [odp]; omega
    · rw [od' o c]; exact o6 o ho e
  · rw [nn_c_ins (p := op) (j := p) hop pz_ubs (fun i _ hne' => (pz_ubd hne').symm) hp, ← p1]
  · by_cases c : i = RP
    · subst c; rw [pz_us]; exact ⟨hp, pz_ubs⟩
    · rw [pz_ud c]
      obtain ⟨a, b⟩ := p2 i (by omega)
      exact ⟨a, by rw [pz_ubd (hne _ a b)]; exact b⟩
  · have ci : i ≠ RP := by omega
    rw [pz_ud ci, od' _ (hrn i (by omega))]
    by_cases c : j = RP
    · subst c; rw [pz_us, odp]; have := o2 _ (p2 i hij).1; omega
    · rw [pz_ud c, od' _ (hrn j (by omega))]; exact p3 i j hij (by omega)
  · by_cases c : o = p
    · subst c; exact ⟨RP, by omega, pz_us⟩
    · rw [pz_ubd c] at e
      obtain ⟨i, i1, i2⟩ := p4 o ho e
      exact ⟨i, by omega, by rw [pz_ud (by omega)]; exact i2⟩
  · by_cases c : i = d
    · subst c; rw [qup]; exact ⟨hp, pz_ubs, hlf⟩
    · rw [quo i (by omega)]
      obtain ⟨a, b, e⟩ := q1 i (by omega)
      exact ⟨a, by rw [pz_ubd (hqn i (by omega))]; exact b, e⟩
  · rw [quo i (by omega), od' _ (hqn i (by omega))]
    by_cases c : j = d
    · subst c; rw [qup, odp]; have := o2 _ (q1 i hij).1; omega
    · rw [quo j (by omega), od' _ (hqn j (by omega))]; exact q2 i j hij (by omega)
  · rw [quo i (by omega)]
    by_cases c : i + 1 = d
    · rw [c, qup]
      rcases h0 with h0 | h0
      · omega
      · rw [show i = d - 1 by omega]; exact h0.2
    · rw [quo (i + 1) (by omega)]; exact q3 i (by omega)
  · by_cases c : o = p
    · subst c; exact ⟨d, by omega, qup⟩
    · rw [od' o c] at hz
      obtain ⟨i, i1, i2⟩ := q4 o ho hz e
      exact ⟨i, by omega, by rw [quo i i1]; exact i2⟩
  · by_cases c : i = d
    · subst c; rw [qup, odp]; omega
    · rw [quo i (by omega), od' _ (hqn i (by omega))]; exact q5 i (by omega)
  · by_cases c : x = p
    · subst c
      rw [pz_us, odp]
      exact ⟨Nat.le_refl _, x, hx, pz_ubs, odp, rr_rf x⟩
    · rw [pz_ubd c] at ho
      obtain ⟨a1, y, a2, a3, a4, a5⟩ := l1 x hx ho
      rw [pz_ud c, od' x c]
      have := hne y a2 a3
      exact ⟨a1, y, a2, by rw [pz_ubd this]; exact a3, by rw [od' y this]; exact a4, a5⟩
  · by_cases c : x = p
    · subst c; rw [pz_us] at hi; omega
    · rw [pz_ubd c] at ho
      rw [pz_ud c] at hi
      rw [pz_ud c]
      rcases l2 x i y hx ho hi hi4 hy hf with ⟨k1, k2⟩ | ⟨k1, k2⟩
      · have : y ≠ p := fun z => by rw [z] at k1; exact k1 hw
        rw [od' y this, pz_ubd this]; exact Or.inl ⟨k1, k2⟩
      · have := hne y hy k1
        rw [od' y this, pz_ubd this]; exact Or.inr ⟨k1, k2⟩
  · by_cases c : x = p
    · subst c; rw [pz_us]; omega
    · rw [pz_ubd c] at ho; rw [pz_ud c]; exact l3 x hx ho
  · have c : x ≠ p := fun z => by rw [z, hlf] at e; exact nomatch e
    rw [pz_ubd c] at ho
    obtain ⟨a1, a2, a3⟩ := l4 x hx ho e
    rw [pz_ud c, pz_ud c, od' x c]
    refine ⟨a1, a2, fun i hi b1 b2 => ?_⟩
    by_cases g : i = d
    · subst g
      rw [qup, odp] at b1
      have := o2 x hx
      omega
    · have hi' : i < d := by omega
      rw [quo i hi', od' _ (hqn i hi')] at b1
      rw [quo i hi', pz_ud (hqn i hi')]
      refine a3 i hi' b1 fun j hj hij => ?_
      have := b2 j (by omega) hij
      rw [quo j hj, od' _ (hqn j hj)] at this
      exact this
  · by_cases c : x = p
    · subst c
      by_cases g : i = d
      · subst g; rw [qup]; exact rr_rf x
      · rw [quo i (by omega)]
        rcases h0 with h0 | ⟨h0, h0'⟩
        · omega
        · refine rr_st (l5 (qu (d - 1)) i (q1 (d - 1) (by omega)).1 (q1 (d - 1) (by omega)).2.1 (by omega) ?_) h0'
          by_cases g' : i = d - 1
          · rw [g']; exact Nat.le_refl _
          · have := q2 i (d - 1) (by omega) (by omega); omega
    · rw [pz_ubd c] at ho
      rw [od' x c] at hle
      by_cases g : i = d
      · subst g
        rw [qup, odp] at hle
        have := o2 x hx
        omega
      · rw [quo i (by omega), od' _ (hqn i (by omega))] at hle
        rw [quo i (by omega)]
        exact l5 x i hx ho (by omega) hle
  · refine ⟨by omega, ?_⟩
    by_cases c : x = p
    · subst c
      rw [odp]
      by_cases g : d = 0
      · subst g; rw [qup, odp]; exact Nat.le_refl _
      · rw [quo 0 (by omega), od' _ (hqn 0 (by omega))]
        have := o2 _ (q1 0 (by omega)).1
        omega
    · rw [pz_ubd c] at ho
      obtain ⟨a, b⟩ := l6 x hx ho
      rw [quo 0 a, od' _ (hqn 0 a), od' x c]
      exact b
  · by_cases c : o = p
    · subst c; exact hA
    · rw [od' o c] at hz; exact d1 o ho hz
  · have c : a ≠ p := fun z => by rw [z, pz_ubs] at hoa; exact nomatch hoa
    rw [pz_ubd c] at hoa
    rw [od' a c] at hz
    obtain ⟨k1, k2⟩ := d2 a b ha hz hoa he
    have : b ≠ p := fun z => by rw [z] at k1; exact k1 hw
    rw [od' b this, pz_ubd this]
    exact ⟨k1, k2⟩
  · have e : (fun x => x < 24 ∧ pz_un od p (cnt + 1) x ≠ 0 ∧ pz_ub op p true x = false) = (fun x => x < 24 ∧ od x ≠ 0 ∧ op x = false) := by
      funext x
      by_cases c : x = p
      · subst c
        rw [odp, pz_ubs, hop]
        simp [hw]
      · rw [od' x c, pz_ubd c]
    rw [e]
    exact d3
theorem ta_m_enter {p : Nat} (hp : p < 24) (hw : od p = 0) (hlf : lf p = false) : ta_m (pz_un od p (cnt + 1)) (pz_un nf p 0) lf = ta_m od nf lf := by
  unfold ta_m
  refine sn_congr fun x _ => ?_
  by_cases c : x = p
  · subst c
    rw [pz_us, pz_us, if_neg (by omega), hlf, if_neg (by decide), if_pos hw]
  · rw [pz_ud c, pz_ud c]
end
end
section
/-! pure: leaving an object -/
theorem nn_c_split (p q : Nat → Bool) : ∀ n, nn_c p n = nn_c (fun i => p i && q i) n + nn_c (fun i => p i && !q i) n
  | 0 => rfl
  | n + 1 => by
    show nn_c p n + (if p n = true then 1 else 0) = nn_c (fun i => p i && q i) n + (if (p n && q n) = true then 1 else 0) + (nn_c (fun i => p i && !q i) n + (if (p n && !q n) = true then 1 else 0))
    rw [nn_c_split p q n]
    cases p n <;> cases q n <;> simp <;> omega
theorem nn_c_two {p : Nat → Bool} {n a b : Nat} (ha : a < n) (hb : b < n) (hab : a ≠ b) (pa : p a = true) (pb : p b = true) : 2 ≤ nn_c p n := by
  have h1 := nn_c_ins (p := pz_ub p a false) (q := p) (j := a) pz_ubs pa (fun i _ hne => pz_ubd hne) ha
  have h2 := nn_c_ne (p := pz_ub p a false) hb (by rw [pz_ubd fun z => hab z.symm]; exact pb)
  omega
section
variable {E : Nat → Nat → Prop} {A : Nat → Prop} {rf : Nat → Nat → Int32} {cnt d RP most : Nat} {od lw nf rp qu : Nat → Nat} {op lf : Nat → Bool} {Rs : List Nat}
/-- the way's end is left, and stays on the pile -/
theorem ta_leave0 (hd : 0 < d) (h : ta_I E A rf cnt d RP od lw nf rp qu op lf Rs most) (hn : nf (qu (d - 1)) = 4) (hlt : lw (qu (d - 1)) < od (qu (d - 1))) :
    2 ≤ d ∧ ∀ l, ((l = lw (qu (d - 2)) ∧ l ≤ lw (qu (d - 1))) ∨ (l = lw (qu (d - 1)) ∧ l < lw (qu (d - 2)))) →
      ta_I E A rf cnt (d - 1) RP od (pz_un lw (qu (d - 2)) l) nf rp qu op (pz_ub lf (qu (d - 1)) true) Rs most := by
  obtain ⟨⟨o1, o2, o3, o4, o5, o6⟩, h2, ⟨q1, q2, q3, q4, q5⟩, ⟨l1, l2, l3, l4, l5, l6⟩, h5⟩ := h
  obtain ⟨a1, a2, a3⟩ := q1 (d - 1) (by omega)
  have hd2 : 2 ≤ d := by
    obtain ⟨_, y, y1, y2, y3, _⟩ := l1 (qu (d - 1)) a1 a2
    have := (l6 y y1 y2).2
    refine Classical.byContradiction fun g => ?_
    have e : d - 1 = 0 := by omega
    rw [e] at hlt y3
    omega
  refine ⟨hd2, fun l hl => ?_⟩
  obtain ⟨b1, b2, b3⟩ := q1 (d - 2) (by omega)
  have hlt2 := q2 (d - 2) (d - 1) (by omega) (by omega)
  have hqe : E (qu (d - 2)) (qu (d - 1)) := by
    have := q3 (d - 2) (by omega)
    rw [show d - 2 + 1 = d - 1 by omega] at this
    exact this
  have hle : l ≤ lw (qu (d - 2)) := by omega
  have hle2 : l ≤ lw (qu (d - 1)) := by omega
  have hlw : ∀ x, pz_un lw (qu (d - 2)) l x ≤ lw x := fun x => by
    by_cases c : x = qu (d - 2)
    · subst c; rw [pz_us]; exact hle
    · rw [pz_ud c]; exact Nat.le_refl _
  have hne : qu (d - 1) ≠ qu (d - 2) := fun z => by rw [z] at hlt2; omega
  have hqn : ∀ i, i < d - 1 → qu i ≠ qu (d - 1) := fun i hi z => by
    have := q2 i (d - 1) hi (by omega)
    rw [z] at this; omega
  refine ⟨⟨o1, o2, o3, o4, fun o ho e hz => ?_, fun o ho e => ?_⟩, h2, ⟨fun i hi => ?_, fun i j hij hj => q2 i j hij (by omega), fun i hi => q3 i (by omega), fun o ho hz e => ?_, fun i hi => q5 i (by omega)⟩, ⟨fun x hx ho => ?_, fun x i y hx ho hi hi4 hy hf => ?_, l3, fun x hx ho e => ?_, fun x i hx ho hi hle => l5 x i hx ho (by omega) hle, fun x hx ho => ⟨by omega, (l6 x hx ho).2⟩⟩, h5⟩
  · by_cases c : o = qu (d - 1)
    · subst c; exact pz_ubs
    · rw [pz_ubd c]; exact o5 o ho e hz
  · by_cases c : o = qu (d - 1)
    · subst c; exact o4 _ ho a2
    · rw [pz_ubd c] at e; exact o6 o ho e
  · obtain ⟨k1, k2, k3⟩ := q1 i (by omega)
    exact ⟨k1, k2, by rw [pz_ubd (hqn i hi)]; exact k3⟩
  · have c : o ≠ qu (d - 1) := fun z => by rw [z, pz_ubs] at e; exact nomatch e
    rw [pz_ubd c] at e
    obtain ⟨i, i1, i2⟩ := q4 o ho hz e
    have : i ≠ d - 1 := fun z => by rw [z] at i2; exact c i2.symm
    exact ⟨i, by omega, i2⟩
  · obtain ⟨k1, y, k2, k3, k4, k5⟩ := l1 x hx ho
    refine ⟨Nat.le_trans (hlw x) k1, ?_⟩
    by_cases c : x = qu (d - 2)
    · subst c
      rw [pz_us]
      rcases hl with ⟨hl, _⟩ | ⟨hl, _⟩
      · rw [hl]; exact ⟨y, k2, k3, k4, k5⟩
      · rw [hl]
        obtain ⟨_, z, z1, z2, z3, z4⟩ := l1 (qu (d - 1)) a1 a2
        exact ⟨z, z1, z2, z3, rr_tr (rr_e hqe) z4⟩
    · rw [pz_ud c]; exact ⟨y, k2, k3, k4, k5⟩
  · rcases l2 x i y hx ho hi hi4 hy hf with k | ⟨k1, k2⟩
    · exact Or.inl k
    · exact Or.inr ⟨k1, Nat.le_trans (hlw _) k2⟩
  · by_cases c : x = qu (d - 1)
    · subst c
      rw [pz_ud hne]
      refine ⟨hn, hlt, fun i hi z1 z2 => ?_⟩
      by_cases g : i = d - 2
      · rw [g, pz_us]; exact hle2
      · have := z2 (d - 2) (by omega) (by omega)
        omega
    · rw [pz_ubd c] at e
      obtain ⟨k1, k2, k3⟩ := l4 x hx ho e
      have cx : x ≠ qu (d - 2) := fun z => by rw [z, b3] at e; exact nomatch e
      rw [pz_ud cx]
      refine ⟨k1, k2, fun i hi z1 z2 => ?_⟩
      by_cases g : od x < od (qu (d - 1))
      · refine Nat.le_trans (hlw _) (k3 i (by omega) z1 fun j hj hij => ?_)
        by_cases g' : j = d - 1
        · rw [g']; exact g
        · exact z2 j (by omega) hij
      · have hx2 : od (qu (d - 1)) < od x := by
          have : od x ≠ od (qu (d - 1)) := fun z => c (o3 x _ hx a1 z (o4 x hx ho))
          omega
        have key := k3 (d - 1) (by omega) hx2 (fun j hj hij => by omega)
        have gi : i = d - 2 := by
          refine Classical.byContradiction fun g' => ?_
          have := z2 (d - 2) (by omega) (by omega)
          omega
        rw [gi, pz_us]
        omega
theorem ta_m_leave {x : Nat} (hx : x < 24) (ho : od x ≠ 0) (hl : lf x = false) (hn : nf x = 4) : ta_m od nf (pz_ub lf x true) + 1 = ta_m od nf lf := by
  have := sn_one (f := fun x => if od x = 0 then 5 else if lf x = true then 0 else 5 - nf x) (g := fun y => if od y = 0 then 5 else if pz_ub lf x true y = true then 0 else 5 - nf y) (j := x) (n := 24) (fun i _ hne => by rw [pz_ubd hne]) hx
  rw [if_neg ho, if_neg (by rw [hl]; decide), if_neg ho, pz_ubs, if_pos rfl, hn] at this
  unfold ta_m
  omega
/-- what is on the pile from the way's end on is one set: all of it comes to the end -/
theorem ta_seg (hE : ∀ a b, E a b → a < 24 ∧ b < 24 ∧ ∃ i, i < 4 ∧ rf a i = nI b) (hd : 0 < d) (h : ta_I E A rf cnt d RP od lw nf rp qu op lf Rs most) (hn : nf (qu (d - 1)) = 4) (heq : lw (qu (d - 1)) = od (qu (d - 1))) :
    (∀ x, x < 24 → op x = true → od (qu (d - 1)) ≤ od x → Rr_s E (qu (d - 1)) x ∧ Rr_s E x (qu (d - 1))) ∧
    (∀ x y, x < 24 → op x = true → od (qu (d - 1)) ≤ od x → E x y → (y < 24 ∧ op y = true ∧ od (qu (d - 1)) ≤ od y) ∨ (od y ≠ 0 ∧ op y = false)) := by
  obtain ⟨⟨o1, o2, o3, o4, o5, o6⟩, h2, ⟨q1, q2, q3, q4, q5⟩, ⟨l1, l2, l3, l4, l5, l6⟩, h5⟩ := h
  obtain ⟨a1, a2, a3⟩ := q1 (d - 1) (by omega)
  have hfin : ∀ x, x < 24 → op x = true → od (qu (d - 1)) ≤ od x → x = qu (d - 1) ∨ (od (qu (d - 1)) < od x ∧ lf x = true) := by
    intro x hx ho hle
    by_cases c : x = qu (d - 1)
    · exact Or.inl c
    · have hne : od x ≠ od (qu (d - 1)) := fun z => c (o3 x _ hx a1 z (o4 x hx ho))
      refine Or.inr ⟨by omega, Classical.byContradiction fun g => ?_⟩
      obtain ⟨i, i1, i2⟩ := q4 x hx (o4 x hx ho) (gx_f g)
      by_cases k : i = d - 1
      · rw [k] at i2; exact c i2.symm
      · have := q2 i (d - 1) (by omega) (by omega)
        rw [i2] at this; omega
  have hlow : ∀ x, x < 24 → op x = true → od (qu (d - 1)) ≤ od x → od (qu (d - 1)) ≤ lw x ∧ nf x = 4 := by
    intro x hx ho hle
    rcases hfin x hx ho hle with c | ⟨c1, c2⟩
    · subst c; exact ⟨by omega, hn⟩
    · obtain ⟨k1, k2, k3⟩ := l4 x hx ho c2
      have := k3 (d - 1) (by omega) c1 (fun j hj hij => by omega)
      exact ⟨by omega, k1⟩
  refine ⟨fun x hx ho hle => ⟨l5 x (d - 1) hx ho (by omega) hle, ?_⟩, fun x y hx ho hle he => ?_⟩
  · have key : ∀ n x, od x ≤ n → x < 24 → op x = true → od (qu (d - 1)) ≤ od x → Rr_s E x (qu (d - 1)) := by
      intro n
      induction n with
      | zero =>
        intro x h0 hx ho hle
        have := o4 x hx ho
        omega
      | succ n ih =>
        intro x h0 hx ho hle
        rcases hfin x hx ho hle with c | ⟨c1, c2⟩
        · subst c; exact rr_rf _
        · obtain ⟨k1, k2, k3⟩ := l4 x hx ho c2
          obtain ⟨_, y, y1, y2, y3, y4⟩ := l1 x hx ho
          have := (hlow x hx ho hle).1
          exact rr_tr y4 (ih y (by omega) y1 y2 (by omega))
    exact key (od x) x (Nat.le_refl _) hx ho hle
  · obtain ⟨e1, e2, i, e3, e4⟩ := hE x y he
    obtain ⟨k1, k2⟩ := hlow x hx ho hle
    rcases l2 x i y hx ho (by omega) e3 e2 e4 with g | ⟨g1, g2⟩
    · exact Or.inr g
    · exact Or.inl ⟨e2, g1, by omega⟩
/-- the way's end is left and its set taken from the pile -/
theorem ta_leave1 {RP' : Nat} (hE : ∀ a b, E a b → a < 24 ∧ b < 24 ∧ ∃ i, i < 4 ∧ rf a i = nI b) (hd : 0 < d) (h : ta_I E A rf cnt d RP od lw nf rp qu op lf Rs most) (hn : nf (qu (d - 1)) = 4) (heq : lw (qu (d - 1)) = od (qu (d - 1)))
    (hRP : RP' < RP) (hrp : rp RP' = qu (d - 1)) {ring : Prop} (hring : ring ↔ (1 < RP - RP' ∨ E (qu (d - 1)) (qu (d - 1)))) :
    (ring → ta_I E A rf cnt (d - 1) RP' od lw nf rp qu (fun x => op x && decide (od x < od (qu (d - 1)))) (pz_ub lf (qu (d - 1)) true) (qu (d - 1) :: Rs) (if most < RP - RP' then RP - RP' else most)) ∧
    (¬ ring → ta_I E A rf cnt (d - 1) RP' od lw nf rp qu (fun x => op x && decide (od x < od (qu (d - 1)))) (pz_ub lf (qu (d - 1)) true) Rs most) := by
  obtain ⟨sg1, sg2⟩ := ta_seg hE hd h hn heq
  obtain ⟨⟨o1, o2, o3, o4, o5, o6⟩, ⟨p1, p2, p3, p4⟩, ⟨q1, q2, q3, q4, q5⟩, ⟨l1, l2, l3, l4, l5, l6⟩, ⟨d1, d2, d3⟩⟩ := h
  obtain ⟨a1, a2, a3⟩ := q1 (d - 1) (by omega)
  have hz := o4 _ a1 a2
  generalize eo : qu (d - 1) = o at *
  have opn : ∀ x, (op x && decide (od x < od o)) = true ↔ (op x = true ∧ od x < od o) := fun x => by rw [Bool.and_eq_true, decide_eq_true_iff]
  have opf : ∀ x, (op x && decide (od x < od o)) = false ↔ (op x = false ∨ od o ≤ od x) := fun x => by
    rw [Bool.and_eq_false_iff, decide_eq_false_iff_not]; constructor <;> rintro (g | g) <;> first | exact Or.inl g | exact Or.inr (by omega)
  -- places on the pile below o's are those before it
  have hlow : ∀ i, i < RP → (od (rp i) < od o ↔ i < RP') := by
    intro i hi
    rw [← hrp]
    constructor
    · intro g
      refine Classical.byContradiction fun k => ?_
      by_cases c : i = RP'
      · subst c; omega
      · have := p3 RP' i (by omega) hi; omega
    · intro g; exact p3 i RP' g hRP
  have hcnt' : ∀ R, R ≤ RP → R = nn_c (fun x => op x && pc_b (∃ i, i < R ∧ rp i = x)) 24 := by
    intro R
    induction R with
    | zero =>
      intro _
      refine (nn_c_none fun x _ => ?_).symm
      rw [pb_f (by rintro ⟨i, i1, _⟩; omega), Bool.and_false]
    | succ R ih =>
      intro hR
      obtain ⟨r1, r2⟩ := p2 R (by omega)
      rw [nn_c_ins (p := fun x => op x && pc_b (∃ i, i < R ∧ rp i = x)) (j := rp R) ?_ ?_ (fun x hx hne => ?_) r1, ← ih (by omega)]
      · rw [pb_f, Bool.and_false]
        rintro ⟨i, i1, i2⟩
        have := p3 i R i1 (by omega)
        rw [i2] at this; omega
      · rw [pb_iff.2 ⟨R, by omega, rfl⟩, r2]; rfl
      · congr 1
        by_cases c : ∃ i, i < R ∧ rp i = x
        · obtain ⟨i, i1, i2⟩ := c
          rw [pb_iff.2 ⟨i, i1, i2⟩, pb_iff.2 ⟨i, by omega, i2⟩]
        · rw [pb_f c, pb_f]
          rintro ⟨i, i1, i2⟩
          have : i ≠ R := fun z => by rw [z] at i2; exact hne i2.symm
          exact c ⟨i, by omega, i2⟩
  have hcnt : RP' = nn_c (fun x => op x && decide (od x < od o)) 24 := by
    refine (hcnt' RP' (by omega)).trans (nn_c_congr fun x hx => ?_)
    rw [Bool.and_eq_true, Bool.and_eq_true, pb_iff, decide_eq_true_iff]
    constructor
    · rintro ⟨g1, i, i1, i2⟩
      refine ⟨g1, ?_⟩
      rw [← i2]; exact (hlow i (by omega)).2 i1
    · rintro ⟨g1, g2⟩
      obtain ⟨i, i1, i2⟩ := p4 x hx g1
      rw [← i2] at g2
      exact ⟨g1, i, (hlow i i1).1 g2, i2⟩
  have hsz : RP - RP' = nn_c (fun x => op x && !decide (od x < od o)) 24 := by
    have := nn_c_split op (fun x => decide (od x < od o)) 24
    omega
  have sgi : ∀ x, (op x && !decide (od x < od o)) = true ↔ (op x = true ∧ od o ≤ od x) := fun x => by
    rw [Bool.and_eq_true, Bool.not_eq_true', decide_eq_false_iff_not]; constructor <;> rintro ⟨g1, g2⟩ <;> exact ⟨g1, by omega⟩
  -- D is closed
  have dcl : ∀ x z, x < 24 → od x ≠ 0 → op x = false → Rr_s E x z → (z < 24 ∧ od z ≠ 0 ∧ op z = false) := by
    intro x z hx h1 h2 hr
    refine hr (fun z => z < 24 ∧ od z ≠ 0 ∧ op z = false) ⟨hx, h1, h2⟩ fun y y' hy he => ?_
    obtain ⟨k1, k2⟩ := d2 y y' hy.1 hy.2.1 hy.2.2 he
    exact ⟨(hE y y' he).2.1, k1, k2⟩
  -- what o comes to
  have hto : ∀ z, Rr_s E o z → (z < 24 ∧ op z = true ∧ od o ≤ od z) ∨ (z < 24 ∧ od z ≠ 0 ∧ op z = false) := by
    intro z hr
    refine hr (fun z => (z < 24 ∧ op z = true ∧ od o ≤ od z) ∨ (z < 24 ∧ od z ≠ 0 ∧ op z = false)) (Or.inl ⟨a1, a2, Nat.le_refl _⟩) fun y y' hy he => ?_
    rcases hy with ⟨y1, y2, y3⟩ | ⟨y1, y2, y3⟩
    · rcases sg2 y y' y1 y2 y3 he with g | ⟨g1, g2⟩
      · exact Or.inl g
      · exact Or.inr ⟨(hE y y' he).2.1, g1, g2⟩
    · obtain ⟨k1, k2⟩ := d2 y y' y1 y2 y3 he
      exact Or.inr ⟨(hE y y' he).2.1, k1, k2⟩
  have hin : ∀ z, Rr_s E o z → Rr_s E z o → z < 24 ∧ op z = true ∧ od o ≤ od z := by
    intro z g1 g2
    rcases hto z g1 with g | ⟨k1, k2, k3⟩
    · exact g
    · have := (dcl z o k1 k2 k3 g2).2.2
      rw [a2] at this; exact nomatch this
  have hqn : ∀ i, i < d - 1 → od (qu i) < od o := fun i hi => by
    have := q2 i (d - 1) hi (by omega)
    rw [eo] at this; exact this
  have base : ∀ (Rs' : List Nat) (most' : Nat), Rg_s E (fun x => x < 24 ∧ od x ≠ 0 ∧ (op x && decide (od x < od o)) = false) Rs' most' →
      ta_I E A rf cnt (d - 1) RP' od lw nf rp qu (fun x => op x && decide (od x < od o)) (pz_ub lf o true) Rs' most' := by
    intro Rs' most' hR
    refine ⟨⟨o1, o2, o3, fun x hx e => o4 x hx ((opn x).1 e).1, fun x hx e hz => ?_, fun x hx e => ?_⟩, ⟨hcnt, fun i hi => ?_, fun i j hij hj => p3 i j hij (by omega), fun x hx e => ?_⟩, ⟨fun i hi => ?_, fun i j hij hj => q2 i j hij (by omega), fun i hi => q3 i (by omega), fun x hx hz e => ?_, fun i hi => q5 i (by omega)⟩, ⟨fun x hx e => ?_, fun x i y hx e hi hi4 hy hf => ?_, fun x hx e => l3 x hx ((opn x).1 e).1, fun x hx e g => ?_, fun x i hx e hi hle => l5 x i hx ((opn x).1 e).1 (by omega) hle, fun x hx e => ?_⟩, ⟨d1, fun a b ha hz e he => ?_, hR⟩⟩
    · by_cases c : x = o
      · subst c; exact pz_ubs
      · rw [pz_ubd c]
        rcases (opf x).1 e with g | g
        · exact o5 x hx g hz
        · refine Classical.byContradiction fun k => ?_
          obtain ⟨i, i1, i2⟩ := q4 x hx hz (gx_f k)
          by_cases k' : i = d - 1
          · rw [k', eo] at i2; exact c i2.symm
          · have := hqn i (by omega)
            rw [i2] at this; omega
    · by_cases c : x = o
      · subst c; exact hz
      · rw [pz_ubd c] at e; exact o6 x hx e
    · obtain ⟨k1, k2⟩ := p2 i (by omega)
      exact ⟨k1, (opn _).2 ⟨k2, (hlow i (by omega)).2 hi⟩⟩
    · obtain ⟨g1, g2⟩ := (opn x).1 e
      obtain ⟨i, i1, i2⟩ := p4 x hx g1
      rw [← i2] at g2
      exact ⟨i, (hlow i i1).1 g2, i2⟩
    · obtain ⟨k1, k2, k3⟩ := q1 i (by omega)
      have := hqn i hi
      exact ⟨k1, (opn _).2 ⟨k2, this⟩, by rw [pz_ubd fun z => by rw [z] at this; omega]; exact k3⟩
    · have c : x ≠ o := fun z => by rw [z, pz_ubs] at e; exact nomatch e
      rw [pz_ubd c] at e
      obtain ⟨i, i1, i2⟩ := q4 x hx hz e
      have : i ≠ d - 1 := fun z => by rw [z, eo] at i2; exact c i2.symm
      exact ⟨i, by omega, i2⟩
    · obtain ⟨g1, g2⟩ := (opn x).1 e
      obtain ⟨k1, y, k2, k3, k4, k5⟩ := l1 x hx g1
      exact ⟨k1, y, k2, (opn y).2 ⟨k3, by omega⟩, k4, k5⟩
    · obtain ⟨g1, g2⟩ := (opn x).1 e
      rcases l2 x i y hx g1 hi hi4 hy hf with ⟨k1, k2⟩ | ⟨k1, k2⟩
      · exact Or.inl ⟨k1, (opf y).2 (Or.inl k2)⟩
      · by_cases c : od y < od o
        · exact Or.inr ⟨(opn y).2 ⟨k1, c⟩, k2⟩
        · exact Or.inl ⟨o4 y hy k1, (opf y).2 (Or.inr (by omega))⟩
    · obtain ⟨g1, g2⟩ := (opn x).1 e
      have c : x ≠ o := fun z => by rw [z] at g2; omega
      rw [pz_ubd c] at g
      obtain ⟨k1, k2, k3⟩ := l4 x hx g1 g
      refine ⟨k1, k2, fun i hi z1 z2 => k3 i (by omega) z1 fun j hj hij => ?_⟩
      by_cases k : j = d - 1
      · rw [k, eo]; exact g2
      · exact z2 j (by omega) hij
    · obtain ⟨g1, g2⟩ := (opn x).1 e
      obtain ⟨k1, k2⟩ := l6 x hx g1
      refine ⟨?_, k2⟩
      refine Classical.byContradiction fun g => ?_
      have : d - 1 = 0 := by omega
      rw [this] at eo
      rw [eo] at k2
      omega
    · rcases (opf a).1 e with g | g
      · obtain ⟨k1, k2⟩ := d2 a b ha hz g he
        exact ⟨k1, (opf b).2 (Or.inl k2)⟩
      · by_cases c : op a = true
        · rcases sg2 a b ha c g he with ⟨k1, k2, k3⟩ | ⟨k1, k2⟩
          · exact ⟨o4 b k1 k2, (opf b).2 (Or.inr k3)⟩
          · exact ⟨k1, (opf b).2 (Or.inl k2)⟩
        · obtain ⟨k1, k2⟩ := d2 a b ha hz (gx_f c) he
          exact ⟨k1, (opf b).2 (Or.inl k2)⟩
  obtain ⟨r1, r2, r3, r4, r5⟩ := d3
  have hD' : ∀ x, x < 24 ∧ od x ≠ 0 ∧ (op x && decide (od x < od o)) = false → (x < 24 ∧ od x ≠ 0 ∧ op x = false) ∨ (x < 24 ∧ op x = true ∧ od o ≤ od x) := by
    rintro x ⟨g1, g2, g3⟩
    by_cases c : op x = true
    · rcases (opf x).1 g3 with g | g
      · rw [c] at g; exact nomatch g
      · exact Or.inr ⟨g1, c, g⟩
    · exact Or.inl ⟨g1, g2, gx_f c⟩
  refine ⟨fun hr => base _ _ ?_, fun hr => base _ _ ?_⟩
  · have too : Tc_s E o o := by
      rcases hring.1 hr with g | g
      · have hex : ∃ x, x < 24 ∧ x ≠ o ∧ op x = true ∧ od o ≤ od x := by
          refine Classical.byContradiction fun hno => ?_
          have h1 : nn_c (fun x => op x && !decide (od x < od o)) 24 ≤ nn_c (fun x => decide (x = o)) 24 := nn_c_mono fun x hx k => by
            obtain ⟨k1, k2⟩ := (sgi x).1 k
            exact decide_eq_true (Classical.byContradiction fun z => hno ⟨x, hx, z, k1, k2⟩)
          have h2 := nn_c_ins (p := fun _ => false) (q := fun x => decide (x = o)) (j := o) rfl (decide_eq_true rfl) (fun i _ hne => (decide_eq_false hne).symm) a1
          rw [nn_c_none (p := fun _ => false) (fun _ _ => rfl)] at h2
          omega
        obtain ⟨x, x1, x2, x3, x4⟩ := hex
        obtain ⟨s1, s2⟩ := sg1 x x1 x3 x4
        rcases rr_cases s1 with z | z
        · exact absurd z.symm x2
        · exact tc_rr_tr z s2
      · exact tc_e g
    have esz : Sz_s E o = RP - RP' := by
      rw [hsz]
      refine nn_c_congr fun x hx => ?_
      rw [pb_iff, sgi x]
      constructor
      · rintro ⟨g1, g2⟩
        exact (hin x (tc_rr g1) (tc_rr g2)).2
      · rintro ⟨g1, g2⟩
        obtain ⟨s1, s2⟩ := sg1 x hx g1 g2
        exact ⟨tc_rr_tr too s1, rr_tc_tr s2 too⟩
    refine ⟨fun r hr => ?_, ?_, fun x hx ht => ?_, fun r hr => ?_, ?_⟩
    · rcases List.mem_cons.mp hr with z | z
      · subst z; exact ⟨⟨a1, hz, (opf r).2 (Or.inr (Nat.le_refl _))⟩, too⟩
      · obtain ⟨⟨k1, k2, k3⟩, k4⟩ := r1 r z
        exact ⟨⟨k1, k2, (opf r).2 (Or.inl k3)⟩, k4⟩
    · rw [List.pairwise_cons]
      refine ⟨fun r hr g => ?_, r2⟩
      obtain ⟨⟨k1, k2, k3⟩, k4⟩ := r1 r hr
      have := (dcl r o k1 k2 k3 (tc_rr g.2)).2.2
      rw [a2] at this; exact nomatch this
    · rcases hD' x hx with g | ⟨g1, g2, g3⟩
      · obtain ⟨r, k1, k2⟩ := r3 x g ht
        exact ⟨r, List.mem_cons_of_mem o k1, k2⟩
      · obtain ⟨s1, s2⟩ := sg1 x g1 g2 g3
        exact ⟨o, List.mem_cons_self, rr_tc_tr s2 too, tc_rr_tr too s1⟩
    · rcases List.mem_cons.mp hr with z | z
      · subst z; rw [esz]; split <;> omega
      · have := r4 r z
        split <;> omega
    · right
      by_cases c : most < RP - RP'
      · rw [if_pos c]; exact ⟨o, List.mem_cons_self, esz⟩
      · rw [if_neg c]
        rcases r5 with r5 | ⟨r, k1, k2⟩
        · omega
        · exact ⟨r, List.mem_cons_of_mem o k1, k2⟩
  · have hn1 : ¬ 1 < RP - RP' := fun z => hr (hring.2 (Or.inl z))
    have hn2 : ¬ E o o := fun z => hr (hring.2 (Or.inr z))
    have only : ∀ x, x < 24 → op x = true → od o ≤ od x → x = o := by
      intro x x1 x2 x3
      refine Classical.byContradiction fun c => ?_
      have := nn_c_two (p := fun x => op x && !decide (od x < od o)) x1 a1 c ((sgi x).2 ⟨x2, x3⟩) ((sgi o).2 ⟨a2, Nat.le_refl _⟩)
      omega
    refine ⟨fun r hr => ?_, r2, fun x hx ht => ?_, r4, r5⟩
    · obtain ⟨⟨k1, k2, k3⟩, k4⟩ := r1 r hr
      exact ⟨⟨k1, k2, (opf r).2 (Or.inl k3)⟩, k4⟩
    · rcases hD' x hx with g | ⟨g1, g2, g3⟩
      · exact r3 x g ht
      · exfalso
        have e := only x g1 g2 g3
        subst e
        obtain ⟨b, b1, b2⟩ := tc_head ht
        obtain ⟨k1, k2, k3⟩ := hin b (rr_e b1) b2
        have := only b k1 k2 k3
        subst this
        exact hn2 b1
end
end
section
/-! X: rings -/
def rb_a (a : Nat → Int32) (f : Nat → Bool) (n : Nat) : Prop := ∀ i, i < n → a i = if f i = true then 1 else 0
theorem rb_upd {a : Nat → Int32} {f : Nat → Bool} {n k : Nat} {b : Bool} (h : rb_a a f n) : rb_a (upd a k (if b = true then 1 else 0)) (pz_ub f k b) n := by
  intro i hi
  by_cases e : i = k
  · subst e; rw [pk_us, pz_ubs]
  · rw [pk_un e, pz_ubd e]; exact h i hi
theorem rb_0 {x : Int32} {b : Bool} (h : x = if b = true then 1 else 0) : x = 0 ↔ b = false := by
  subst h
  cases b
  · exact ⟨fun _ => rfl, fun _ => rfl⟩
  · exact ⟨fun z => absurd z (by decide), (fun z => nomatch z)⟩
/-- how the arrays hold the search's state -/
def ta_rep (oR lO nF oP rP qU : Nat → Int32) (d RP : Nat) (od lw nf rp qu : Nat → Nat) (op : Nat → Bool) : Prop :=
  rp_a oR od 24 ∧ (∀ x, x < 24 → od x ≠ 0 → lO x = nI (lw x) ∧ nF x = nI (nf x)) ∧ rb_a oP op 24 ∧ rp_a rP rp RP ∧ rp_a qU qu d
section
variable {fM fO fC fX fP : Int32} {tH kD sZ rF rT nU oB pA pI pF sE aN lA dM bF bN rE cH dE qU lO oR oP nF cO iL rP : Nat → Int32}
theorem x_refersTo6 {post : Int32 → Prop} {w p : Nat} {x : Int32} (hw : w < 3) (hp : p < 24) (k1 : (∃ i, i < 4 ∧ gf_f rF w p i = x) → post 1) (k0 : ¬ (∃ i, i < 4 ∧ gf_f rF w p i = x) → post 0) :
    ∀ (n i : Nat) (b : Int32), 4 < n + i → i ≤ 4 → ((b = 0 ∧ ∀ j, j < i → ¬ gf_f rF w p j = x) ∨ (b = 1 ∧ ∃ j, j < i ∧ gf_f rF w p j = x)) → wX_refersTo_6 post (nI w) (nI p) x fM fO fC fX fP tH kD sZ rF rT nU oB pA pI pF sE aN lA dM bF bN rE cH dE qU lO oR oP nF cO iL rP n b (nI i) := by
  intro n
  induction n with
  | zero => intro i b h1 h2; omega
  | succ n ih =>
    intro i b h1 h2 hb
    rw [wX_refersTo_6]
    by_cases c : i = 4
    · subst c
      refine br_t (nI_le (a := 4) (b := 4) (by omega) (by omega)) ?_
      rcases hb with ⟨rfl, hb⟩ | ⟨rfl, hb⟩
      · exact ⟨rfl, k0 fun ⟨j, j1, j2⟩ => hb j j1 j2⟩
      · exact ⟨rfl, k1 hb⟩
    · refine br_f (nI_ge (b := 4) (by omega) (by omega)) ?_
      rcases hb with ⟨rfl, hb⟩ | ⟨rfl, j, j1, j2⟩
      · refine br_t rfl (xs_target hw hp (by omega) (br_c (fun g => ?_) (fun g => ?_)))
        · exact nm_r (nI_1 i) (ih (i + 1) 1 (by omega) (by omega) (Or.inr ⟨rfl, i, by omega, g⟩))
        · refine nm_r (nI_1 i) (ih (i + 1) 0 (by omega) (by omega) (Or.inl ⟨rfl, fun j hj => ?_⟩))
          by_cases d : j = i
          · subst d; exact g
          · exact hb j (by omega)
      · exact br_f (by decide) (nm_r (nI_1 i) (ih (i + 1) 1 (by omega) (by omega) (Or.inr ⟨rfl, j, by omega, j2⟩)))
theorem x_refersTo {post : Int32 → Prop} {w p : Nat} {x : Int32} (hw : w < 3) (hp : p < 24) (k1 : (∃ i, i < 4 ∧ gf_f rF w p i = x) → post 1) (k0 : ¬ (∃ i, i < 4 ∧ gf_f rF w p i = x) → post 0) : wpX_refersTo post (fM, fO, fC, fX, fP, tH, kD, sZ, rF, rT, nU, oB, pA, pI, pF, sE, aN, lA, dM, bF, bN, rE, cH, dE, qU, lO, oR, oP, nF, cO, iL, rP) (nI w) (nI p) x := by
  unfold wpX_refersTo
  exact ⟨5, x_refersTo6 hw hp k1 k0 5 0 0 (by omega) (by omega) (Or.inl ⟨rfl, fun j hj => by omega⟩)⟩
theorem x_enter {post : SX → Prop} {p RP cnt : Nat} (hp : p < 24) (hR : RP < 24)
    (K : post (fM, (nI (cnt + 1)), fC, fX, (nI (RP + 1)), tH, kD, sZ, rF, rT, nU, oB, pA, pI, pF, sE, aN, lA, dM, bF, bN, rE, cH, dE, qU, (upd lO p (nI (cnt + 1))), (upd oR p (nI (cnt + 1))), (upd oP p 1), (upd nF p 0), cO, iL, (upd rP RP (nI p)))) : wpX_enter post (fM, (nI cnt), fC, fX, (nI RP), tH, kD, sZ, rF, rT, nU, oB, pA, pI, pF, sE, aN, lA, dM, bF, bN, rE, cH, dE, qU, lO, oR, oP, nF, cO, iL, rP) (nI p) := by
  unfold wpX_enter
  have ep : (nI p).toNatClampNeg = p := nI_clamp (by omega)
  have vp : vp_in (nI p) 24 := vp_in_nI hp (by omega)
  refine nm_r (nI_1 cnt) ⟨vp, nm_r (e' := upd oR p (nI (cnt + 1))) (by rw [ep]) ⟨vp, nm_r (e' := upd lO p (nI (cnt + 1))) (by rw [ep]) ⟨vp, nm_r (e' := upd nF p 0) (by rw [ep]) ⟨vp_in_nI hR (by omega), nm_r (e' := upd rP RP (nI p)) (by rw [nI_clamp (by omega)]) (nm_r (nI_1 RP) ⟨vp, nm_r (e' := upd oP p 1) (by rw [ep]; rfl) ?_⟩)⟩⟩⟩⟩
  exact K
theorem x_lower {post : SX → Prop} {o a b : Nat} (ho : o < 24) (ha : a < 2 ^ 31) (hb : b < 2 ^ 31) (e : lO o = nI a) (K : ∀ l, ((l = a ∧ l ≤ b) ∨ (l = b ∧ l < a)) → post (fM, fO, fC, fX, fP, tH, kD, sZ, rF, rT, nU, oB, pA, pI, pF, sE, aN, lA, dM, bF, bN, rE, cH, dE, qU, (upd lO o (nI l)), oR, oP, nF, cO, iL, rP)) : wpX_lower post (fM, fO, fC, fX, fP, tH, kD, sZ, rF, rT, nU, oB, pA, pI, pF, sE, aN, lA, dM, bF, bN, rE, cH, dE, qU, lO, oR, oP, nF, cO, iL, rP) (nI o) (nI b) := by
  unfold wpX_lower
  have eo : (nI o).toNatClampNeg = o := nI_clamp (by omega)
  have vo : vp_in (nI o) 24 := vp_in_nI ho (by omega)
  refine ⟨vo, ?_⟩
  rw [eo, e]
  exact pk_le a b (fun g => ⟨vo, vo, nm_e (K a (Or.inl ⟨rfl, g⟩))⟩) (fun g => ⟨vo, nm_e (K b (Or.inr ⟨rfl, g⟩))⟩)
/-- the pile is emptied down to o -/
theorem x_leave24 {post : SX → Prop} {w o io RP : Nat} {rp : Nat → Nat} (ho : o < 24) (hRP : RP ≤ 24) (hio : io < RP) (hrp : rp_a rP rp RP) (hr : ∀ i, i < RP → rp i < 24) (hinj : ∀ i j, i < j → j < RP → rp i ≠ rp j) (hro : rp io = o)
    (K : ∀ oP' : Nat → Int32, (∀ i, io ≤ i → i < RP → oP' (rp i) = 0) → (∀ x, (∀ i, io ≤ i → i < RP → rp i ≠ x) → oP' x = oP x) → wX_leave_75 post (nI w) (nI o) (nI (RP - io)) fM fO fC fX (nI io) tH kD sZ rF rT nU oB pA pI pF sE aN lA dM bF bN rE cH dE qU lO oR oP' nF cO iL rP) :
    ∀ (j n k : Nat) (x4 : Int32) (oP' : Nat → Int32), j + 1 < n → k + (io + 1 + j) = RP → ¬ x4 = nI o → (∀ i, io + 1 + j ≤ i → i < RP → oP' (rp i) = 0) → (∀ x, (∀ i, io + 1 + j ≤ i → i < RP → rp i ≠ x) → oP' x = oP x) →
      wX_leave_24 post (nI w) (nI o) fM fO fC fX n (nI k) x4 (nI k) (nI (io + 1 + j)) tH kD sZ rF rT nU oB pA pI pF sE aN lA dM bF bN rE cH dE qU lO oR oP' nF cO iL rP := by
  intro j
  induction j with
  | zero =>
    intro n k x4 oP' h0 h1 h2 h3 h4
    obtain ⟨n, rfl⟩ : ∃ k, n = k + 2 := ⟨n - 2, by omega⟩
    rw [wX_leave_24]
    have e1 : nI (io + 1 + 0) - 1 = nI io := nI_pred io
    have eio : (nI io).toNatClampNeg = io := nI_clamp (by omega)
    refine br_f (nI_ge (b := 24) (by omega) (by omega)) (br_f h2 (nm_r e1 ⟨vp_in_nI (by omega) (by omega), nm_r (e' := nI o) (by rw [eio, hrp io hio, hro]) ⟨vp_in_nI ho (by omega), nm_r (e' := upd oP' o 0) (by rw [nI_clamp (by omega)]; rfl) (nm_r (nI_1 k) (nm_r (nI_1 k) ?_))⟩⟩))
    rw [wX_leave_24]
    have key := K (upd oP' o 0) (fun i a b => ?_) (fun x hx => ?_)
    · rw [show RP - io = k + 1 by omega] at key
      exact br_c (fun _ => key) (fun _ => br_t rfl key)
    · by_cases c : i = io
      · subst c; rw [hro]; exact pk_us
      · have := hinj io i (by omega) b
        rw [hro] at this
        rw [pk_un fun z => this z.symm]; exact h3 i (by omega) b
    · have : x ≠ o := fun z => hx io (Nat.le_refl _) hio (by rw [hro, z])
      rw [pk_un this]; exact h4 x fun i a b => hx i (by omega) b
  | succ j ih =>
    intro n k x4 oP' h0 h1 h2 h3 h4
    obtain ⟨n, rfl⟩ : ∃ k, n = k + 1 := ⟨n - 1, by omega⟩
    rw [wX_leave_24]
    have e1 : nI (io + 1 + (j + 1)) - 1 = nI (io + 1 + j) := nI_pred (io + 1 + j)
    have eR : (nI (io + 1 + j)).toNatClampNeg = io + 1 + j := nI_clamp (by omega)
    have hlt := hr (io + 1 + j) (by omega)
    refine br_f (nI_ge (b := 24) (by omega) (by omega)) (br_f h2 (nm_r e1 ⟨vp_in_nI (by omega) (by omega), nm_r (e' := nI (rp (io + 1 + j))) (by rw [eR, hrp _ (by omega)]) ⟨vp_in_nI hlt (by omega), nm_r (e' := upd oP' (rp (io + 1 + j)) 0) (by rw [nI_clamp (by omega)]; rfl) (nm_r (nI_1 k) (nm_r (nI_1 k) ?_))⟩⟩))
    refine ih n (k + 1) _ _ (by omega) (by omega) (fun z => ?_) (fun i a b => ?_) (fun x hx => ?_)
    · have := (nI_eq (by omega) (by omega)).mp z
      rw [← hro] at this
      exact hinj io (io + 1 + j) (by omega) (by omega) this.symm
    · by_cases c : i = io + 1 + j
      · subst c; exact pk_us
      · have := hinj (io + 1 + j) i (by omega) b
        rw [pk_un fun z => this z.symm]; exact h3 i (by omega) b
    · have : x ≠ rp (io + 1 + j) := fun z => hx (io + 1 + j) (Nat.le_refl _) (by omega) z.symm
      rw [pk_un this]; exact h4 x fun i a b => hx i (by omega) b
theorem x_leave75 {post : SX → Prop} {w o k c most : Nat} (hw : w < 3) (ho : o < 24) (hk : k < 2 ^ 31) (hm : most < 2 ^ 31)
    (K1 : (1 < k ∨ ∃ i, i < 4 ∧ gf_f rF w o i = nI o) → post (fM, fO, (nI (c + 1)), (nI (if most < k then k else most)), fP, tH, kD, sZ, rF, rT, nU, oB, pA, pI, pF, sE, aN, lA, dM, bF, bN, rE, cH, dE, qU, lO, oR, oP, nF, cO, iL, rP))
    (K0 : ¬ (1 < k ∨ ∃ i, i < 4 ∧ gf_f rF w o i = nI o) → post (fM, fO, (nI c), (nI most), fP, tH, kD, sZ, rF, rT, nU, oB, pA, pI, pF, sE, aN, lA, dM, bF, bN, rE, cH, dE, qU, lO, oR, oP, nF, cO, iL, rP)) : wX_leave_75 post (nI w) (nI o) (nI k) fM fO (nI c) (nI most) fP tH kD sZ rF rT nU oB pA pI pF sE aN lA dM bF bN rE cH dE qU lO oR oP nF cO iL rP := by
  have yes : (1 < k ∨ ∃ i, i < 4 ∧ gf_f rF w o i = nI o) → wX_leave_90 post (nI k) fM fO (nI c) (nI most) fP tH kD sZ rF rT nU oB pA pI pF sE aN lA dM bF bN rE cH dE qU lO oR oP nF cO iL rP := by
    intro g
    have key := K1 g
    unfold wX_leave_90 wX_leave_95
    refine br_f (by decide) ?_
    unfold wX_leave_116
    refine br_f (by decide) ?_
    rw [nI_1]
    refine pk_le k most (fun q => ?_) (fun q => ?_)
    · rw [if_neg (by omega)] at key; exact key
    · rw [if_pos q] at key; exact key
  unfold wX_leave_75
  refine pk_lt 1 k (fun g => yes (Or.inl g)) (fun g => ?_)
  refine x_refersTo hw ho (fun q => br_f (by decide) (yes (Or.inr q))) (fun q => br_t rfl ?_)
  unfold wX_leave_95
  refine br_t rfl ?_
  unfold wX_leave_116
  exact br_t rfl (K0 fun z => z.elim (fun z => by omega) q)
theorem x_follow {post : Int32 → SX → Prop} {w o : Nat} {od lw nf : Nat → Nat} {op : Nat → Bool} (hw : w < 3) (ho : o < 24) (hT : gT tH w o) (ok : gOk tH rF rT w) (hn : nf o ≤ 4) (hoR : rp_a oR od 24) (hob : ∀ x, x < 24 → od x < 2 ^ 31) (hlo : lO o = nI (lw o)) (hlb : lw o < 2 ^ 31) (hnF : nF o = nI (nf o)) (hoP : rb_a oP op 24)
    (K4 : nf o = 4 → post (-1) (fM, fO, fC, fX, fP, tH, kD, sZ, rF, rT, nU, oB, pA, pI, pF, sE, aN, lA, dM, bF, bN, rE, cH, dE, qU, lO, oR, oP, nF, cO, iL, rP))
    (Kn : nf o < 4 → gf_f rF w o (nf o) = -1 → post (nI o) (fM, fO, fC, fX, fP, tH, kD, sZ, rF, rT, nU, oB, pA, pI, pF, sE, aN, lA, dM, bF, bN, rE, cH, dE, qU, lO, oR, oP, (upd nF o (nI (nf o + 1))), cO, iL, rP))
    (Kw : ∀ p, nf o < 4 → p < 24 → gT tH w p → gf_f rF w o (nf o) = nI p → od p = 0 → post (nI p) (fM, fO, fC, fX, fP, tH, kD, sZ, rF, rT, nU, oB, pA, pI, pF, sE, aN, lA, dM, bF, bN, rE, cH, dE, qU, lO, oR, oP, (upd nF o (nI (nf o + 1))), cO, iL, rP))
    (Kd : ∀ p, nf o < 4 → p < 24 → gf_f rF w o (nf o) = nI p → od p ≠ 0 → op p = false → post (nI o) (fM, fO, fC, fX, fP, tH, kD, sZ, rF, rT, nU, oB, pA, pI, pF, sE, aN, lA, dM, bF, bN, rE, cH, dE, qU, lO, oR, oP, (upd nF o (nI (nf o + 1))), cO, iL, rP))
    (Kp : ∀ p l, nf o < 4 → p < 24 → gf_f rF w o (nf o) = nI p → od p ≠ 0 → op p = true → ((l = lw o ∧ l ≤ od p) ∨ (l = od p ∧ l < lw o)) → post (nI o) (fM, fO, fC, fX, fP, tH, kD, sZ, rF, rT, nU, oB, pA, pI, pF, sE, aN, lA, dM, bF, bN, rE, cH, dE, qU, (upd lO o (nI l)), oR, oP, (upd nF o (nI (nf o + 1))), cO, iL, rP)) :
    wpX_followNext post (fM, fO, fC, fX, fP, tH, kD, sZ, rF, rT, nU, oB, pA, pI, pF, sE, aN, lA, dM, bF, bN, rE, cH, dE, qU, lO, oR, oP, nF, cO, iL, rP) (nI w) (nI o) := by
  unfold wpX_followNext
  have eo : (nI o).toNatClampNeg = o := nI_clamp (by omega)
  have vo : vp_in (nI o) 24 := vp_in_nI ho (by omega)
  refine ⟨vo, nm_r (e' := nI (nf o)) (by rw [eo]; exact hnF) (pk_eq (nf o) 4 K4 (fun g => ⟨vo, nm_r (e' := upd nF o (nI (nf o + 1))) (by rw [eo, nI_1]) ?_⟩))⟩
  have hn4 : nf o < 4 := by omega
  refine xs_target hw ho hn4 ?_
  rcases ok.2 o ho hT (nf o) hn4 with e | ⟨p, p1, p2, p3⟩
  · rw [e]; exact br_t rfl (Kn hn4 e)
  · rw [p2]
    have vp : vp_in (nI p) 24 := vp_in_nI p1 (by omega)
    have hb := hob p p1
    refine br_f (ix_m1 (by omega)) ⟨vp, ?_⟩
    rw [nI_clamp (show p < 2 ^ 31 by omega), hoR p p1]
    refine pk_eq (od p) 0 (fun q => Kw p hn4 p1 p3 p2 q) (fun q => ⟨vp, br_c (fun z => ?_) (fun z => ⟨vp, ?_⟩)⟩)
    · exact Kd p hn4 p1 p2 q ((rb_0 (hoP p p1)).1 z)
    · have hop : op p = true := Classical.byContradiction fun y => z ((rb_0 (hoP p p1)).2 (gx_f y))
      exact x_lower ho hlb hb hlo fun l hl => Kp p l hn4 p1 p2 q hop hl
end
end
section
/-! X: rings, the loop -/
theorem ta_pop {RP io o : Nat} {rp od : Nat → Nat} {op : Nat → Bool} {oP oP' : Nat → Int32} (h : ta_p RP rp od op) (hb : rb_a oP op 24) (hio : io < RP) (hro : rp io = o)
    (k1 : ∀ i, io ≤ i → i < RP → oP' (rp i) = 0) (k2 : ∀ x, (∀ i, io ≤ i → i < RP → rp i ≠ x) → oP' x = oP x) : rb_a oP' (fun x => op x && decide (od x < od o)) 24 := by
  obtain ⟨p1, p2, p3, p4⟩ := h
  intro x hx
  by_cases c : ∃ i, io ≤ i ∧ i < RP ∧ rp i = x
  · obtain ⟨i, i1, i2, i3⟩ := c
    have : ¬ od x < od o := by
      rw [← i3, ← hro]
      by_cases e : i = io
      · subst e; omega
      · have := p3 io i (by omega) i2; omega
    show oP' x = if (op x && decide (od x < od o)) = true then 1 else 0
    rw [decide_eq_false this, Bool.and_false, ← i3, k1 i i1 i2]; rfl
  · show oP' x = if (op x && decide (od x < od o)) = true then 1 else 0
    rw [k2 x fun i a b e => c ⟨i, a, b, e⟩, hb x hx]
    cases e : op x
    · rfl
    · obtain ⟨i, i1, i2⟩ := p4 x hx e
      have : i < io := Classical.byContradiction fun z => c ⟨i, by omega, i1, i2⟩
      have := p3 i io this hio
      rw [i2, hro] at this
      rw [decide_eq_true this]; rfl
theorem ta_most {E : Nat → Nat → Prop} {A : Nat → Prop} {L : List Nat} {most : Nat} (h : Rg_s E A L most) : most ≤ 24 := by
  rcases h.2.2.2.2 with g | ⟨r, _, g⟩
  · omega
  · have := nn_c_le (fun a => pc_b (Eq_s E r a)) 24
    unfold Sz_s at g
    omega
section
variable {fM fO fC fX fP : Int32} {tH kD sZ rF rT nU oB pA pI pF sE aN lA dM bF bN rE cH dE qU lO oR oP nF cO iL rP : Nat → Int32}
theorem x_fr17 {post : SX → Prop} {w : Nat} {Q : Nat → Prop} (hw : w < 3) (ok : gOk tH rF rT w)
    (K : ∀ (cnt RP : Nat) (od lw nf rp qu : Nat → Nat) (op lf : Nat → Bool) (Rs : List Nat) (most : Nat) (oR lO nF oP rP qU : Nat → Int32), ta_I (gE tH rF w) (gA tH rF rT w) (gf_f rF w) cnt 0 RP od lw nf rp qu op lf Rs most → ta_rep oR lO nF oP rP qU 0 RP od lw nf rp qu op → (∀ x, x < 24 → Q x → od x ≠ 0) →
      post (fM, (nI cnt), (nI Rs.length), (nI most), (nI RP), tH, kD, sZ, rF, rT, nU, oB, pA, pI, pF, sE, aN, lA, dM, bF, bN, rE, cH, dE, qU, lO, oR, oP, nF, cO, iL, rP)) :
    ∀ (n i cnt d RP : Nat) (od lw nf rp qu : Nat → Nat) (op lf : Nat → Bool) (Rs : List Nat) (most : Nat) (oR lO nF oP rP qU : Nat → Int32), 200 < n + i → i + ta_m od nf lf ≤ 120 → ta_I (gE tH rF w) (gA tH rF rT w) (gf_f rF w) cnt d RP od lw nf rp qu op lf Rs most → ta_rep oR lO nF oP rP qU d RP od lw nf rp qu op → (∀ x, x < 24 → Q x → od x ≠ 0) →
      wX_findRingsFrom_17 post (nI w) n (nI d) (nI i) fM (nI cnt) (nI Rs.length) (nI most) (nI RP) tH kD sZ rF rT nU oB pA pI pF sE aN lA dM bF bN rE cH dE qU lO oR oP nF cO iL rP := by
  have hE : ∀ a b, gE tH rF w a b → a < 24 ∧ b < 24 ∧ ∃ i, i < 4 ∧ gf_f rF w a i = nI b := fun a b h => ⟨h.1, h.2.2.1, h.2.2.2⟩
  intro n
  induction n with
  | zero => intro i cnt d RP od lw nf rp qu op lf Rs most oR lO nF oP rP qU h0 h1; omega
  | succ n ih =>
    intro i cnt d RP od lw nf rp qu op lf Rs most oR lO nF oP rP qU h0 h1 hI hR hQ
    rw [wX_findRingsFrom_17]
    by_cases hd : d = 0
    · subst hd
      have fin := K cnt RP od lw nf rp qu op lf Rs most oR lO nF oP rP qU hI hR hQ
      exact br_c (fun _ => fin) (fun _ => br_t (nI_le (a := 0) (b := 0) (by omega) (by omega)) fin)
    · have hI' := hI
      obtain ⟨⟨o1, o2, o3, o4, o5, o6⟩, hp, ⟨q1, q2, q3, q4, q5⟩, ⟨l1, l2, l3, l4, l5, l6⟩, ⟨d1, d2, d3⟩⟩ := hI'
      obtain ⟨r1, r2, r3, r4, r5⟩ := hR
      have hcnt : cnt ≤ 24 := by rw [o1]; exact nn_c_le _ 24
      have hRP : RP ≤ 24 := by rw [hp.1]; exact nn_c_le _ 24
      have hmost := ta_most d3
      have hob : ∀ x, x < 24 → od x < 2 ^ 31 := fun x hx => by have := o2 x hx; omega
      obtain ⟨a1, a2, a3⟩ := q1 (d - 1) (by omega)
      have hoz := o4 _ a1 a2
      have hd24 : d ≤ 24 := by
        have := q5 (d - 1) (by omega)
        have := o2 _ a1
        omega
      obtain ⟨lo1, nf1⟩ := r2 _ a1 hoz
      have hlw := (l1 _ a1 a2).1
      have hob1 := o2 _ a1
      have hnf := l3 _ a1 a2
      have hT : gT tH w (qu (d - 1)) := (gA_T ok (d1 _ a1 hoz)).2
      refine br_f (nI_ge (b := 200) (by omega) (by omega)) (br_f (nI_ge (a := 0) (by omega) (by omega)) ?_)
      rw [ix_dec (show 1 ≤ d by omega)]
      refine ⟨vp_in_nI (by omega) (by omega), nm_r (e' := nI (qu (d - 1))) (by rw [nI_clamp (by omega)]; exact r5 (d - 1) (by omega)) ?_⟩
      -- the loop goes on after a look
      have look : ∀ (l : Nat) (lO' : Nat → Int32), nf (qu (d - 1)) < 4 → ((l = lw (qu (d - 1)) ∧ ∀ y, y < 24 → gf_f rF w (qu (d - 1)) (nf (qu (d - 1))) = nI y → (od y ≠ 0 ∧ op y = false) ∨ (op y = true ∧ lw (qu (d - 1)) ≤ od y)) ∨
          ∃ p, p < 24 ∧ op p = true ∧ gf_f rF w (qu (d - 1)) (nf (qu (d - 1))) = nI p ∧ gE tH rF w (qu (d - 1)) p ∧ ((l = lw (qu (d - 1)) ∧ l ≤ od p) ∨ (l = od p ∧ l < lw (qu (d - 1))))) →
          (∀ x, x < 24 → od x ≠ 0 → lO' x = nI (pz_un lw (qu (d - 1)) l x)) →
          wX_findRingsFrom_17 post (nI w) n (nI d) (nI (i + 1)) fM (nI cnt) (nI Rs.length) (nI most) (nI RP) tH kD sZ rF rT nU oB pA pI pF sE aN lA dM bF bN rE cH dE qU lO' oR oP (upd nF (qu (d - 1)) (nI (nf (qu (d - 1)) + 1))) cO iL rP := by
        intro l lO' g1 g2 g3
        have hm := ta_m_look a1 hoz a3 g1
        refine ih (i + 1) cnt d RP od _ _ rp qu op lf Rs most oR lO' _ oP rP qU (by omega) (by omega) (ta_look (by omega) hI g1 g2) ⟨r1, fun x hx hz => ⟨g3 x hx hz, ?_⟩, r3, r4, r5⟩ hQ
        by_cases c : x = qu (d - 1)
        · subst c; rw [pk_us, pz_us]
        · rw [pk_un c, pz_ud c]; exact (r2 x hx hz).2
      have same : ∀ x, x < 24 → od x ≠ 0 → lO x = nI (pz_un lw (qu (d - 1)) (lw (qu (d - 1))) x) := fun x hx hz => by
        by_cases c : x = qu (d - 1)
        · subst c; rw [pz_us]; exact lo1
        · rw [pz_ud c]; exact (r2 x hx hz).1
      refine x_follow (od := od) (lw := lw) (nf := nf) (op := op) hw a1 hT ok hnf r1 hob lo1 (by omega) nf1 r3 (fun hn => ?_) (fun hn he => ?_) (fun p hn hp' hTp he hz => ?_) (fun p hn hp' he hz hop => ?_) (fun p l hn hp' he hz hop hl => ?_)
      · -- leave
        refine br_t rfl ?_
        have hml := ta_m_leave a1 hoz a3 hn
        unfold wpX_leave
        have eo : (nI (qu (d - 1))).toNatClampNeg = qu (d - 1) := nI_clamp (by omega)
        have vo : vp_in (nI (qu (d - 1))) 24 := vp_in_nI a1 (by omega)
        refine ⟨vo, vo, ?_⟩
        rw [eo, lo1, r1 _ a1]
        refine pk_eq (lw (qu (d - 1))) (od (qu (d - 1))) (fun heq => ?_) (fun hne => ?_)
        · obtain ⟨io, io1, io2⟩ := hp.2.2.2 _ a1 a2
          refine ⟨RP + 2, ?_⟩
          have eRP : RP = io + 1 + (RP - io - 1) := by omega
          have inj : ∀ i j, i < j → j < RP → rp i ≠ rp j := fun i j a b c => by
            have := hp.2.2.1 i j a b
            rw [c] at this; omega
          have go : ∀ (Rs' : List Nat) (most' : Nat) (oP' : Nat → Int32), rb_a oP' (fun x => op x && decide (od x < od (qu (d - 1)))) 24 →
              ta_I (gE tH rF w) (gA tH rF rT w) (gf_f rF w) cnt (d - 1) io od lw nf rp qu (fun x => op x && decide (od x < od (qu (d - 1)))) (pz_ub lf (qu (d - 1)) true) Rs' most' →
              ∀ x3, x3 = nI d + (-1) → ((x3 ≤ 0 → ∀ x4, x4 = nI i + 1 → wX_findRingsFrom_17 post (nI w) n x3 x4 fM (nI cnt) (nI Rs'.length) (nI most') (nI io) tH kD sZ rF rT nU oB pA pI pF sE aN lA dM bF bN rE cH dE qU lO oR oP' nF cO iL rP) ∧
                (¬ x3 ≤ 0 → vp_in (x3 - 1) 24 ∧ (vp_in (nI (qu (d - 1))) 24 ∧ wpX_lower (fun u => match u with | (fM, fO, fC, fX, fP, tH, kD, sZ, rF, rT, nU, oB, pA, pI, pF, sE, aN, lA, dM, bF, bN, rE, cH, dE, qU, lO, oR, oP, nF, cO, iL, rP) => ∀ x4, x4 = nI i + 1 → wX_findRingsFrom_17 post (nI w) n x3 x4 fM fO fC fX fP tH kD sZ rF rT nU oB pA pI pF sE aN lA dM bF bN rE cH dE qU lO oR oP nF cO iL rP) (fM, (nI cnt), (nI Rs'.length), (nI most'), (nI io), tH, kD, sZ, rF, rT, nU, oB, pA, pI, pF, sE, aN, lA, dM, bF, bN, rE, cH, dE, qU, lO, oR, oP', nF, cO, iL, rP) (qU (x3 - 1).toNatClampNeg) (lO (qu (d - 1)))))) := by
            intro Rs' most' oP' hb hI2
            refine nm_r (sb_m1 (show 0 < d by omega)) ?_
            refine pk_le (d - 1) 0 (fun g => nm_r (nI_1 i) ?_) (fun g => ?_)
            · exact ih (i + 1) cnt (d - 1) io od lw nf rp qu _ _ Rs' most' oR lO nF oP' rP qU (by omega) (by omega) hI2 ⟨r1, r2, hb, rp_le r4 (by omega), rp_le r5 (by omega)⟩ hQ
            · rw [ix_dec (show 1 ≤ d - 1 by omega), lo1, nI_clamp (show d - 1 - 1 < 2 ^ 31 by omega), r5 (d - 1 - 1) (by omega)]
              obtain ⟨b1, b2, b3⟩ := q1 (d - 1 - 1) (by omega)
              have hbz := o4 _ b1 b2
              have hbl := (l1 _ b1 b2).1
              have hblt := q2 (d - 1 - 1) (d - 1) (by omega) (by omega)
              refine ⟨vp_in_nI (by omega) (by omega), vo, x_lower b1 (by omega) (by omega) (r2 _ b1 hbz).1 fun l hl => nm_r (nI_1 i) ?_⟩
              refine ih (i + 1) cnt (d - 1) io od lw nf rp qu _ _ Rs' most' oR _ nF oP' rP qU (by omega) (by omega) hI2 ⟨r1, fun x hx hz => ⟨?_, (r2 x hx hz).2⟩, hb, rp_le r4 (by omega), rp_le r5 (by omega)⟩ hQ
              by_cases c : x = qu (d - 1 - 1)
              · subst c
                rw [pk_us]
                congr 1
                omega
              · rw [pk_un c]; exact (r2 x hx hz).1
          have key := x_leave24 (post := fun u => match u with | (fM, fO, fC, fX, fP, tH, kD, sZ, rF, rT, nU, oB, pA, pI, pF, sE, aN, lA, dM, bF, bN, rE, cH, dE, qU, lO, oR, oP, nF, cO, iL, rP) => ∀ x3, x3 = nI d + (-1) → ((x3 ≤ 0 → ∀ x4, x4 = nI i + 1 → wX_findRingsFrom_17 post (nI w) n x3 x4 fM fO fC fX fP tH kD sZ rF rT nU oB pA pI pF sE aN lA dM bF bN rE cH dE qU lO oR oP nF cO iL rP) ∧
                (¬ x3 ≤ 0 → vp_in (x3 - 1) 24 ∧ (vp_in (nI (qu (d - 1))) 24 ∧ wpX_lower (fun u => match u with | (fM, fO, fC, fX, fP, tH, kD, sZ, rF, rT, nU, oB, pA, pI, pF, sE, aN, lA, dM, bF, bN, rE, cH, dE, qU, lO, oR, oP, nF, cO, iL, rP) => ∀ x4, x4 = nI i + 1 → wX_findRingsFrom_17 post (nI w) n x3 x4 fM fO fC fX fP tH kD sZ rF rT nU oB pA pI pF sE aN lA dM bF bN rE cH dE qU lO oR oP nF cO iL rP) (fM, fO, fC, fX, fP, tH, kD, sZ, rF, rT, nU, oB, pA, pI, pF, sE, aN, lA, dM, bF, bN, rE, cH, dE, qU, lO, oR, oP, nF, cO, iL, rP) (qU (x3 - 1).toNatClampNeg) (lO (qu (d - 1)))))))
            (w := w) (o := qu (d - 1)) (io := io) (RP := RP) (rp := rp) (fM := fM) (fO := nI cnt) (fC := nI Rs.length) (fX := nI most) (tH := tH) (kD := kD) (sZ := sZ) (rF := rF) (rT := rT) (nU := nU) (oB := oB) (pA := pA) (pI := pI) (pF := pF) (sE := sE) (aN := aN) (lA := lA) (dM := dM) (bF := bF) (bN := bN) (rE := rE) (cH := cH) (dE := dE) (qU := qU) (lO := lO) (oR := oR) (oP := oP) (nF := nF) (cO := cO) (iL := iL) (rP := rP) a1 hRP io1 r4 (fun i hi => (hp.2.1 i hi).1) inj io2 (fun oP' k1 k2 => ?_) (RP - io - 1) (RP + 2) 0 (-1) oP (by omega) (by omega) (fun z => ix_m1 (by omega) z.symm) (fun i a b => by omega) (fun x _ => rfl)
          · rw [← eRP] at key
            exact key
          · have hb := ta_pop hp r3 io1 io2 k1 k2
            obtain ⟨g1, g2⟩ := ta_leave1 hE (by omega) hI hn heq io1 io2 (ring := 1 < RP - io ∨ ∃ i, i < 4 ∧ gf_f rF w (qu (d - 1)) i = nI (qu (d - 1))) ⟨fun z => z.elim Or.inl fun z => Or.inr ⟨a1, hT, a1, z⟩, fun z => z.elim Or.inl fun z => Or.inr (hE _ _ z).2.2⟩
            refine x_leave75 hw a1 (by omega) (by omega) (fun z => ?_) (fun z => ?_)
            · exact go (qu (d - 1) :: Rs) _ oP' hb (g1 z)
            · exact go Rs most oP' hb (g2 z)
        · obtain ⟨hd2, g⟩ := ta_leave0 (by omega) hI hn (by omega)
          refine nm_r (sb_m1 (show 0 < d by omega)) (br_f (nI_ge (a := 0) (by omega) (by omega)) ?_)
          rw [ix_dec (show 1 ≤ d - 1 by omega), lo1, nI_clamp (show d - 1 - 1 < 2 ^ 31 by omega), r5 (d - 1 - 1) (by omega)]
          obtain ⟨b1, b2, b3⟩ := q1 (d - 1 - 1) (by omega)
          have hbz := o4 _ b1 b2
          have hbl := (l1 _ b1 b2).1
          have hbo := o2 _ b1
          refine ⟨vp_in_nI (by omega) (by omega), vo, x_lower b1 (by omega) (by omega) (r2 _ b1 hbz).1 fun l hl => nm_r (nI_1 i) ?_⟩
          have g' := g l hl
          refine ih (i + 1) cnt (d - 1) RP od _ nf rp qu op _ Rs most oR _ nF oP rP qU (by omega) (by omega) g' ⟨r1, fun x hx hz => ⟨?_, (r2 x hx hz).2⟩, r3, r4, rp_le r5 (by omega)⟩ hQ
          show upd lO (qu (d - 2)) (nI l) x = _
          by_cases c : x = qu (d - 2)
          · subst c; rw [pk_us, pz_us]
          · rw [pk_un c, pz_ud c]; exact (r2 x hx hz).1
      · refine br_f (ix_m1 (by omega)) (br_t rfl (nm_r (nI_1 i) (look _ lO hn (Or.inl ⟨rfl, fun y hy e => ?_⟩) same)))
        rw [he] at e
        exact absurd e.symm (ix_m1 (by omega))
      · have hne : p ≠ qu (d - 1) := fun z => by rw [z] at hz; exact hoz hz
        refine br_f (ix_m1 (by omega)) (br_f (fun z => hne ((nI_eq (by omega) (by omega)).mp z)) ?_)
        have hc24 : cnt < 24 := by
          have := nn_c_lt (p := fun o => decide (od o ≠ 0)) (q := fun _ => true) (j := p) (n := 24) (decide_eq_false (by omega)) rfl (fun _ _ _ => rfl) hp'
          rw [nn_c_all (p := fun _ => true) (fun _ _ => rfl), ← o1] at this
          exact this
        have hopp : op p = false := gx_f fun z => o4 p hp' z hz
        have hR24 : RP < 24 := by
          have := nn_c_lt (p := op) (q := fun _ => true) (j := p) (n := 24) hopp rfl (fun _ _ _ => rfl) hp'
          rw [nn_c_all (p := fun _ => true) (fun _ _ => rfl), ← hp.1] at this
          exact this
        have hdc : d ≤ cnt := by
          have := q5 (d - 1) (by omega)
          omega
        have hed : gE tH rF w (qu (d - 1)) p := ⟨a1, hT, hp', nf (qu (d - 1)), hn, he⟩
        refine ⟨vp_in_nI (by omega) (by omega), nm_r (e' := upd qU d (nI p)) (by rw [nI_clamp (by omega)]) (nm_r (nI_1 d) (x_enter hp' hR24 (nm_r (nI_1 i) ?_)))⟩
        -- first the enter, then the look
        have hlfp : lf p = false := gx_f fun z => o6 p hp' z hz
        have hm1 := ta_m_look (nf := nf) a1 hoz a3 hn
        have hm2 := ta_m_enter (cnt := cnt) (nf := pz_un nf (qu (d - 1)) (nf (qu (d - 1)) + 1)) hp' hz hlfp
        have e1 := ta_enter hI hp' hz (rc_step (d1 _ a1 hoz) hed id) (Or.inr ⟨by omega, hed⟩)
        have hI2 : ta_I (gE tH rF w) (gA tH rF rT w) (gf_f rF w) (cnt + 1) (d + 1) (RP + 1) (pz_un od p (cnt + 1)) (pz_un lw p (cnt + 1)) (pz_un (pz_un nf (qu (d - 1)) (nf (qu (d - 1)) + 1)) p 0) (pz_un rp RP p) (pz_un qu d p) (pz_ub op p true) lf Rs most := by
          obtain ⟨s1, s2, s3, ⟨t1, t2, t3, t4, t5, t6⟩, s5⟩ := e1
          have nfe : ∀ x, x ≠ qu (d - 1) → pz_un (pz_un nf (qu (d - 1)) (nf (qu (d - 1)) + 1)) p 0 x = pz_un nf p 0 x := fun x hx => by
            by_cases c : x = p
            · subst c; rw [pz_us, pz_us]
            · rw [pz_ud c, pz_ud c, pz_ud hx]
          have nfo : pz_un (pz_un nf (qu (d - 1)) (nf (qu (d - 1)) + 1)) p 0 (qu (d - 1)) = nf (qu (d - 1)) + 1 := by rw [pz_ud fun z => hne z.symm, pz_us]
          have nfo' : pz_un nf p 0 (qu (d - 1)) = nf (qu (d - 1)) := pz_ud fun z => hne z.symm
          refine ⟨s1, s2, s3, ⟨t1, fun x j y hx hox hj hj4 hy hf => ?_, fun x hx hox => ?_, fun x hx hox hlx => ?_, t5, t6⟩, s5⟩
          · by_cases c : x = qu (d - 1)
            · subst c
              rw [nfo] at hj
              by_cases g : j = nf (qu (d - 1))
              · subst g
                rw [he] at hf
                have : p = y := (nI_eq (by omega) (by omega)).mp hf
                subst this
                refine Or.inr ⟨pz_ubs, ?_⟩
                rw [pz_us, pz_ud fun z => hne z.symm]
                omega
              · exact t2 _ j y hx hox (by rw [nfo']; omega) hj4 hy hf
            · rw [nfe x c] at hj
              exact t2 x j y hx hox hj hj4 hy hf
          · by_cases c : x = qu (d - 1)
            · subst c; rw [nfo]; omega
            · rw [nfe x c]; exact t3 x hx hox
          · have c : x ≠ qu (d - 1) := fun z => by rw [z, a3] at hlx; exact nomatch hlx
            rw [nfe x c]; exact t4 x hx hox hlx
        refine ih (i + 1) (cnt + 1) (d + 1) (RP + 1) _ _ _ _ _ _ lf Rs most _ _ _ _ _ _ (by omega) (by omega) hI2 ⟨rp_upd r1, fun x hx hzx => ?_, rb_upd (b := true) r3, rp_push r4, rp_push r5⟩ (fun x hx q => by
          by_cases c : x = p
          · subst c; rw [pz_us]; omega
          · rw [pz_ud c]; exact hQ x hx q)
        by_cases c : x = p
        · subst c; rw [pk_us, pk_us, pz_us, pz_us]; exact ⟨rfl, rfl⟩
        · rw [pz_ud c] at hzx
          rw [pk_un c, pk_un c, pz_ud c, pz_ud c]
          refine ⟨(r2 x hx hzx).1, ?_⟩
          by_cases c' : x = qu (d - 1)
          · subst c'; rw [pk_us, pz_us]
          · rw [pk_un c', pz_ud c']; exact (r2 x hx hzx).2
      · refine br_f (ix_m1 (by omega)) (br_t rfl (nm_r (nI_1 i) (look _ lO hn (Or.inl ⟨rfl, fun y hy e => ?_⟩) same)))
        rw [he] at e
        have : p = y := (nI_eq (by omega) (by omega)).mp e
        subst this
        exact Or.inl ⟨hz, hop⟩
      · refine br_f (ix_m1 (by omega)) (br_t rfl (nm_r (nI_1 i) (look l _ hn (Or.inr ⟨p, hp', hop, he, ⟨a1, hT, hp', nf (qu (d - 1)), hn, he⟩, hl⟩) fun x hx hzx => ?_)))
        by_cases c : x = qu (d - 1)
        · subst c; rw [pk_us, pz_us]
        · rw [pk_un c, pz_ud c]; exact (r2 x hx hzx).1
end
end
section
/-! X: rings, the whole; Y: rings -/
theorem ta_start {E : Nat → Nat → Prop} {A : Nat → Prop} {rf : Nat → Nat → Int32} {lw nf rp qu : Nat → Nat} : ta_I E A rf 0 0 0 (fun _ => 0) lw nf rp qu (fun _ => false) (fun _ => false) [] 0 := by
  refine ⟨⟨?_, fun _ _ => Nat.le_refl 0, fun a b _ _ _ h => absurd rfl h, fun _ _ z => (nomatch z), fun _ _ _ z => absurd rfl z, fun _ _ z => (nomatch z)⟩, ⟨?_, fun i hi => by omega, fun i j _ hj => by omega, fun _ _ z => (nomatch z)⟩, ⟨fun i hi => by omega, fun i j _ hj => by omega, fun i hi => by omega, fun _ _ z => absurd rfl z, fun i hi => by omega⟩,
    ⟨fun _ _ z => (nomatch z), fun _ _ _ _ z => (nomatch z), fun _ _ z => (nomatch z), fun _ _ z => (nomatch z), fun _ _ _ z => (nomatch z), fun _ _ z => (nomatch z)⟩, ⟨fun _ _ z => absurd rfl z, fun _ _ _ z => absurd rfl z, fun r hr => absurd hr List.not_mem_nil, List.Pairwise.nil, fun x hx => absurd rfl hx.2.1, fun r hr => absurd hr List.not_mem_nil, Or.inl rfl⟩⟩
  · exact (nn_c_none fun _ _ => rfl).symm
  · exact (nn_c_none fun _ _ => rfl).symm
theorem ta_m_le (od nf : Nat → Nat) (lf : Nat → Bool) : ta_m od nf lf ≤ 120 := by
  unfold ta_m
  have := sn_le (f := fun x => if od x = 0 then 5 else if lf x = true then 0 else 5 - nf x) (g := fun _ => 5) (n := 24) (fun i _ => by
    show (if od i = 0 then 5 else if lf i = true then 0 else 5 - nf i) ≤ 5
    split
    · omega
    · split <;> omega)
  rw [sn_const] at this
  omega
section
variable {fM fO fC fX fP : Int32} {tH kD sZ rF rT nU oB pA pI pF sE aN lA dM bF bN rE cH dE qU lO oR oP nF cO iL rP : Nat → Int32}
theorem x_ringsFrom {post : SX → Prop} {w p : Nat} {Q : Nat → Prop} (hw : w < 3) (ok : gOk tH rF rT w)
    {cnt RP : Nat} {od lw nf rp qu : Nat → Nat} {op lf : Nat → Bool} {Rs : List Nat} {most : Nat} (hI : ta_I (gE tH rF w) (gA tH rF rT w) (gf_f rF w) cnt 0 RP od lw nf rp qu op lf Rs most) (hR : ta_rep oR lO nF oP rP qU 0 RP od lw nf rp qu op) (hp : p < 24) (hz : od p = 0) (hA : gA tH rF rT w p) (hQ : ∀ x, x < 24 → Q x → x ≠ p → od x ≠ 0)
    (K : ∀ (cnt RP : Nat) (od lw nf rp qu : Nat → Nat) (op lf : Nat → Bool) (Rs : List Nat) (most : Nat) (oR lO nF oP rP qU : Nat → Int32), ta_I (gE tH rF w) (gA tH rF rT w) (gf_f rF w) cnt 0 RP od lw nf rp qu op lf Rs most → ta_rep oR lO nF oP rP qU 0 RP od lw nf rp qu op → (∀ x, x < 24 → Q x → od x ≠ 0) →
      post (fM, (nI cnt), (nI Rs.length), (nI most), (nI RP), tH, kD, sZ, rF, rT, nU, oB, pA, pI, pF, sE, aN, lA, dM, bF, bN, rE, cH, dE, qU, lO, oR, oP, nF, cO, iL, rP)) :
    wpX_findRingsFrom post (fM, (nI cnt), (nI Rs.length), (nI most), (nI RP), tH, kD, sZ, rF, rT, nU, oB, pA, pI, pF, sE, aN, lA, dM, bF, bN, rE, cH, dE, qU, lO, oR, oP, nF, cO, iL, rP) (nI w) (nI p) := by
  unfold wpX_findRingsFrom
  have hI' := hI
  obtain ⟨⟨o1, o2, o3, o4, o5, o6⟩, hpp, _, _, _⟩ := hI'
  obtain ⟨r1, r2, r3, r4, r5⟩ := hR
  have hopp : op p = false := gx_f fun z => o4 p hp z hz
  have hR24 : RP < 24 := by
    have := nn_c_lt (p := op) (q := fun _ => true) (j := p) (n := 24) hopp rfl (fun _ _ _ => rfl) hp
    rw [nn_c_all (p := fun _ => true) (fun _ _ => rfl), ← hpp.1] at this
    exact this
  refine nm_e (x_enter hp hR24 ⟨201, ?_⟩)
  have e1 := ta_enter hI hp hz hA (Or.inl rfl)
  refine x_fr17 (Q := Q) hw ok K 201 0 (cnt + 1) (0 + 1) (RP + 1) _ _ _ _ _ _ lf Rs most _ _ _ _ _ _ (by omega) ?_ e1 ⟨rp_upd r1, fun x hx hzx => ?_, rb_upd (b := true) r3, rp_push r4, rp_push r5⟩ (fun x hx q => ?_)
  · have := ta_m_le (pz_un od p (cnt + 1)) (pz_un nf p 0) lf
    omega
  · by_cases c : x = p
    · subst c; rw [pk_us, pk_us, pz_us, pz_us]; exact ⟨rfl, rfl⟩
    · rw [pz_ud c] at hzx
      rw [pk_un c, pk_un c, pz_ud c, pz_ud c]
      exact r2 x hx hzx
  · by_cases c : x = p
    · subst c; rw [pz_us]; omega
    · rw [pz_ud c]; exact hQ x hx q c
theorem x_fr50 {post : SX → Prop} {w : Nat} (hw : w < 3) (ok : gOk tH rF rT w)
    (K : ∀ (cnt RP : Nat) (od lw nf rp qu : Nat → Nat) (op lf : Nat → Bool) (Rs : List Nat) (most : Nat) (oR lO nF oP rP qU : Nat → Int32), ta_I (gE tH rF w) (gA tH rF rT w) (gf_f rF w) cnt 0 RP od lw nf rp qu op lf Rs most → (∀ x, gR rT w x → od x ≠ 0) →
      post (fM, (nI cnt), (nI Rs.length), (nI most), (nI RP), tH, kD, sZ, rF, rT, nU, oB, pA, pI, pF, sE, aN, lA, dM, bF, bN, rE, cH, dE, qU, lO, oR, oP, nF, cO, iL, rP)) :
    ∀ (n r cnt RP : Nat) (od lw nf rp qu : Nat → Nat) (op lf : Nat → Bool) (Rs : List Nat) (most : Nat) (oR lO nF oP rP qU : Nat → Int32), 4 < n + r → r ≤ 4 → ta_I (gE tH rF w) (gA tH rF rT w) (gf_f rF w) cnt 0 RP od lw nf rp qu op lf Rs most → ta_rep oR lO nF oP rP qU 0 RP od lw nf rp qu op →
      (∀ x, x < 24 → (∃ i, i < r ∧ gt_r rT w i = nI x) → od x ≠ 0) →
      wX_findRings_50 post (nI w) n (nI r) fM (nI cnt) (nI Rs.length) (nI most) (nI RP) tH kD sZ rF rT nU oB pA pI pF sE aN lA dM bF bN rE cH dE qU lO oR oP nF cO iL rP := by
  intro n
  induction n with
  | zero => intro r cnt RP od lw nf rp qu op lf Rs most oR lO nF oP rP qU h0 h1; omega
  | succ n ih =>
    intro r cnt RP od lw nf rp qu op lf Rs most oR lO nF oP rP qU h0 h1 hI hR hQ
    rw [wX_findRings_50]
    by_cases c : r = 4
    · subst c
      exact br_t (nI_le (a := 4) (b := 4) (by omega) (by omega)) (K cnt RP od lw nf rp qu op lf Rs most oR lO nF oP rP qU hI (fun x hx => hQ x hx.1 hx.2))
    · refine br_f (nI_ge (b := 4) (by omega) (by omega)) ?_
      rw [ix_r, nI_clamp (by omega)]
      refine ⟨vp_in_nI (by omega) (by omega), nm_e ?_⟩
      have er : gt_r rT w r = rT (4 * w + r) := rfl
      rcases ok.1 r (by omega) with f | ⟨p, f1, f2, f3⟩
      · rw [← er, f]
        refine br_t rfl (nm_r (nI_1 r) (ih (r + 1) cnt RP od lw nf rp qu op lf Rs most oR lO nF oP rP qU (by omega) (by omega) hI hR ?_))
        rintro x hx ⟨i, i1, i2⟩
        by_cases d : i = r
        · subst d; rw [f] at i2; exact absurd i2.symm (ix_m1 (by omega))
        · exact hQ x hx ⟨i, by omega, i2⟩
      · rw [← er, f2]
        have split : ∀ x, x < 24 → (∃ i, i < r + 1 ∧ gt_r rT w i = nI x) → x ≠ p → od x ≠ 0 := by
          rintro x hx ⟨i, i1, i2⟩ hne
          by_cases d : i = r
          · subst d; rw [f2] at i2; exact absurd ((nI_eq (by omega) (by omega)).mp i2).symm hne
          · exact hQ x hx ⟨i, by omega, i2⟩
        refine br_f (ix_m1 (by omega)) ⟨vp_in_nI f1 (by omega), ?_⟩
        rw [nI_clamp (show p < 2 ^ 31 by omega), hR.1 p f1]
        have hb := hI.1.2.1 p f1
        have hc : cnt ≤ 24 := by rw [hI.1.1]; exact nn_c_le _ 24
        refine pk_eq (od p) 0 (fun g => ?_) (fun g => ?_)
        · refine x_ringsFrom (Q := fun x => ∃ i, i < r + 1 ∧ gt_r rT w i = nI x) hw ok hI hR f1 g (rc_root ⟨f1, r, by omega, f2⟩ id) split fun cnt' RP' od' lw' nf' rp' qu' op' lf' Rs' most' oR' lO' nF' oP' rP' qU' g1 g2 g3 => ?_
          exact nm_r (nI_1 r) (ih (r + 1) cnt' RP' od' lw' nf' rp' qu' op' lf' Rs' most' oR' lO' nF' oP' rP' qU' (by omega) (by omega) g1 g2 g3)
        · refine nm_r (nI_1 r) (ih (r + 1) cnt RP od lw nf rp qu op lf Rs most oR lO nF oP rP qU (by omega) (by omega) hI hR fun x hx hex => ?_)
          by_cases d : x = p
          · subst d; exact g
          · exact split x hx hex d
theorem x_fr2 {post : SX → Prop} {w : Nat} (hw : w < 3) (ok : gOk tH rF rT w)
    (K : ∀ (cnt RP : Nat) (od lw nf rp qu : Nat → Nat) (op lf : Nat → Bool) (Rs : List Nat) (most : Nat) (oR lO nF oP rP qU : Nat → Int32), ta_I (gE tH rF w) (gA tH rF rT w) (gf_f rF w) cnt 0 RP od lw nf rp qu op lf Rs most → (∀ x, gR rT w x → od x ≠ 0) →
      post (fM, (nI cnt), (nI Rs.length), (nI most), (nI RP), tH, kD, sZ, rF, rT, nU, oB, pA, pI, pF, sE, aN, lA, dM, bF, bN, rE, cH, dE, qU, lO, oR, oP, nF, cO, iL, rP)) :
    ∀ (n i : Nat) (oR oP : Nat → Int32), 24 < n + i → i ≤ 24 → (∀ x, x < i → oR x = 0 ∧ oP x = 0) → wX_findRings_2 post (nI w) fM fO fC fX fP n (nI i) tH kD sZ rF rT nU oB pA pI pF sE aN lA dM bF bN rE cH dE qU lO oR oP nF cO iL rP := by
  intro n
  induction n with
  | zero => intro i oR oP h1 h2; omega
  | succ n ih =>
    intro i oR oP h1 h2 h3
    rw [wX_findRings_2]
    by_cases c : i = 24
    · subst c
      refine br_t (nI_le (a := 24) (b := 24) (by omega) (by omega)) ⟨5, ?_⟩
      exact x_fr50 hw ok K 5 0 0 0 (fun _ => 0) (fun _ => 0) (fun _ => 0) (fun _ => 0) (fun _ => 0) (fun _ => false) (fun _ => false) [] 0 oR lO nF oP rP qU (by omega) (by omega) ta_start ⟨fun x hx => (h3 x hx).1, fun x hx z => absurd rfl z, fun x hx => (h3 x hx).2, fun x hx => by omega, fun x hx => by omega⟩ (fun x _ ⟨i, hi, _⟩ => by omega)
    · have ei : (nI i).toNatClampNeg = i := nI_clamp (by omega)
      have vi : vp_in (nI i) 24 := vp_in_nI (by omega) (by omega)
      refine br_f (nI_ge (b := 24) (by omega) (by omega)) ⟨vi, nm_r (e' := upd oR i 0) (by rw [ei]) ⟨vi, nm_r (e' := upd oP i 0) (by rw [ei]; rfl) (nm_r (nI_1 i) (ih (i + 1) _ _ (by omega) (by omega) fun x hx => ?_))⟩⟩
      by_cases d : x = i
      · subst d; rw [pk_us, pk_us]; exact ⟨rfl, rfl⟩
      · rw [pk_un d, pk_un d]; exact h3 x (by omega)
/-- the rings of a place -/
theorem x_findRings {post : SX → Prop} {w : Nat} (hw : w < 3) (ok : gOk tH rF rT w)
    (K : ∀ (f1 f2 : Int32) (L : List Nat) (most : Nat) (oR lO nF oP rP qU : Nat → Int32), Rg_s (gE tH rF w) (gA tH rF rT w) L most →
      post (fM, f1, (nI L.length), (nI most), f2, tH, kD, sZ, rF, rT, nU, oB, pA, pI, pF, sE, aN, lA, dM, bF, bN, rE, cH, dE, qU, lO, oR, oP, nF, cO, iL, rP)) : wpX_findRings post (fM, fO, fC, fX, fP, tH, kD, sZ, rF, rT, nU, oB, pA, pI, pF, sE, aN, lA, dM, bF, bN, rE, cH, dE, qU, lO, oR, oP, nF, cO, iL, rP) (nI w) := by
  unfold wpX_findRings
  refine ⟨25, x_fr2 hw ok (fun cnt RP od lw nf rp qu op lf Rs most oR lO nF oP rP qU hI hQ => K _ _ Rs most oR lO nF oP rP qU ?_) 25 0 oR oP (by omega) (by omega) (fun x hx => by omega)⟩
  obtain ⟨h1, h2, h3, ⟨l1, l2, l3, l4, l5, l6⟩, ⟨d1, d2, d3⟩⟩ := hI
  have hop : ∀ x, x < 24 → op x = false := fun x hx => gx_f fun z => by have := (l6 x hx z).1; omega
  have e : (fun x => x < 24 ∧ od x ≠ 0 ∧ op x = false) = gA tH rF rT w := by
    funext x
    refine propext ⟨fun g => d1 x g.1 g.2.1, fun g => ?_⟩
    have : x < 24 ∧ od x ≠ 0 := by
      refine rc_ind (S := fun x => x < 24 ∧ od x ≠ 0) g (fun b hb _ => ⟨hb.1, hQ b hb⟩) (fun a b _ ha he _ => ⟨he.2.2.1, (d2 a b ha.1 ha.2 (hop a ha.1) he).1⟩)
    exact ⟨this.1, this.2, hop x this.1⟩
  rw [e] at d3
  exact d3
end
end
section
/-! Y: comesTo, ringOf, countRings -/
def yc_P (fD : Nat → Int32) (w o : Nat) (A : Nat → Prop) (b : Int32) (k : Nat) (s : Int32) : Prop :=
  (∀ x, bt s x = true → x < 24 ∧ A x) ∧ (∀ x, bt b x = true → bt s x = true) ∧
  (∀ j q, j < k → (j / 4 = o ∨ bt b (j / 4) = true) → q < 24 → fD (96 * w + j) = nI q → bt s q = true)
section
variable {tH kD sZ fD rT fA lI : Nat → Int32}
theorem yc_17 {post : Int32 → Prop} {J : Int32 → Int32 → Prop} {w o : Nat} {b x4 : Int32} (hw : w < 3) (ho : o < 24) (hT : gT tH w o) (ok : gOk tH fD rT w)
    (K : ∀ s, yc_P fD w o (Tc_s (gE tH fD w) o) b 96 s → J s x4) :
    ∀ (n k : Nat) (s : Int32), 96 < n + k → k ≤ 96 → yc_P fD w o (Tc_s (gE tH fD w) o) b k s → wY_comesTo_17 post J (nI w) (nI o) x4 tH kD sZ fD rT fA lI n s (nI k) := by
  intro n
  induction n with
  | zero => intro i s h1 h2; omega
  | succ n ih =>
    intro k s h1 h2 hs
    rw [wY_comesTo_17]
    by_cases c : k = 96
    · subst c
      exact br_t (nI_le (a := 96) (b := 96) (by omega) (by omega)) (K s hs)
    · refine br_f (nI_ge (b := 96) (by omega) (by omega)) ⟨by decide, ?_⟩
      obtain ⟨s1, s2, s3⟩ := hs
      have e4 : nI k / 4 = nI (k / 4) := pk_div (d := 4) (by omega) (by omega) (by omega)
      rw [e4]
      have skip : (¬ (k / 4 = o ∨ bt s (k / 4) = true) ∨ fD (96 * w + k) = -1) → wY_comesTo_17 post J (nI w) (nI o) x4 tH kD sZ fD rT fA lI n s (nI (k + 1)) := by
        intro g
        refine ih (k + 1) s (by omega) (by omega) ⟨s1, s2, fun j q hj hb hq hf => ?_⟩
        by_cases d : j = k
        · subst d
          rcases g with g | g
          · exact absurd (hb.elim Or.inl fun z => Or.inr (s2 _ z)) g
          · rw [g] at hf; exact absurd hf.symm (ix_m1 (by omega))
        · exact s3 j q (by omega) hb hq hf
      have take : (k / 4 = o ∨ bt s (k / 4) = true) → wY_comesTo_44 post J (wY_comesTo_17 post J (nI w) (nI o) x4 tH kD sZ fD rT fA lI n) (nI w) (nI o) s x4 (nI k) tH kD sZ fD rT fA lI := by
        intro g
        have hA : k / 4 < 24 ∧ gT tH w (k / 4) ∧ Rr_s (gE tH fD w) o (k / 4) := by
          rcases g with g | g
          · rw [g]; exact ⟨ho, hT, rr_rf o⟩
          · obtain ⟨a1, a2⟩ := s1 _ g
            refine ⟨a1, ?_, tc_rr a2⟩
            rcases rr_cases (tc_rr a2) with z | z
            · rw [← z]; exact hT
            · exact rc_ind (S := fun y => gT tH w y) a2 (fun y hy _ => gE_T ok hy) (fun x y _ _ he _ => gE_T ok he)
        obtain ⟨a1, aT, aR⟩ := hA
        unfold wY_comesTo_44
        rw [ix_n, nI_clamp (by omega)]
        refine ⟨vp_in_nI (by omega) (by omega), ?_⟩
        unfold wY_comesTo_60
        rcases ok.2 (k / 4) a1 aT (k % 4) (by omega) with f | ⟨p, f1, f2, f3⟩
        · rw [← yl_slot] at f
          rw [f]
          exact br_t ix_lt0 (nm_r (nI_1 k) (skip (Or.inr f)))
        · have f2' := f2
          rw [← yl_slot] at f2
          rw [f2]
          refine br_f (nI_pos (by omega)) (nm_e (nm_r (nI_1 k) (ih (k + 1) _ (by omega) (by omega) ⟨fun x z => ?_, fun x z => ?_, fun j q hj hb hq hf => ?_⟩)))
          · rw [yb_or1 (by omega) (yb_lt z)] at z
            rcases z with z | z
            · exact s1 x z
            · subst z
              refine ⟨f1, ?_⟩
              have he : gE tH fD w (k / 4) x := ⟨a1, aT, f1, k % 4, by omega, f2'⟩
              rcases rr_cases aR with z | z
              · rw [z]; exact tc_e he
              · exact tc_st z he
          · exact (yb_or1 (by omega) (yb_lt z)).2 (Or.inl (s2 x z))
          · rw [yb_or1 (by omega) (by omega)]
            by_cases d : j = k
            · subst d
              rw [f2] at hf
              exact Or.inr ((nI_eq (by omega) (by omega)).mp hf).symm
            · exact Or.inl (s3 j q (by omega) hb hq hf)
      refine br_c (fun g => ?_) (fun g => ⟨by decide, br_c (fun g' => ?_) (fun g' => ?_)⟩)
      · exact take (Or.inl ((nI_eq (by omega) (by omega)).mp g))
      · rw [yb_is (by omega)] at g'
        exact take (Or.inr g')
      · rw [yb_is (by omega)] at g'
        unfold wY_comesTo_60
        refine br_t ix_lt0 (nm_r (nI_1 k) (skip (Or.inl fun z => z.elim (fun z => g ?_) g')))
        rw [z]
theorem yc_5 {post : Int32 → Prop} {w o : Nat} (hw : w < 3) (ho : o < 24) (hT : gT tH w o) (ok : gOk tH fD rT w) (K : ∀ s, ys_S s (Tc_s (gE tH fD w) o) → post s) :
    ∀ (n : Nat) (s b : Int32), (b ≠ s → 25 < n + nn_c (bt s) 24) → 1 ≤ n → (∀ x, bt s x = true → x < 24 ∧ Tc_s (gE tH fD w) o x) →
      (b = -1 ∨ yc_P fD w o (Tc_s (gE tH fD w) o) b 96 s) → wY_comesTo_5 post (nI w) (nI o) tH kD sZ fD rT fA lI n s b := by
  intro n
  induction n with
  | zero => intro s b h1 h2; omega
  | succ n ih =>
    intro s b h1 h2 h3 h5
    rw [wY_comesTo_5]
    by_cases c : b = s
    · refine br_t c (K s fun x => ⟨h3 x, fun z => ?_⟩)
      have hcl : yc_P fD w o (Tc_s (gE tH fD w) o) b 96 s := by
        rcases h5 with h5 | h5
        · have : bt s 31 = true := by rw [← c, h5]; exact b_m1 31 (by omega)
          have := (h3 31 this).1
          omega
        · exact h5
      subst c
      have key : ∀ a q, (a = o ∨ bt b a = true) → gE tH fD w a q → bt b q = true := by
        intro a q ha he
        obtain ⟨e1, e2, e3, i, e4, e5⟩ := he
        refine hcl.2.2 (4 * a + i) q (by omega) (by rw [show (4 * a + i) / 4 = a by omega]; exact ha) e3 ?_
        rw [← Nat.add_assoc]
        exact e5
      exact rc_ind (S := fun x => bt b x = true) z.2 (fun q hq _ => key o q (Or.inl rfl) hq) (fun a q _ ha he _ => key a q (Or.inr ha) he)
    · refine br_f c ⟨97, ?_⟩
      have hb := h1 c
      refine yc_17 (b := s) hw ho hT ok (fun s' hs' => ?_) 97 0 s (by omega) (by omega) ⟨h3, fun _ z => z, fun j q hj => by omega⟩
      refine ih s' s (fun hne => ?_) ?_ hs'.1 (Or.inr hs')
      · have hex : ∃ j, j < 24 ∧ bt s j = false ∧ bt s' j = true := by
          refine Classical.byContradiction fun hn => hne (yb_eq fun i hi => ⟨hs'.2.1 i, fun z => ?_⟩)
          refine Classical.byContradiction fun k => hn ⟨i, (hs'.1 i z).1, gx_f k, z⟩
        obtain ⟨j, j1, j2, j3⟩ := hex
        have := nn_c_lt (p := bt s) (q := bt s') j2 j3 (n := 24) (fun i _ z => hs'.2.1 i z) j1
        omega
      · have := nn_c_le (bt s) 24
        omega
theorem y_comesTo {post : Int32 → Prop} {w o : Nat} (hw : w < 3) (ho : o < 24) (hT : gT tH w o) (ok : gOk tH fD rT w) (K : ∀ s, ys_S s (Tc_s (gE tH fD w) o) → post s) : wpY_comesTo post (tH, kD, sZ, fD, rT, fA, lI) (nI w) (nI o) := by
  unfold wpY_comesTo
  refine ⟨27, yc_5 hw ho hT ok K 27 0 (-1) (fun _ => by omega) (by omega) (fun x z => ?_) (Or.inl rfl)⟩
  rw [b_0] at z
  exact nomatch z
theorem yr_24 {post : Int32 → Prop} {w o : Nat} {a : Int32} (hw : w < 3) (ho : o < 24) (hT : gT tH w o) (ok : gOk tH fD rT w) (ha : ys_S a (Tc_s (gE tH fD w) o)) (K : ∀ s, ys_S s (Eq_s (gE tH fD w) o) → post s) :
    ∀ (n i : Nat) (s : Int32), 24 < n + i → i ≤ 24 → ys_S s (fun x => x < i ∧ Eq_s (gE tH fD w) o x) → wY_ringOf_24 post (nI w) (nI o) a tH kD sZ fD rT fA lI n s (nI i) := by
  intro n
  induction n with
  | zero => intro i s h1 h2; omega
  | succ n ih =>
    intro i s h1 h2 hs
    rw [wY_ringOf_24]
    by_cases c : i = 24
    · subst c
      exact br_t (nI_le (a := 24) (b := 24) (by omega) (by omega)) (K s (ys_congr hs fun x hx => ⟨fun z => z.2, fun z => ⟨hx, z⟩⟩))
    · refine br_f (nI_ge (b := 24) (by omega) (by omega)) ?_
      have no : ¬ Eq_s (gE tH fD w) o i → wY_ringOf_61 post (wY_ringOf_24 post (nI w) (nI o) a tH kD sZ fD rT fA lI n) (nI w) (nI o) s a (nI i) tH kD sZ fD rT fA lI := by
        intro g
        unfold wY_ringOf_61 wY_ringOf_62
        refine br_t rfl (nm_r (nI_1 i) (ih (i + 1) s (by omega) (by omega) (ys_congr hs fun x hx => ⟨fun z => ⟨by omega, z.2⟩, fun z => ⟨?_, z.2⟩⟩)))
        have : x ≠ i := fun e => by subst e; exact g z.2
        omega
      refine br_c (fun g => ?_) (fun g => ?_)
      · rw [yb_is (by omega)] at g
        obtain ⟨g1, g2⟩ := (ha i).1 g
        have hTi : gT tH w i := rc_ind (S := fun y => gT tH w y) g2 (fun y hy _ => gE_T ok hy) (fun x y _ _ he _ => gE_T ok he)
        refine y_comesTo hw g1 hTi ok fun t ht => br_c (fun q => ?_) (fun q => ?_)
        · rw [yb_is (by omega)] at q
          have q2 := ((ht o).1 q).2
          unfold wY_ringOf_62
          refine br_f (by decide) (nm_e (nm_r (nI_1 i) (ih (i + 1) _ (by omega) (by omega) fun x => ?_)))
          constructor
          · intro z
            rw [yb_or1 (by omega) (yb_lt z), hs x] at z
            rcases z with z | z
            · exact ⟨z.1, by omega, z.2.2⟩
            · subst z; exact ⟨by omega, by omega, g2, q2⟩
          · intro z
            rw [yb_or1 (by omega) (by omega), hs x]
            by_cases d : x = i
            · exact Or.inr d
            · exact Or.inl ⟨z.1, by omega, z.2.2⟩
        · rw [yb_is (by omega)] at q
          exact no fun z => q ((ht o).2 ⟨ho, z.2⟩)
      · rw [yb_is (by omega)] at g
        exact no fun z => g ((ha i).2 ⟨by omega, z.1⟩)
theorem y_ringOf {post : Int32 → Prop} {w o : Nat} (hw : w < 3) (ho : o < 24) (hT : gT tH w o) (ok : gOk tH fD rT w) (K : ∀ s, ys_S s (Eq_s (gE tH fD w) o) → post s) : wpY_ringOf post (tH, kD, sZ, fD, rT, fA, lI) (nI w) (nI o) := by
  unfold wpY_ringOf
  refine y_comesTo hw ho hT ok fun a ha => br_c (fun g => ?_) (fun g => ⟨25, ?_⟩)
  · rw [yb_no (by omega)] at g
    refine K 0 (ys_congr ys_0 fun x _ => ⟨fun z => z.elim, fun z => ?_⟩)
    have : bt a o = true := (ha o).2 ⟨ho, tc_rr_tr z.1 (tc_rr z.2)⟩
    rw [g] at this
    exact nomatch this
  · exact yr_24 hw ho hT ok ha K 25 0 0 (by omega) (by omega) (ys_congr ys_0 fun x _ => ⟨fun z => z.elim, fun z => by omega⟩)
theorem yr_11 {post : Int32 → Prop} {w : Nat} {x2 : Int32} (hw : w < 3) (ok : gOk tH fD rT w)
    (K : ∀ (L : List Nat) (most : Nat), Rg_s (gE tH fD w) (gA tH fD rT w) L most → (x2 = 0 → post (nI L.length)) ∧ (¬ x2 = 0 → post (nI most))) :
    ∀ (n i : Nat) (L : List Nat) (most : Nat) (dn : Int32), 24 < n + i → i ≤ 24 → Rg_s (gE tH fD w) (fun x => gA tH fD rT w x ∧ x < i) L most → ys_S dn (fun x => ∃ r, r ∈ L ∧ Eq_s (gE tH fD w) r x) →
      wY_countRings_11 post (nI w) x2 tH kD sZ fD rT fA lI n (nI L.length) (nI most) dn (nI i) := by
  intro n
  induction n with
  | zero => intro i L most dn h1 h2; omega
  | succ n ih =>
    intro i L most dn h1 h2 hR hd
    rw [wY_countRings_11]
    have hR' := hR
    obtain ⟨r1, r2, r3, r4, r5⟩ := hR'
    by_cases c : i = 24
    · subst c
      refine br_t (nI_le (a := 24) (b := 24) (by omega) (by omega)) (K L most ?_)
      have e : (fun x => gA tH fD rT w x ∧ x < 24) = gA tH fD rT w := by
        funext x
        exact propext ⟨fun z => z.1, fun z => ⟨z, (gA_T ok z).1⟩⟩
      rw [e] at hR
      exact hR
    · refine br_f (nI_ge (b := 24) (by omega) (by omega)) ?_
      have keep : (gA tH fD rT w i → Tc_s (gE tH fD w) i i → ∃ r, r ∈ L ∧ Eq_s (gE tH fD w) i r) → Rg_s (gE tH fD w) (fun x => gA tH fD rT w x ∧ x < i + 1) L most := by
        intro g
        refine ⟨fun r hr => ⟨⟨(r1 r hr).1.1, by have := (r1 r hr).1.2; omega⟩, (r1 r hr).2⟩, r2, fun x hx ht => ?_, r4, r5⟩
        by_cases d : x = i
        · subst d; exact g hx.1 ht
        · exact r3 x ⟨hx.1, by have := hx.2; omega⟩ ht
      refine br_c (fun g => ?_) (fun g => ?_)
      · rw [yb_no (by omega)] at g
        refine y_isAlive hw (by omega) ok (fun hA => ?_) (fun hA => ?_)
        · refine br_f (by decide) (y_ringOf hw (by omega) (gA_T ok hA).2 ok fun s hs => y_bits ?_)
          have hsz : nn_c (bt s) 24 = Sz_s (gE tH fD w) i := nn_c_congr fun x hx => by
            rw [hs x, pb_iff]
            exact ⟨fun z => z.2, fun z => ⟨hx, z⟩⟩
          have hle := nn_c_le (bt s) 24
          have hm24 := ta_most hR
          by_cases z : nn_c (bt s) 24 = 0
          · refine br_t ?_ ?_
            · rw [z]; exact nI_le (a := 0) (b := 0) (by omega) (by omega)
            · have es : s = 0 := by
                refine yb_eq fun x hx => ?_
                rw [b_0]
                refine ⟨fun q => ?_, (fun q => nomatch q)⟩
                exact absurd z (nn_c_ne ((hs x).1 q).1 q)
              unfold wY_countRings_67
              have e2 : dn ||| s = dn := by rw [es]; exact Int32.or_zero
              refine br_t (nI_le (by omega) (by omega)) (nm_r e2 (nm_r (nI_1 i) (ih (i + 1) L most dn (by omega) (by omega) (keep fun _ ht => ?_) hd)))
              have : bt s i = true := (hs i).2 ⟨by omega, ht, ht⟩
              exact absurd z (nn_c_ne (show i < 24 by omega) this)
          · refine br_f (nI_nle (by omega) (by omega)) ?_
            obtain ⟨a, a1, a2⟩ := nn_c_pos z
            have ha := ((hs a).1 a2).2
            have hii : Tc_s (gE tH fD w) i i := tc_rr_tr ha.1 (tc_rr ha.2)
            have hnew : ∀ most', (most' = if most < nn_c (bt s) 24 then nn_c (bt s) 24 else most) → wY_countRings_11 post (nI w) x2 tH kD sZ fD rT fA lI n (nI (i :: L).length) (nI most') (dn ||| s) (nI (i + 1)) := by
              intro most' hm
              refine ih (i + 1) (i :: L) most' _ (by omega) (by omega) ⟨fun r hr => ?_, ?_, fun x hx ht => ?_, fun r hr => ?_, ?_⟩ (fun x => ?_)
              · rcases List.mem_cons.mp hr with q | q
                · subst q; exact ⟨⟨hA, by omega⟩, hii⟩
                · exact ⟨⟨(r1 r q).1.1, by have := (r1 r q).1.2; omega⟩, (r1 r q).2⟩
              · rw [List.pairwise_cons]
                refine ⟨fun r hr e => ?_, r2⟩
                have : bt dn i = true := (hd i).2 ⟨by omega, r, hr, eq_sy e⟩
                rw [g] at this
                exact nomatch this
              · by_cases d : x = i
                · subst d; exact ⟨x, List.mem_cons_self, hii, hii⟩
                · obtain ⟨r, k1, k2⟩ := r3 x ⟨hx.1, by have := hx.2; omega⟩ ht
                  exact ⟨r, List.mem_cons_of_mem i k1, k2⟩
              · rcases List.mem_cons.mp hr with q | q
                · subst q; rw [← hsz, hm]; split <;> omega
                · have := r4 r q
                  rw [hm]; split <;> omega
              · right
                by_cases d : most < nn_c (bt s) 24
                · rw [hm, if_pos d]; exact ⟨i, List.mem_cons_self, hsz.symm⟩
                · rw [hm, if_neg d]
                  rcases r5 with r5 | ⟨r, k1, k2⟩
                  · omega
                  · exact ⟨r, List.mem_cons_of_mem i k1, k2⟩
              · rw [b_or, Bool.or_eq_true, hd x, hs x]
                constructor
                · rintro (⟨q, r, k1, k2⟩ | ⟨q, q'⟩)
                  · exact ⟨q, r, List.mem_cons_of_mem i k1, k2⟩
                  · exact ⟨q, i, List.mem_cons_self, q'⟩
                · rintro ⟨q, r, k1, k2⟩
                  rcases List.mem_cons.mp k1 with e | e
                  · subst e; exact Or.inr ⟨q, k2⟩
                  · exact Or.inl ⟨q, r, e, k2⟩
            unfold wY_countRings_67
            rw [nI_1 L.length]
            refine pk_le (nn_c (bt s) 24) most (fun q => nm_e (nm_r (nI_1 i) (hnew most ?_))) (fun q => nm_e (nm_r (nI_1 i) (hnew _ ?_)))
            · rw [if_neg (by omega)]
            · rw [if_pos q]
        · exact br_t rfl (nm_r (nI_1 i) (ih (i + 1) L most dn (by omega) (by omega) (keep fun z => absurd z hA) hd))
      · have g' : bt dn i = true := Classical.byContradiction fun z => g ((yb_no (by omega)).2 (gx_f z))
        obtain ⟨_, r, k1, k2⟩ := (hd i).1 g'
        exact nm_r (nI_1 i) (ih (i + 1) L most dn (by omega) (by omega) (keep fun _ _ => ⟨r, k1, eq_sy k2⟩) hd)
theorem y_countRings {post : Int32 → Prop} {w : Nat} {x2 : Int32} (hw : w < 3) (ok : gOk tH fD rT w)
    (K : ∀ (L : List Nat) (most : Nat), Rg_s (gE tH fD w) (gA tH fD rT w) L most → (x2 = 0 → post (nI L.length)) ∧ (¬ x2 = 0 → post (nI most))) : wpY_countRings post (tH, kD, sZ, fD, rT, fA, lI) (nI w) x2 := by
  unfold wpY_countRings
  refine ⟨25, yr_11 hw ok K 25 0 [] 0 0 (by omega) (by omega) ⟨fun r hr => absurd hr List.not_mem_nil, List.Pairwise.nil, fun x hx => by omega, fun r hr => absurd hr List.not_mem_nil, Or.inl rfl⟩ (ys_congr ys_0 fun x _ => ⟨fun z => z.elim, fun ⟨r, hr, _⟩ => absurd hr List.not_mem_nil⟩)⟩
end
end
section
/-! X: depths -/
/-- by k steps from a root -/
def Rk_d (R : Nat → Prop) (E : Nat → Nat → Prop) : Nat → Nat → Prop
  | 0, x => R x
  | k + 1, x => ∃ a, Rk_d R E k a ∧ E a x
/-- by k steps to o -/
def Bk_d (E : Nat → Nat → Prop) (o : Nat) : Nat → Nat → Prop
  | 0, x => x = o
  | k + 1, x => ∃ b, E x b ∧ Bk_d E o k b
/-- the search's state: n in the queue, the first i done, of the next one f fields -/
def bf_I (tH rF rT : Nat → Int32) (w n i f : Nat) (dp qu : Nat → Nat) : Prop :=
  n = nn_c (fun x => decide (dp x ≠ 0)) 24 ∧
  (∀ j, j < n → qu j < 24 ∧ gT tH w (qu j) ∧ dp (qu j) ≠ 0 ∧ dp (qu j) ≤ j + 1) ∧
  (∀ j k, j < k → k < n → dp (qu j) ≤ dp (qu k)) ∧
  (∀ x, x < 24 → dp x ≠ 0 → (∃ j, j < n ∧ qu j = x) ∧ Rk_d (gR rT w) (gE tH rF w) (dp x - 1) x) ∧
  (∀ j, j < n → i < n → dp (qu j) ≤ dp (qu i) + 1) ∧
  (∀ j s b, j < n → (j < i ∨ (j = i ∧ s < f)) → s < 4 → b < 24 → gf_f rF w (qu j) s = nI b → dp b ≠ 0 ∧ dp b ≤ dp (qu j) + 1)
section
variable {tH rF rT : Nat → Int32} {w n i f : Nat} {dp qu : Nat → Nat}
theorem bf_skip (h : bf_I tH rF rT w n i f dp qu) (hs : ∀ b, b < 24 → gf_f rF w (qu i) f = nI b → dp b ≠ 0) (hi : i < n) : bf_I tH rF rT w n i (f + 1) dp qu := by
  obtain ⟨h1, h2, h3, h4, h5, h6⟩ := h
  refine ⟨h1, h2, h3, h4, h5, fun j s b hj hc hs4 hb he => ?_⟩
  by_cases d : j = i ∧ s = f
  · obtain ⟨d1, d2⟩ := d
    subst d1; subst d2
    have hz := hs b hb he
    obtain ⟨⟨k, k1, k2⟩, _⟩ := h4 b hb hz
    have := h5 k k1 hi
    rw [k2] at this
    exact ⟨hz, this⟩
  · exact h6 j s b hj (by omega) hs4 hb he
theorem bf_next (h : bf_I tH rF rT w n i 4 dp qu) : bf_I tH rF rT w n (i + 1) 0 dp qu := by
  obtain ⟨h1, h2, h3, h4, h5, h6⟩ := h
  refine ⟨h1, h2, h3, h4, fun j hj hi => ?_, fun j s b hj hc hs4 hb he => h6 j s b hj (by omega) hs4 hb he⟩
  have := h5 j hj (by omega)
  have := h3 i (i + 1) (by omega) hi
  omega
/-- a new one -/
theorem bf_add {p v : Nat} (h : bf_I tH rF rT w n i f dp qu) (hp : p < 24) (hz : dp p = 0) (hT : gT tH w p) (hv : v ≠ 0) (hv1 : v ≤ n + 1) (hv2 : ∀ j, j < n → dp (qu j) ≤ v) (hv3 : i < n → v ≤ dp (qu i) + 1) (hk : Rk_d (gR rT w) (gE tH rF w) (v - 1) p) (hi : i ≤ n) (hf : i = n → f = 0) :
    bf_I tH rF rT w (n + 1) i f (pz_un dp p v) (pz_un qu n p) := by
  obtain ⟨h1, h2, h3, h4, h5, h6⟩ := h
  have hne : ∀ j, j < n → qu j ≠ p := fun j hj z => (h2 j hj).2.2.1 (by rw [z]; exact hz)
  have qo : ∀ j, j < n → pz_un qu n p j = qu j := fun j hj => pz_ud (by omega)
  have qn : pz_un qu n p n = p := pz_us
  have dpo : ∀ x, x ≠ p → pz_un dp p v x = dp x := fun x hx => pz_ud hx
  have dpp : pz_un dp p v p = v := pz_us
  refine ⟨?_, fun j hj => ?_, fun j k hjk hk => ?_, fun x hx hxz => ?_, fun j hj hin => ?_, fun j s b hj hc hs4 hb he => ?_⟩
  · rw [nn_c_ins (p := fun x => decide (dp x ≠ 0)) (j := p) (decide_eq_false (by omega)) (by rw [dpp]; exact decide_eq_true hv) (fun x _ hx => by rw [dpo x hx]) hp, ← h1]
  · by_cases c : j = n
    · subst c; rw [qn, dpp]; exact ⟨hp, hT, hv, hv1⟩
    · rw [qo j (by omega), dpo _ (hne j (by omega))]; exact h2 j (by omega)
  · rw [qo j (by omega), dpo _ (hne j (by omega))]
    by_cases c : k = n
    · subst c; rw [qn, dpp]; exact hv2 j hjk
    · rw [qo k (by omega), dpo _ (hne k (by omega))]; exact h3 j k hjk (by omega)
  · by_cases c : x = p
    · subst c; rw [dpp]; exact ⟨⟨n, by omega, qn⟩, hk⟩
    · rw [dpo x c] at hxz
      obtain ⟨⟨j, j1, j2⟩, j3⟩ := h4 x hx hxz
      rw [dpo x c]
      exact ⟨⟨j, by omega, by rw [qo j j1]; exact j2⟩, j3⟩
  · by_cases ci : i = n
    · rw [ci, qn, dpp]
      by_cases c : j = n
      · subst c; rw [qn, dpp]; omega
      · rw [qo j (by omega), dpo _ (hne j (by omega))]; have := hv2 j (by omega); omega
    · rw [qo i (by omega), dpo _ (hne i (by omega))]
      by_cases c : j = n
      · subst c; rw [qn, dpp]; exact hv3 (by omega)
      · rw [qo j (by omega), dpo _ (hne j (by omega))]; exact h5 j (by omega) (by omega)
  · by_cases c : j = n
    · have := hf (by omega); omega
    · rw [qo j (by omega)] at he
      obtain ⟨k1, k2⟩ := h6 j s b (by omega) hc hs4 hb he
      rw [qo j (by omega), dpo _ (hne j (by omega)), dpo b fun z => k1 (by rw [z]; exact hz)]
      exact ⟨k1, k2⟩
theorem bf_n (h : bf_I tH rF rT w n i f dp qu) : n ≤ 24 := by rw [h.1]; exact nn_c_le _ 24
theorem bf_n1 (h : bf_I tH rF rT w n i f dp qu) {p : Nat} (hp : p < 24) (hz : dp p = 0) : n < 24 := by
  have := nn_c_lt (p := fun x => decide (dp x ≠ 0)) (q := fun _ => true) (j := p) (n := 24) (decide_eq_false (by omega)) rfl (fun _ _ _ => rfl) hp
  rw [nn_c_all (p := fun _ => true) (fun _ _ => rfl), ← h.1] at this
  exact this
/-- what depths are -/
def Dp_d (tH rF rT : Nat → Int32) (w : Nat) (dp : Nat → Nat) : Prop :=
  (∀ x, x < 24 → dp x ≤ 24 ∧ (dp x ≠ 0 → Rk_d (gR rT w) (gE tH rF w) (dp x - 1) x)) ∧ (∀ k x, Rk_d (gR rT w) (gE tH rF w) k x → x < 24 ∧ dp x ≠ 0 ∧ dp x ≤ k + 1)
theorem bf_end (h : bf_I tH rF rT w n n 0 dp qu) (hr : ∀ x, gR rT w x → dp x = 1) : Dp_d tH rF rT w dp := by
  have hn := bf_n h
  obtain ⟨h1, h2, h3, h4, h5, h6⟩ := h
  refine ⟨fun x hx => ⟨?_, fun hz => (h4 x hx hz).2⟩, fun k => ?_⟩
  · by_cases c : dp x = 0
    · omega
    · obtain ⟨⟨j, j1, j2⟩, _⟩ := h4 x hx c
      have := (h2 j j1).2.2.2
      rw [j2] at this
      omega
  · induction k with
    | zero => intro x hx; have := hr x hx; exact ⟨hx.1, by omega, by omega⟩
    | succ k ih =>
      rintro x ⟨a, a1, a2, a3, a4, s, a5, a6⟩
      obtain ⟨b1, b2, b3⟩ := ih a a1
      obtain ⟨⟨j, j1, j2⟩, _⟩ := h4 a b1 b2
      rw [← j2] at a6
      obtain ⟨c1, c2⟩ := h6 j s x j1 (Or.inl j1) a5 a4 a6
      rw [j2] at c2
      exact ⟨a4, c1, by omega⟩
end
section
variable {fM fO fC fX fP : Int32} {tH kD sZ rF rT nU oB pA pI pF sE aN lA dM bF bN rE cH dE qU lO oR oP nF cO iL rP : Nat → Int32}
theorem x_fd107 {post : SX → Prop} {J : (Int32 → Int32 → (Nat → Int32) → (Nat → Int32) → (Nat → Int32) → (Nat → Int32) → (Nat → Int32) → (Nat → Int32) → (Nat → Int32) → (Nat → Int32) → (Nat → Int32) → (Nat → Int32) → (Nat → Int32) → (Nat → Int32) → (Nat → Int32) → (Nat → Int32) → (Nat → Int32) → (Nat → Int32) → (Nat → Int32) → (Nat → Int32) → (Nat → Int32) → (Nat → Int32) → (Nat → Int32) → (Nat → Int32) → (Nat → Int32) → (Nat → Int32) → (Nat → Int32) → (Nat → Int32) → (Nat → Int32) → Prop)} {w i : Nat} {rt1 : Nat → Prop} (hw : w < 3) (ok : gOk tH rF rT w)
    (K : ∀ (n : Nat) (dp qu : Nat → Nat) (dE qU : Nat → Int32), rp_a dE dp 24 → rp_a qU qu n → bf_I tH rF rT w n i 4 dp qu → i < n → (∀ x, x < 24 → rt1 x → dp x = 1) → J (nI n) (nI (i + 1)) tH kD sZ rF rT nU oB pA pI pF sE aN lA dM bF bN rE cH dE qU lO oR oP nF cO iL rP) :
    ∀ (m f n o : Nat) (dp qu : Nat → Nat) (dE qU : Nat → Int32), 4 < m + f → f ≤ 4 → rp_a dE dp 24 → rp_a qU qu n → bf_I tH rF rT w n i f dp qu → i < n → qu i = o → (∀ x, x < 24 → rt1 x → dp x = 1) →
      wX_findDepths_107 post J (nI w) (nI i) (nI o) fM fO fC fX fP m (nI n) (nI f) tH kD sZ rF rT nU oB pA pI pF sE aN lA dM bF bN rE cH dE qU lO oR oP nF cO iL rP := by
  intro m
  induction m with
  | zero => intro f n o dp qu dE qU h1 h2; omega
  | succ m ih =>
    intro f n o dp qu dE qU h1 h2 r1 r2 hI hi ho hrt
    rw [wX_findDepths_107]
    have hn := bf_n hI
    by_cases c : f = 4
    · subst c
      exact br_t (nI_le (a := 4) (b := 4) (by omega) (by omega)) (nm_r (nI_1 i) (K n dp qu dE qU r1 r2 hI hi hrt))
    · obtain ⟨o1, o2, o3, o4⟩ := hI.2.1 i hi
      rw [ho] at o1 o2 o3 o4
      refine br_f (nI_ge (b := 4) (by omega) (by omega)) (xs_target hw o1 (by omega) ?_)
      rcases ok.2 o o1 o2 f (by omega) with e | ⟨p, p1, p2, p3⟩
      · rw [e]
        refine br_t rfl (nm_r (nI_1 f) (ih (f + 1) n o dp qu dE qU (by omega) (by omega) r1 r2 (bf_skip hI (fun b hb he => ?_) hi) hi ho hrt))
        rw [ho, e] at he
        exact absurd he.symm (ix_m1 (by omega))
      · rw [p2]
        have vp : vp_in (nI p) 24 := vp_in_nI p1 (by omega)
        refine br_f (ix_m1 (by omega)) ⟨vp, ?_⟩
        rw [nI_clamp (show p < 2 ^ 31 by omega), r1 p p1]
        have hdb : dp p < 2 ^ 31 := by
          by_cases z : dp p = 0
          · omega
          · obtain ⟨⟨j, j1, j2⟩, _⟩ := hI.2.2.2.1 p p1 z
            have := (hI.2.1 j j1).2.2.2
            rw [j2] at this; omega
        refine pk_eq (dp p) 0 (fun z => ?_) (fun z => ?_)
        · have hn1 := bf_n1 hI p1 z
          have eo : (nI o).toNatClampNeg = o := nI_clamp (by omega)
          refine ⟨vp_in_nI o1 (by omega), vp, nm_r (e' := upd dE p (nI (dp o + 1))) (by rw [eo, r1 o o1, nI_1]) ⟨vp_in_nI hn1 (by omega), nm_r (e' := upd qU n (nI p)) (by rw [nI_clamp (by omega)]) (nm_r (nI_1 n) (nm_r (nI_1 f) ?_))⟩⟩
          have hed : gE tH rF w o p := ⟨o1, o2, p1, f, by omega, p2⟩
          have hk : Rk_d (gR rT w) (gE tH rF w) (dp o + 1 - 1) p := by
            rw [Nat.add_sub_cancel]
            have := (hI.2.2.2.1 o o1 o3).2
            obtain ⟨d, hd⟩ : ∃ d, dp o = d + 1 := ⟨dp o - 1, by omega⟩
            rw [hd, Nat.add_sub_cancel] at this
            rw [hd]
            exact ⟨o, this, hed⟩
          have hadd := bf_add (p := p) (v := dp o + 1) hI p1 z p3 (by omega) (by omega) (fun j hj => by have := hI.2.2.2.2.1 j hj hi; rw [ho] at this; exact this) (fun _ => by rw [ho]; exact Nat.le_refl _) hk (by omega) (by omega)
          have hne : o ≠ p := fun e => by rw [e] at o3; exact o3 z
          refine ih (f + 1) (n + 1) o _ _ _ _ (by omega) (by omega) (rp_upd r1) (rp_push r2) (bf_skip hadd (fun b hb he => ?_) (by omega)) (by omega) (by rw [pz_ud (by omega)]; exact ho) (fun x hx hrx => ?_)
          · rw [pz_ud (by omega), ho, p2] at he
            have : p = b := (nI_eq (by omega) (by omega)).mp he
            subst this
            rw [pz_us]; omega
          · rw [pz_ud fun e => by rw [e] at hrx; have := hrt p p1 hrx; omega]; exact hrt x hx hrx
        · refine nm_r (nI_1 f) (ih (f + 1) n o dp qu dE qU (by omega) (by omega) r1 r2 (bf_skip hI (fun b hb he => ?_) hi) hi ho hrt)
          rw [ho, p2] at he
          have : p = b := (nI_eq (by omega) (by omega)).mp he
          subst this
          exact z
theorem x_fd85 {post : SX → Prop} {w : Nat} (hw : w < 3) (ok : gOk tH rF rT w) (K : ∀ (dp : Nat → Nat) (dE qU : Nat → Int32), rp_a dE dp 24 → Dp_d tH rF rT w dp → post (fM, fO, fC, fX, fP, tH, kD, sZ, rF, rT, nU, oB, pA, pI, pF, sE, aN, lA, dM, bF, bN, rE, cH, dE, qU, lO, oR, oP, nF, cO, iL, rP)) :
    ∀ (m i n : Nat) (dp qu : Nat → Nat) (dE qU : Nat → Int32), 24 < m + i → i ≤ n → rp_a dE dp 24 → rp_a qU qu n → bf_I tH rF rT w n i 0 dp qu → (∀ x, x < 24 → gR rT w x → dp x = 1) →
      wX_findDepths_85 post (nI w) fM fO fC fX fP m (nI n) (nI i) tH kD sZ rF rT nU oB pA pI pF sE aN lA dM bF bN rE cH dE qU lO oR oP nF cO iL rP := by
  intro m
  induction m with
  | zero => intro i n dp qu dE qU h1 h2 r1 r2 hI; have := bf_n hI; omega
  | succ m ih =>
    intro i n dp qu dE qU h1 h2 r1 r2 hI hrt
    rw [wX_findDepths_85]
    have hn := bf_n hI
    by_cases c : i = n
    · subst c
      exact br_t (nI_le (Nat.le_refl i) (by omega)) (K dp dE qU r1 (bf_end hI fun x hx => hrt x hx.1 hx))
    · refine br_f (nI_ge (by omega) (by omega)) (br_f (nI_ge (b := 24) (by omega) (by omega)) ⟨vp_in_nI (by omega) (by omega), nm_r (e' := nI (qu i)) (by rw [nI_clamp (by omega)]; exact r2 i (by omega)) ⟨5, ?_⟩⟩)
      exact x_fd107 hw ok (fun n' dp' qu' dE' qU' g1 g2 g3 g4 g5 => ih (i + 1) n' dp' qu' dE' qU' (by omega) (by omega) g1 g2 (bf_next g3) g5) 5 0 n (qu i) dp qu dE qU (by omega) (by omega) r1 r2 hI (by omega) rfl hrt
theorem x_fd25 {post : SX → Prop} {w : Nat} (hw : w < 3) (ok : gOk tH rF rT w) (K : ∀ (dp : Nat → Nat) (dE qU : Nat → Int32), rp_a dE dp 24 → Dp_d tH rF rT w dp → post (fM, fO, fC, fX, fP, tH, kD, sZ, rF, rT, nU, oB, pA, pI, pF, sE, aN, lA, dM, bF, bN, rE, cH, dE, qU, lO, oR, oP, nF, cO, iL, rP)) :
    ∀ (m r n : Nat) (dp qu : Nat → Nat) (dE qU : Nat → Int32), 4 < m + r → r ≤ 4 → rp_a dE dp 24 → rp_a qU qu n → bf_I tH rF rT w n 0 0 dp qu → (∀ x, x < 24 → dp x ≤ 1) → (∀ x, x < 24 → (∃ i, i < r ∧ gt_r rT w i = nI x) → dp x = 1) →
      wX_findDepths_25 post (nI w) fM fO fC fX fP m (nI n) (nI r) tH kD sZ rF rT nU oB pA pI pF sE aN lA dM bF bN rE cH dE qU lO oR oP nF cO iL rP := by
  intro m
  induction m with
  | zero => intro r n dp qu dE qU h1 h2; omega
  | succ m ih =>
    intro r n dp qu dE qU h1 h2 r1 r2 hI h01 hrt
    rw [wX_findDepths_25]
    by_cases c : r = 4
    · subst c
      refine br_t (nI_le (a := 4) (b := 4) (by omega) (by omega)) ⟨25, ?_⟩
      exact x_fd85 hw ok K 25 0 n dp qu dE qU (by omega) (by omega) r1 r2 hI fun x hx hr => hrt x hx hr.2
    · refine br_f (nI_ge (b := 4) (by omega) (by omega)) ?_
      rw [ix_r, nI_clamp (by omega)]
      refine ⟨vp_in_nI (by omega) (by omega), nm_e ?_⟩
      have er : gt_r rT w r = rT (4 * w + r) := rfl
      rcases ok.1 r (by omega) with e | ⟨p, p1, p2, p3⟩
      · rw [← er, e]
        refine br_t rfl (nm_r (nI_1 r) (ih (r + 1) n dp qu dE qU (by omega) (by omega) r1 r2 hI h01 ?_))
        rintro x hx ⟨i, i1, i2⟩
        by_cases d : i = r
        · subst d; rw [e] at i2; exact absurd i2.symm (ix_m1 (by omega))
        · exact hrt x hx ⟨i, by omega, i2⟩
      · rw [← er, p2]
        have vp : vp_in (nI p) 24 := vp_in_nI p1 (by omega)
        have ep : (nI p).toNatClampNeg = p := nI_clamp (by omega)
        have split : ∀ x, x < 24 → (∃ i, i < r + 1 ∧ gt_r rT w i = nI x) → x ≠ p → dp x = 1 := by
          rintro x hx ⟨i, i1, i2⟩ hne
          by_cases d : i = r
          · subst d; rw [p2] at i2; exact absurd ((nI_eq (by omega) (by omega)).mp i2).symm hne
          · exact hrt x hx ⟨i, by omega, i2⟩
        refine br_f (ix_m1 (by omega)) ⟨vp, ?_⟩
        rw [ep, r1 p p1]
        have hdb := h01 p p1
        refine pk_eq (dp p) 0 (fun z => ?_) (fun z => ?_)
        · have hn1 := bf_n1 hI p1 z
          refine ⟨vp, nm_e ⟨vp_in_nI hn1 (by omega), nm_r (e' := upd qU n (nI p)) (by rw [nI_clamp (by omega)]) (nm_r (nI_1 n) (nm_r (nI_1 r) ?_))⟩⟩
          refine ih (r + 1) (n + 1) (pz_un dp p 1) (pz_un qu n p) (upd dE p 1) _ (by omega) (by omega) (rp_upd (x := 1) r1) (rp_push r2) (bf_add hI p1 z p3 (by omega) (by omega) (fun j hj => h01 _ (hI.2.1 j hj).1) (fun hn => by omega) ⟨p1, r, by omega, p2⟩ (by omega) (fun _ => rfl)) (fun x hx => ?_) (fun x hx hex => ?_)
          · by_cases d : x = p
            · subst d; rw [pz_us]; exact Nat.le_refl 1
            · rw [pz_ud d]; exact h01 x hx
          · by_cases d : x = p
            · subst d; rw [pz_us]
            · rw [pz_ud d]; exact split x hx hex d
        · refine nm_r (nI_1 r) (ih (r + 1) n dp qu dE qU (by omega) (by omega) r1 r2 hI h01 fun x hx hex => ?_)
          by_cases d : x = p
          · subst d; omega
          · exact split x hx hex d
theorem x_fd4 {post : SX → Prop} {w : Nat} (hw : w < 3) (ok : gOk tH rF rT w) (K : ∀ (dp : Nat → Nat) (dE qU : Nat → Int32), rp_a dE dp 24 → Dp_d tH rF rT w dp → post (fM, fO, fC, fX, fP, tH, kD, sZ, rF, rT, nU, oB, pA, pI, pF, sE, aN, lA, dM, bF, bN, rE, cH, dE, qU, lO, oR, oP, nF, cO, iL, rP)) :
    ∀ (m i : Nat) (dE : Nat → Int32), 24 < m + i → i ≤ 24 → rp_a dE (fun _ => 0) i → wX_findDepths_4 post (nI w) 0 fM fO fC fX fP m (nI i) tH kD sZ rF rT nU oB pA pI pF sE aN lA dM bF bN rE cH dE qU lO oR oP nF cO iL rP := by
  intro m
  induction m with
  | zero => intro i dE h1 h2; omega
  | succ m ih =>
    intro i dE h1 h2 h3
    rw [wX_findDepths_4]
    by_cases c : i = 24
    · subst c
      refine br_t (nI_le (a := 24) (b := 24) (by omega) (by omega)) ⟨5, ?_⟩
      refine x_fd25 hw ok K 5 0 0 (fun _ => 0) (fun _ => 0) dE qU (by omega) (by omega) h3 (fun j hj => by omega) ⟨?_, fun j hj => by omega, fun j k _ hk => by omega, fun x _ hx => absurd rfl hx, fun j hj => by omega, fun j s b hj => by omega⟩ (fun x _ => Nat.zero_le _) (fun x _ ⟨i, hi, _⟩ => by omega)
      exact (nn_c_none fun _ _ => rfl).symm
    · refine br_f (nI_ge (b := 24) (by omega) (by omega)) ⟨vp_in_nI (by omega) (by omega), nm_r (e' := upd dE i (nI 0)) (by rw [nI_clamp (by omega)]; rfl) (nm_r (nI_1 i) (ih (i + 1) _ (by omega) (by omega) (fun x hx => ?_)))⟩
      by_cases d : x = i
      · subst d; exact pk_us
      · rw [pk_un d]; exact h3 x (by omega)
theorem x_findDepths {post : SX → Prop} {w : Nat} (hw : w < 3) (ok : gOk tH rF rT w) (K : ∀ (dp : Nat → Nat) (dE qU : Nat → Int32), rp_a dE dp 24 → Dp_d tH rF rT w dp → post (fM, fO, fC, fX, fP, tH, kD, sZ, rF, rT, nU, oB, pA, pI, pF, sE, aN, lA, dM, bF, bN, rE, cH, dE, qU, lO, oR, oP, nF, cO, iL, rP)) : wpX_findDepths post (fM, fO, fC, fX, fP, tH, kD, sZ, rF, rT, nU, oB, pA, pI, pF, sE, aN, lA, dM, bF, bN, rE, cH, dE, qU, lO, oR, oP, nF, cO, iL, rP) (nI w) := by
  unfold wpX_findDepths
  exact ⟨25, x_fd4 hw ok K 25 0 dE (by omega) (by omega) (fun x hx => by omega)⟩
end
end
section
/-! pure: ways -/
/-- the k-th object of the first way of D steps to o -/
def Wy_d (R : Nat → Prop) (E : Nat → Nat → Prop) (o D : Nat) : Nat → Nat → Prop
  | 0, x => (R x ∧ Bk_d E o D x) ∧ ∀ y, R y → Bk_d E o D y → x ≤ y
  | k + 1, x => ∃ a, Wy_d R E o D k a ∧ (E a x ∧ Bk_d E o (D - (k + 1)) x) ∧ ∀ y, E a y → Bk_d E o (D - (k + 1)) y → x ≤ y
section
variable {R : Nat → Prop} {E : Nat → Nat → Prop} {o D : Nat}
theorem wy_uniq : ∀ {k x y : Nat}, Wy_d R E o D k x → Wy_d R E o D k y → x = y
  | 0, x, y, h, g => Nat.le_antisymm (h.2 y g.1.1 g.1.2) (g.2 x h.1.1 h.1.2)
  | k + 1, x, y, ⟨a, a1, a2, a3⟩, ⟨b, b1, b2, b3⟩ => by
    have := wy_uniq a1 b1
    subst this
    exact Nat.le_antisymm (a3 y b2.1 b2.2) (b3 x a2.1 a2.2)
theorem wy_rk : ∀ {k x : Nat}, Wy_d R E o D k x → Rk_d R E k x
  | 0, _, h => h.1.1
  | _ + 1, _, ⟨a, a1, a2, _⟩ => ⟨a, wy_rk a1, a2.1⟩
theorem wy_bk : ∀ {k x : Nat}, Wy_d R E o D k x → Bk_d E o (D - k) x
  | 0, _, h => h.1.2
  | _ + 1, _, ⟨_, _, a2, _⟩ => a2.2
theorem rk_bk : ∀ {j k x : Nat}, Rk_d R E j x → Bk_d E o k x → ∃ p, R p ∧ Bk_d E o (j + k) p
  | 0, k, x, h, g => ⟨x, h, by rw [Nat.zero_add]; exact g⟩
  | j + 1, k, x, ⟨a, a1, a2⟩, g => by
    obtain ⟨p, p1, p2⟩ := rk_bk (k := k + 1) a1 ⟨x, a2, g⟩
    exact ⟨p, p1, by rw [show j + 1 + k = j + (k + 1) by omega]; exact p2⟩
theorem rk_to : ∀ {k j x : Nat}, Rk_d R E j x → Bk_d E o k x → Rk_d R E (j + k) o
  | 0, j, x, h, g => by
    have e : x = o := g
    subst e
    exact h
  | k + 1, j, x, h, ⟨b, b1, b2⟩ => by
    have := rk_to (k := k) (j := j + 1) ⟨x, h, b1⟩ b2
    rw [show j + (k + 1) = j + 1 + k by omega]
    exact this
theorem rk_a : ∀ {k x : Nat}, Rk_d R E k x → Rc_h R E (fun _ => False) x
  | 0, _, h => rc_root h id
  | _ + 1, _, ⟨_, a1, a2⟩ => rc_step (rk_a a1) a2 id
theorem a_rk {x : Nat} (h : Rc_h R E (fun _ => False) x) : ∃ k, Rk_d R E k x :=
  rc_ind (S := fun x => ∃ k, Rk_d R E k x) h (fun _ hb _ => ⟨0, hb⟩) (fun a _ _ ⟨k, hk⟩ he _ => ⟨k + 1, a, hk, he⟩)
end
/-- depth is not 0 just for what is alive -/
theorem dp_A {tH rF rT : Nat → Int32} {w : Nat} {dp : Nat → Nat} (h : Dp_d tH rF rT w dp) {x : Nat} (hx : x < 24) : dp x ≠ 0 ↔ gA tH rF rT w x :=
  ⟨fun z => rk_a ((h.1 x hx).2 z), fun z => by obtain ⟨k, hk⟩ := a_rk z; exact (h.2 k x hk).2.1⟩
theorem dp_edge {tH rF rT : Nat → Int32} {w : Nat} {dp : Nat → Nat} (h : Dp_d tH rF rT w dp) {a b : Nat} (ha : a < 24) (hz : dp a ≠ 0) (he : gE tH rF w a b) : b < 24 ∧ dp b ≠ 0 ∧ dp b ≤ dp a + 1 := by
  have h1 := (h.1 a ha).2 hz
  have := h.2 (dp a - 1 + 1) b ⟨a, h1, he⟩
  exact ⟨this.1, this.2.1, by omega⟩
theorem dp_bk {tH rF rT : Nat → Int32} {w o : Nat} {dp : Nat → Nat} (h : Dp_d tH rF rT w dp) : ∀ {k x : Nat}, x < 24 → dp x ≠ 0 → Bk_d (gE tH rF w) o k x → dp o ≤ dp x + k
  | 0, x, _, _, g => by
    have e : x = o := g
    subst e; omega
  | k + 1, x, hx, hz, ⟨b, b1, b2⟩ => by
    obtain ⟨c1, c2, c3⟩ := dp_edge h hx hz b1
    have := dp_bk h c1 c2 b2
    omega
theorem dp_root {tH rF rT : Nat → Int32} {w : Nat} {dp : Nat → Nat} (h : Dp_d tH rF rT w dp) {x : Nat} : (x < 24 ∧ dp x = 1) ↔ gR rT w x := by
  constructor
  · rintro ⟨a, b⟩
    have := (h.1 x a).2 (by omega)
    rw [b] at this
    exact this
  · intro g
    have := h.2 0 x g
    exact ⟨this.1, by omega⟩
/-- marked -/
def Mk_d (tH rF : Nat → Int32) (w o : Nat) (dp : Nat → Nat) (p : Nat) : Prop := dp p ≠ 0 ∧ dp p ≤ dp o ∧ Bk_d (gE tH rF w) o (dp o - dp p) p
/-- the marks when levels above L are done -/
def Ml_d (tH rF : Nat → Int32) (w o : Nat) (dp : Nat → Nat) (L : Nat) (mk : Nat → Bool) : Prop :=
  ∀ p, p < 24 → (L < dp p → (mk p = true ↔ Mk_d tH rF w o dp p)) ∧ (dp p ≤ L → mk p = false)
section
variable {fM fO fC fX fP : Int32} {tH kD sZ rF rT nU oB pA pI pF sE aN lA dM bF bN rE cH dE qU lO oR oP nF cO iL rP : Nat → Int32}
theorem x_leadsOn6 {post : Int32 → Prop} {w p L : Nat} {dp : Nat → Nat} {mk : Nat → Bool} (hw : w < 3) (hp : p < 24) (hT : gT tH w p) (ok : gOk tH rF rT w) (hL : L < 2 ^ 31) (hd : rp_a dE dp 24) (hdb : ∀ x, x < 24 → dp x ≤ 24) (hm : rb_a oP mk 24)
    (K : ∀ b : Bool, (b = true ↔ ∃ q, gE tH rF w p q ∧ dp q = L ∧ mk q = true) → post (if b = true then 1 else 0)) :
    ∀ (n i : Nat) (b : Bool), 4 < n + i → i ≤ 4 → (b = true ↔ ∃ j q, j < i ∧ q < 24 ∧ gf_f rF w p j = nI q ∧ dp q = L ∧ mk q = true) → wX_leadsOn_6 post (nI w) (nI p) (nI L) fM fO fC fX fP tH kD sZ rF rT nU oB pA pI pF sE aN lA dM bF bN rE cH dE qU lO oR oP nF cO iL rP n (if b = true then 1 else 0) (nI i) := by
  intro n
  induction n with
  | zero => intro i b h1 h2; omega
  | succ n ih =>
    intro i b h1 h2 hb
    rw [wX_leadsOn_6]
    by_cases c : i = 4
    · subst c
      refine br_t (nI_le (a := 4) (b := 4) (by omega) (by omega)) ⟨?_, K b ?_⟩
      · cases b <;> rfl
      · rw [hb]
        exact ⟨fun ⟨j, q, j1, q1, j2, j3, j4⟩ => ⟨q, ⟨hp, hT, q1, j, j1, j2⟩, j3, j4⟩, fun ⟨q, ⟨_, _, q1, j, j1, j2⟩, j3, j4⟩ => ⟨j, q, j1, q1, j2, j3, j4⟩⟩
    · refine br_f (nI_ge (b := 4) (by omega) (by omega)) (xs_target hw hp (by omega) ?_)
      cases b with
      | true =>
        refine br_f (by decide) (nm_r (nI_1 i) ?_)
        have := ih (i + 1) true (by omega) (by omega) ⟨fun _ => by obtain ⟨j, q, j1, j2⟩ := hb.1 rfl; exact ⟨j, q, by omega, j2⟩, fun _ => rfl⟩
        exact this
      | false =>
        have old : ∀ j q, j < i → q < 24 → gf_f rF w p j = nI q → dp q = L → mk q = true → False := fun j q a b c d e => nomatch hb.2 ⟨j, q, a, b, c, d, e⟩
        have no : (∀ q, q < 24 → gf_f rF w p i = nI q → dp q = L → mk q = true → False) → wX_leadsOn_6 post (nI w) (nI p) (nI L) fM fO fC fX fP tH kD sZ rF rT nU oB pA pI pF sE aN lA dM bF bN rE cH dE qU lO oR oP nF cO iL rP n 0 (nI (i + 1)) := by
          intro g
          refine ih (i + 1) false (by omega) (by omega) ⟨(fun z => nomatch z), ?_⟩
          rintro ⟨j, q, j1, q1, j2, j3, j4⟩
          by_cases d : j = i
          · subst d; exact (g q q1 j2 j3 j4).elim
          · exact (old j q (by omega) q1 j2 j3 j4).elim
        refine br_t rfl ?_
        rcases ok.2 p hp hT i (by omega) with e | ⟨q, q1, q2, q3⟩
        · rw [e]
          refine br_t rfl (nm_r (nI_1 i) (no fun q hq e' => ?_))
          rw [e] at e'
          exact absurd e'.symm (ix_m1 (by omega))
        · rw [q2]
          have vq : vp_in (nI q) 24 := vp_in_nI q1 (by omega)
          have hq := hdb q q1
          have sm : ∀ q', q' < 24 → gf_f rF w p i = nI q' → q' = q := fun q' h e => by rw [q2] at e; exact ((nI_eq (by omega) (by omega)).mp e).symm
          refine br_f (ix_m1 (by omega)) ⟨vq, ?_⟩
          rw [nI_clamp (show q < 2 ^ 31 by omega), hd q q1]
          refine pk_eq (dp q) L (fun g => ⟨vq, br_c (fun z => ?_) (fun z => ?_)⟩) (fun g => ?_)
          · refine nm_r (nI_1 i) (no fun q' hq' e' _ hm' => ?_)
            rw [sm q' hq' e', (rb_0 (hm q q1)).1 z] at hm'
            exact nomatch hm'
          · have hmq : mk q = true := Classical.byContradiction fun y => z ((rb_0 (hm q q1)).2 (gx_f y))
            have := ih (i + 1) true (by omega) (by omega) ⟨fun _ => ⟨i, q, by omega, q1, q2, g, hmq⟩, fun _ => rfl⟩
            exact nm_r (nI_1 i) this
          · refine nm_r (nI_1 i) (no fun q' hq' e' hd' _ => ?_)
            rw [sm q' hq' e'] at hd'
            exact g hd'
theorem x_leadsOn {post : Int32 → Prop} {w p L : Nat} {dp : Nat → Nat} {mk : Nat → Bool} (hw : w < 3) (hp : p < 24) (hT : gT tH w p) (ok : gOk tH rF rT w) (hL : L < 2 ^ 31) (hd : rp_a dE dp 24) (hdb : ∀ x, x < 24 → dp x ≤ 24) (hm : rb_a oP mk 24)
    (K : ∀ b : Bool, (b = true ↔ ∃ q, gE tH rF w p q ∧ dp q = L ∧ mk q = true) → post (if b = true then 1 else 0)) : wpX_leadsOn post (fM, fO, fC, fX, fP, tH, kD, sZ, rF, rT, nU, oB, pA, pI, pF, sE, aN, lA, dM, bF, bN, rE, cH, dE, qU, lO, oR, oP, nF, cO, iL, rP) (nI w) (nI p) (nI L) := by
  unfold wpX_leadsOn
  exact ⟨5, x_leadsOn6 hw hp hT ok hL hd hdb hm K 5 0 false (by omega) (by omega) ⟨(fun z => nomatch z), fun ⟨j, _, hj, _⟩ => by omega⟩⟩
/-- one level -/
theorem x_mw47 {post : SX → Prop} {J : (Int32 → (Nat → Int32) → (Nat → Int32) → (Nat → Int32) → (Nat → Int32) → (Nat → Int32) → (Nat → Int32) → (Nat → Int32) → (Nat → Int32) → (Nat → Int32) → (Nat → Int32) → (Nat → Int32) → (Nat → Int32) → (Nat → Int32) → (Nat → Int32) → (Nat → Int32) → (Nat → Int32) → (Nat → Int32) → (Nat → Int32) → (Nat → Int32) → (Nat → Int32) → (Nat → Int32) → (Nat → Int32) → (Nat → Int32) → (Nat → Int32) → (Nat → Int32) → (Nat → Int32) → (Nat → Int32) → Prop)} {w o L : Nat} {dp : Nat → Nat} (hw : w < 3) (ok : gOk tH rF rT w) (hD : Dp_d tH rF rT w dp) (hd : rp_a dE dp 24) (ho : o < 24) (hL1 : 1 ≤ L) (hLo : L < dp o)
    (K : ∀ (mk : Nat → Bool) (oP : Nat → Int32), rb_a oP mk 24 → Ml_d tH rF w o dp (L - 1) mk → J (nI (L - 1)) tH kD sZ rF rT nU oB pA pI pF sE aN lA dM bF bN rE cH dE qU lO oR oP nF cO iL rP) :
    ∀ (n i : Nat) (mk : Nat → Bool) (oP : Nat → Int32), 24 < n + i → i ≤ 24 → rb_a oP mk 24 → (∀ p, p < 24 → (L < dp p → (mk p = true ↔ Mk_d tH rF w o dp p)) ∧ (dp p < L → mk p = false) ∧ (dp p = L → (p < i → (mk p = true ↔ Mk_d tH rF w o dp p)) ∧ (i ≤ p → mk p = false))) →
      wX_markWays_47 post J (nI w) (nI L) fM fO fC fX fP n (nI i) tH kD sZ rF rT nU oB pA pI pF sE aN lA dM bF bN rE cH dE qU lO oR oP nF cO iL rP := by
  have hdb : ∀ x, x < 24 → dp x ≤ 24 := fun x hx => (hD.1 x hx).1
  have hob := hdb o ho
  intro n
  induction n with
  | zero => intro i mk oP h1 h2; omega
  | succ n ih =>
    intro i mk oP h1 h2 hb hI
    rw [wX_markWays_47]
    by_cases c : i = 24
    · subst c
      refine br_t (nI_le (a := 24) (b := 24) (by omega) (by omega)) (nm_r (sb_m1 (by omega)) (K mk oP hb fun p hp => ?_))
      obtain ⟨a1, a2, a3⟩ := hI p hp
      refine ⟨fun g => ?_, fun g => a2 (by omega)⟩
      by_cases d : dp p = L
      · exact (a3 d).1 hp
      · exact a1 (by omega)
    · refine br_f (nI_ge (b := 24) (by omega) (by omega)) ⟨vp_in_nI (by omega) (by omega), ?_⟩
      rw [nI_clamp (by omega), hd i (by omega)]
      have hi := hdb i (by omega)
      refine pk_eq (dp i) L (fun g => ?_) (fun g => ?_)
      · have hA : gA tH rF rT w i := (dp_A hD (by omega)).1 (by omega)
        rw [nI_1 L]
        refine x_leadsOn hw (by omega) (gA_T ok hA).2 ok (by omega) hd hdb hb fun b hbb => ?_
        refine ⟨vp_in_nI (by omega) (by omega), nm_r (e' := upd oP i (if b = true then 1 else 0)) ?_ (nm_r (nI_1 i) (ih (i + 1) (pz_ub mk i b) _ (by omega) (by omega) (rb_upd hb) fun p hp => ?_))⟩
        · cases b <;> rfl
        · obtain ⟨a1, a2, a3⟩ := hI p hp
          by_cases d : p = i
          · subst d
            rw [pz_ubs]
            refine ⟨fun z => by omega, fun z => by omega, fun _ => ⟨fun _ => ?_, fun z => by omega⟩⟩
            rw [hbb]
            constructor
            · rintro ⟨q, q1, q2, q3⟩
              have hq := q1.2.2.1
              have := ((hI q hq).1 (by omega)).1 q3
              refine ⟨by omega, by omega, ?_⟩
              obtain ⟨_, _, m3⟩ := this
              rw [show dp o - dp p = (dp o - dp q) + 1 by omega]
              exact ⟨q, q1, m3⟩
            · rintro ⟨m1, m2, m3⟩
              obtain ⟨k, hk⟩ : ∃ k, dp o - dp p = k + 1 := ⟨dp o - dp p - 1, by omega⟩
              rw [hk] at m3
              obtain ⟨q, q1, q2⟩ := m3
              obtain ⟨e1, e2, e3⟩ := dp_edge hD hp m1 q1
              have e4 := dp_bk hD e1 e2 q2
              have e5 : dp q = L + 1 := by omega
              refine ⟨q, q1, e5, ((hI q e1).1 (by omega)).2 ⟨e2, by omega, ?_⟩⟩
              rw [show dp o - dp q = k by omega]
              exact q2
          · rw [pz_ubd d]
            exact ⟨a1, a2, fun z => ⟨fun y => (a3 z).1 (by omega), fun y => (a3 z).2 (by omega)⟩⟩
      · refine nm_r (nI_1 i) (ih (i + 1) mk oP (by omega) (by omega) hb fun p hp => ?_)
        obtain ⟨a1, a2, a3⟩ := hI p hp
        exact ⟨a1, a2, fun z => ⟨fun y => (a3 z).1 (by have : p ≠ i := fun e => g (by rw [← e]; exact z); omega), fun y => (a3 z).2 (by omega)⟩⟩
theorem x_mw39 {post : SX → Prop} {w o : Nat} {dp : Nat → Nat} (hw : w < 3) (ok : gOk tH rF rT w) (hD : Dp_d tH rF rT w dp) (hd : rp_a dE dp 24) (ho : o < 24)
    (K : ∀ (mk : Nat → Bool) (oP : Nat → Int32), rb_a oP mk 24 → Ml_d tH rF w o dp 0 mk → post (fM, fO, fC, fX, fP, tH, kD, sZ, rF, rT, nU, oB, pA, pI, pF, sE, aN, lA, dM, bF, bN, rE, cH, dE, qU, lO, oR, oP, nF, cO, iL, rP)) :
    ∀ (L n : Nat) (mk : Nat → Bool) (oP : Nat → Int32), L < n → L < dp o → rb_a oP mk 24 → Ml_d tH rF w o dp L mk → wX_markWays_39 post (nI w) fM fO fC fX fP n (nI L) tH kD sZ rF rT nU oB pA pI pF sE aN lA dM bF bN rE cH dE qU lO oR oP nF cO iL rP := by
  have hob := (hD.1 o ho).1
  intro L
  induction L with
  | zero =>
    intro n mk oP h1 h2 hb hI
    obtain ⟨n, rfl⟩ : ∃ k, n = k + 1 := ⟨n - 1, by omega⟩
    rw [wX_markWays_39]
    exact br_t (nI_lt (a := 0) (b := 1) (by omega) (by omega)) (K mk oP hb hI)
  | succ L ih =>
    intro n mk oP h1 h2 hb hI
    obtain ⟨n, rfl⟩ : ∃ k, n = k + 1 := ⟨n - 1, by omega⟩
    rw [wX_markWays_39]
    refine br_f (nI_nlt (b := 1) (by omega) (by omega)) ⟨25, ?_⟩
    refine x_mw47 hw ok hD hd ho (by omega) h2 (fun mk' oP' g1 g2 => ih n mk' oP' (by omega) (by omega) g1 g2) 25 0 mk oP (by omega) (by omega) hb fun p hp => ?_
    obtain ⟨a1, a2⟩ := hI p hp
    exact ⟨a1, fun z => a2 (by omega), fun z => ⟨fun y => by omega, fun _ => a2 (by omega)⟩⟩
theorem x_mw2 {post : SX → Prop} {w o : Nat} {dp : Nat → Nat} (hw : w < 3) (ok : gOk tH rF rT w) (hD : Dp_d tH rF rT w dp) (hd : rp_a dE dp 24) (ho : o < 24) (hoz : dp o ≠ 0)
    (K : ∀ (mk : Nat → Bool) (oP : Nat → Int32), rb_a oP mk 24 → Ml_d tH rF w o dp 0 mk → post (fM, fO, fC, fX, fP, tH, kD, sZ, rF, rT, nU, oB, pA, pI, pF, sE, aN, lA, dM, bF, bN, rE, cH, dE, qU, lO, oR, oP, nF, cO, iL, rP)) :
    ∀ (n i : Nat) (oP : Nat → Int32), 24 < n + i → i ≤ 24 → rb_a oP (fun x => decide (x = o)) i → wX_markWays_2 post (nI w) (nI o) fM fO fC fX fP n (nI i) tH kD sZ rF rT nU oB pA pI pF sE aN lA dM bF bN rE cH dE qU lO oR oP nF cO iL rP := by
  have hob := (hD.1 o ho).1
  intro n
  induction n with
  | zero => intro i oP h1 h2; omega
  | succ n ih =>
    intro i oP h1 h2 hb
    rw [wX_markWays_2]
    by_cases c : i = 24
    · subst c
      refine br_t (nI_le (a := 24) (b := 24) (by omega) (by omega)) ⟨vp_in_nI ho (by omega), nm_r (e' := nI (dp o - 1)) (by rw [nI_clamp (by omega), hd o ho, ix_dec (by omega)]) ⟨dp o, ?_⟩⟩
      refine x_mw39 hw ok hD hd ho K (dp o - 1) (dp o) (fun x => decide (x = o)) oP (by omega) (by omega) hb fun p hp => ⟨fun g => ?_, fun g => ?_⟩
      · rw [decide_eq_true_iff]
        constructor
        · intro e; subst e; exact ⟨hoz, Nat.le_refl _, by rw [Nat.sub_self]; rfl⟩
        · rintro ⟨m1, m2, m3⟩
          rw [show dp o - dp p = 0 by omega] at m3
          exact m3
      · refine decide_eq_false fun e => ?_
        subst e; omega
    · have ei : (nI i).toNatClampNeg = i := nI_clamp (by omega)
      have vi : vp_in (nI i) 24 := vp_in_nI (by omega) (by omega)
      have nxt : ∀ z : Int32, z = (if decide (i = o) = true then 1 else 0) → wX_markWays_2 post (nI w) (nI o) fM fO fC fX fP n (nI (i + 1)) tH kD sZ rF rT nU oB pA pI pF sE aN lA dM bF bN rE cH dE qU lO oR (upd oP i z) nF cO iL rP := by
        intro z hz
        refine ih (i + 1) _ (by omega) (by omega) fun x hx => ?_
        by_cases d : x = i
        · subst d; rw [pk_us]; exact hz
        · rw [pk_un d]; exact hb x (by omega)
      refine br_f (nI_ge (b := 24) (by omega) (by omega)) (pk_eq i o (fun g => ?_) (fun g => ?_))
      · refine ⟨vi, nm_r (e' := upd oP i 1) (by rw [ei]; rfl) (nm_r (nI_1 i) (nxt 1 ?_))⟩
        rw [decide_eq_true g]; rfl
      · refine ⟨vi, nm_r (e' := upd oP i 0) (by rw [ei]; rfl) (nm_r (nI_1 i) (nxt 0 ?_))⟩
        rw [decide_eq_false g]; rfl
theorem x_markWays {post : SX → Prop} {w o : Nat} {dp : Nat → Nat} (hw : w < 3) (ok : gOk tH rF rT w) (hD : Dp_d tH rF rT w dp) (hd : rp_a dE dp 24) (ho : o < 24) (hoz : dp o ≠ 0)
    (K : ∀ (mk : Nat → Bool) (oP : Nat → Int32), rb_a oP mk 24 → (∀ p, p < 24 → (mk p = true ↔ Mk_d tH rF w o dp p)) → post (fM, fO, fC, fX, fP, tH, kD, sZ, rF, rT, nU, oB, pA, pI, pF, sE, aN, lA, dM, bF, bN, rE, cH, dE, qU, lO, oR, oP, nF, cO, iL, rP)) : wpX_markWays post (fM, fO, fC, fX, fP, tH, kD, sZ, rF, rT, nU, oB, pA, pI, pF, sE, aN, lA, dM, bF, bN, rE, cH, dE, qU, lO, oR, oP, nF, cO, iL, rP) (nI w) (nI o) := by
  unfold wpX_markWays
  refine ⟨25, x_mw2 hw ok hD hd ho hoz (fun mk oP g1 g2 => K mk oP g1 fun p hp => ?_) 25 0 oP (by omega) (by omega) (fun x hx => by omega)⟩
  obtain ⟨a1, a2⟩ := g2 p hp
  by_cases c : dp p = 0
  · rw [a2 (by omega)]
    exact ⟨(fun z => nomatch z), fun z => absurd c z.1⟩
  · exact a1 (by omega)
/-- the least marked one that an object refers to, at the next depth -/
theorem x_ln5 {post : Int32 → Prop} {w a : Nat} {dp : Nat → Nat} {mk : Nat → Bool} (hw : w < 3) (ha : a < 24) (hT : gT tH w a) (ok : gOk tH rF rT w) (hd : rp_a dE dp 24) (hdb : ∀ x, x < 24 → dp x ≤ 24) (hm : rb_a oP mk 24)
    (K : ∀ q, gE tH rF w a q ∧ dp q = dp a + 1 ∧ mk q = true → (∀ y, gE tH rF w a y → dp y = dp a + 1 → mk y = true → q ≤ y) → post (nI q)) (hex : ∃ q, gE tH rF w a q ∧ dp q = dp a + 1 ∧ mk q = true) :
    ∀ (n i : Nat) (x : Int32), 4 < n + i → i ≤ 4 → ((x = -1 ∧ ∀ j y, j < i → y < 24 → gf_f rF w a j = nI y → dp y = dp a + 1 → mk y = true → False) ∨ ∃ q, x = nI q ∧ (∃ j, j < i ∧ gf_f rF w a j = nI q) ∧ q < 24 ∧ dp q = dp a + 1 ∧ mk q = true ∧ ∀ j y, j < i → y < 24 → gf_f rF w a j = nI y → dp y = dp a + 1 → mk y = true → q ≤ y) →
      wX_leastNext_5 post (nI w) (nI a) fM fO fC fX fP tH kD sZ rF rT nU oB pA pI pF sE aN lA dM bF bN rE cH dE qU lO oR oP nF cO iL rP n x (nI i) := by
  intro n
  induction n with
  | zero => intro i x h1 h2; omega
  | succ n ih =>
    intro i x h1 h2 hx
    rw [wX_leastNext_5]
    by_cases c : i = 4
    · subst c
      refine br_t (nI_le (a := 4) (b := 4) (by omega) (by omega)) ?_
      rcases hx with ⟨rfl, hx⟩ | ⟨q, rfl, ⟨j, j1, j2⟩, q1, q2, q3, q4⟩
      · obtain ⟨q, ⟨_, _, e1, j, e2, e3⟩, e4, e5⟩ := hex
        exact (hx j q e2 e1 e3 e4 e5).elim
      · exact K q ⟨⟨ha, hT, q1, j, j1, j2⟩, q2, q3⟩ fun y ⟨_, _, e1, j', e2, e3⟩ e4 e5 => q4 j' y e2 e1 e3 e4 e5
    · refine br_f (nI_ge (b := 4) (by omega) (by omega)) (xs_target hw ha (by omega) ?_)
      have no : ∀ r : Int32, (∀ y, y < 24 → gf_f rF w a i = nI y → dp y = dp a + 1 → mk y = true → False) → wX_leastNext_59 post (wX_leastNext_5 post (nI w) (nI a) fM fO fC fX fP tH kD sZ rF rT nU oB pA pI pF sE aN lA dM bF bN rE cH dE qU lO oR oP nF cO iL rP n) (nI w) (nI a) x (nI i) r fM fO fC fX fP tH kD sZ rF rT nU oB pA pI pF sE aN lA dM bF bN rE cH dE qU lO oR oP nF cO iL rP := by
        intro r g
        unfold wX_leastNext_59 wX_leastNext_60
        refine br_t rfl (nm_r (nI_1 i) (ih (i + 1) x (by omega) (by omega) ?_))
        rcases hx with ⟨e, hx⟩ | ⟨q, e, ⟨j, j1, j2⟩, q1, q2, q3, q4⟩
        · refine Or.inl ⟨e, fun j y a1 a2 a3 a4 a5 => ?_⟩
          by_cases d : j = i
          · subst d; exact g y a2 a3 a4 a5
          · exact hx j y (by omega) a2 a3 a4 a5
        · refine Or.inr ⟨q, e, ⟨j, by omega, j2⟩, q1, q2, q3, fun j y a1 a2 a3 a4 a5 => ?_⟩
          by_cases d : j = i
          · subst d; exact (g y a2 a3 a4 a5).elim
          · exact q4 j y (by omega) a2 a3 a4 a5
      rcases ok.2 a ha hT i (by omega) with e | ⟨p, p1, p2, p3⟩
      · rw [e]
        refine br_t rfl (no _ fun y hy e' => ?_)
        rw [e] at e'
        exact absurd e'.symm (ix_m1 (by omega))
      · rw [p2]
        have vp : vp_in (nI p) 24 := vp_in_nI p1 (by omega)
        have hp := hdb p p1
        have ha' := hdb a ha
        have sm : ∀ y, y < 24 → gf_f rF w a i = nI y → y = p := fun y h e => by rw [p2] at e; exact ((nI_eq (by omega) (by omega)).mp e).symm
        refine br_f (ix_m1 (by omega)) ⟨vp, vp_in_nI ha (by omega), ?_⟩
        rw [nI_clamp (show p < 2 ^ 31 by omega), nI_clamp (show a < 2 ^ 31 by omega), hd p p1, hd a ha, nI_1]
        refine pk_eq (dp p) (dp a + 1) (fun g => ⟨vp, br_c (fun z => ?_) (fun z => ?_)⟩) (fun g => ?_)
        · refine no _ fun y hy e _ hmy => ?_
          rw [sm y hy e, (rb_0 (hm p p1)).1 z] at hmy
          exact nomatch hmy
        · have hmp : mk p = true := Classical.byContradiction fun y => z ((rb_0 (hm p p1)).2 (gx_f y))
          unfold wX_leastNext_60
          refine br_f (by decide) ?_
          rcases hx with ⟨rfl, hx⟩ | ⟨q, rfl, ⟨j, j1, j2⟩, q1, q2, q3, q4⟩
          · refine br_t rfl (nm_r (nI_1 i) (ih (i + 1) _ (by omega) (by omega) (Or.inr ⟨p, rfl, ⟨i, by omega, p2⟩, p1, g, hmp, fun j y a1 a2 a3 a4 a5 => ?_⟩)))
            by_cases d : j = i
            · subst d; exact Nat.le_of_eq (sm y a2 a3).symm
            · exact (hx j y (by omega) a2 a3 a4 a5).elim
          · refine br_f (ix_m1 (by omega)) (pk_le q p (fun g' => ?_) (fun g' => ?_))
            · refine nm_r (nI_1 i) (ih (i + 1) _ (by omega) (by omega) (Or.inr ⟨q, rfl, ⟨j, by omega, j2⟩, q1, q2, q3, fun j y a1 a2 a3 a4 a5 => ?_⟩))
              by_cases d : j = i
              · subst d; rw [sm y a2 a3]; exact g'
              · exact q4 j y (by omega) a2 a3 a4 a5
            · refine nm_r (nI_1 i) (ih (i + 1) _ (by omega) (by omega) (Or.inr ⟨p, rfl, ⟨i, by omega, p2⟩, p1, g, hmp, fun j y a1 a2 a3 a4 a5 => ?_⟩))
              by_cases d : j = i
              · subst d; exact Nat.le_of_eq (sm y a2 a3).symm
              · have := q4 j y (by omega) a2 a3 a4 a5; omega
        · refine no _ fun y hy e hdy _ => ?_
          rw [sm y hy e] at hdy
          exact g hdy
end
end
section
/-! X: way -/
section
variable {fM fO fC fX fP : Int32} {tH kD sZ rF rT nU oB pA pI pF sE aN lA dM bF bN rE cH dE qU lO oR oP nF cO iL rP : Nat → Int32}
theorem x_w97 {post : Int32 → SX → Prop} {w o D i : Nat} {dp : Nat → Nat} {mk : Nat → Bool} (hw : w < 3) (ok : gOk tH rF rT w) (hD : Dp_d tH rF rT w dp) (hd : rp_a dE dp 24) (ho : o < 24) (hoD : dp o = D + 1) (hi : i ≤ D) (hm : rb_a oP mk 24) (hmk : ∀ p, p < 24 → (mk p = true ↔ Mk_d tH rF w o dp p))
    (K : ∀ x, Wy_d (gR rT w) (gE tH rF w) o D i x → post (nI x) (fM, fO, fC, fX, fP, tH, kD, sZ, rF, rT, nU, oB, pA, pI, pF, sE, aN, lA, dM, bF, bN, rE, cH, dE, qU, lO, oR, oP, nF, cO, iL, rP)) :
    ∀ (n k a : Nat), i < n + k → k ≤ i → Wy_d (gR rT w) (gE tH rF w) o D k a → wX_way_97 post (nI w) (nI i) fM fO fC fX fP tH kD sZ rF rT nU oB pA pI pF sE aN lA dM bF bN rE cH dE qU lO oR oP nF cO iL rP n (nI a) (nI k) := by
  have hdb : ∀ x, x < 24 → dp x ≤ 24 := fun x hx => (hD.1 x hx).1
  have hob := hdb o ho
  intro n
  induction n with
  | zero => intro k a h1 h2; omega
  | succ n ih =>
    intro k a h1 h2 hW
    rw [wX_way_97]
    by_cases c : k = i
    · subst c
      exact br_t (nI_le (Nat.le_refl k) (by omega)) (K a hW)
    · refine br_f (nI_ge (by omega) (by omega)) ?_
      have hrk := wy_rk hW
      have hbk := wy_bk hW
      obtain ⟨a1, a2, a3⟩ := hD.2 k a hrk
      have a4 := dp_bk hD a1 a2 hbk
      have ea : dp a = k + 1 := by omega
      have hT : gT tH w a := (gA_T ok ((dp_A hD a1).1 a2)).2
      have key : ∀ q, gE tH rF w a q → ((dp q = dp a + 1 ∧ mk q = true) ↔ Bk_d (gE tH rF w) o (D - (k + 1)) q) := by
        intro q hq
        obtain ⟨q1, q2, q3⟩ := dp_edge hD a1 a2 hq
        constructor
        · rintro ⟨e1, e2⟩
          have := ((hmk q q1).1 e2).2.2
          rw [show dp o - dp q = D - (k + 1) by omega] at this
          exact this
        · intro hb
          have := dp_bk hD q1 q2 hb
          have e1 : dp q = dp a + 1 := by omega
          refine ⟨e1, (hmk q q1).2 ⟨q2, by omega, ?_⟩⟩
          rw [show dp o - dp q = D - (k + 1) by omega]
          exact hb
      unfold wpX_leastNext
      refine ⟨5, x_ln5 hw a1 hT ok hd hdb hm (fun q hq hl => ?_) ?_ 5 0 (-1) (by omega) (by omega) (Or.inl ⟨rfl, fun j y hj => by omega⟩)⟩
      · refine nm_r (nI_1 k) (ih (k + 1) q (by omega) (by omega) ⟨a, hW, ⟨hq.1, (key q hq.1).1 hq.2⟩, fun y y1 y2 => ?_⟩)
        obtain ⟨z1, z2⟩ := (key y y1).2 y2
        exact hl y y1 z1 z2
      · obtain ⟨j, hj⟩ : ∃ j, D - k = j + 1 := ⟨D - k - 1, by omega⟩
        rw [hj] at hbk
        obtain ⟨q, q1, q2⟩ := hbk
        rw [show j = D - (k + 1) by omega] at q2
        exact ⟨q, q1, (key q q1).2 q2⟩
theorem x_w53 {post : Int32 → SX → Prop} {w o D i : Nat} {dp : Nat → Nat} {mk : Nat → Bool} (hw : w < 3) (ok : gOk tH rF rT w) (hD : Dp_d tH rF rT w dp) (hd : rp_a dE dp 24) (ho : o < 24) (hoD : dp o = D + 1) (hi : i ≤ D) (hm : rb_a oP mk 24) (hmk : ∀ p, p < 24 → (mk p = true ↔ Mk_d tH rF w o dp p))
    (K : ∀ x, Wy_d (gR rT w) (gE tH rF w) o D i x → post (nI x) (fM, fO, fC, fX, fP, tH, kD, sZ, rF, rT, nU, oB, pA, pI, pF, sE, aN, lA, dM, bF, bN, rE, cH, dE, qU, lO, oR, oP, nF, cO, iL, rP)) :
    ∀ (j n : Nat) (x : Int32), j < n → j ≤ 24 → ((x = -1 ∧ ∀ p, j ≤ p → p < 24 → ¬ (dp p = 1 ∧ mk p = true)) ∨ ∃ p, x = nI p ∧ p < 24 ∧ (dp p = 1 ∧ mk p = true) ∧ ∀ y, j ≤ y → y < 24 → dp y = 1 ∧ mk y = true → p ≤ y) →
      wX_way_53 post (nI w) (nI i) fM fO fC fX fP tH kD sZ rF rT nU oB pA pI pF sE aN lA dM bF bN rE cH dE qU lO oR oP nF cO iL rP n x (nI j + (-1)) := by
  have hdb : ∀ x, x < 24 → dp x ≤ 24 := fun x hx => (hD.1 x hx).1
  have hob := hdb o ho
  have key : ∀ p, p < 24 → ((dp p = 1 ∧ mk p = true) ↔ (gR rT w p ∧ Bk_d (gE tH rF w) o D p)) := by
    intro p hp
    constructor
    · rintro ⟨e1, e2⟩
      have := ((hmk p hp).1 e2).2.2
      rw [show dp o - dp p = D by omega] at this
      exact ⟨(dp_root hD).1 ⟨hp, e1⟩, this⟩
    · rintro ⟨e1, e2⟩
      have e3 := ((dp_root hD).2 e1).2
      refine ⟨e3, (hmk p hp).2 ⟨by omega, by omega, ?_⟩⟩
      rw [show dp o - dp p = D by omega]
      exact e2
  intro j
  induction j with
  | zero =>
    intro n x h1 h2 hx
    obtain ⟨n, rfl⟩ : ∃ k, n = k + 1 := ⟨n - 1, by omega⟩
    rw [wX_way_53]
    refine br_t ix_d0 ⟨i + 1, ?_⟩
    rcases hx with ⟨rfl, hx⟩ | ⟨p, rfl, p1, p2, p3⟩
    · exfalso
      have hrk := (hD.1 o ho).2 (by omega)
      rw [hoD, Nat.add_sub_cancel] at hrk
      obtain ⟨p, q1, q2⟩ := rk_bk (o := o) (k := 0) hrk rfl
      rw [Nat.add_zero] at q2
      exact hx p (Nat.zero_le _) q1.1 ((key p q1.1).2 ⟨q1, q2⟩)
    · exact x_w97 hw ok hD hd ho hoD hi hm hmk K (i + 1) 0 p (by omega) (by omega) ⟨(key p p1).1 p2, fun y y1 y2 => p3 y (Nat.zero_le _) y1.1 ((key y y1.1).2 ⟨y1, y2⟩)⟩
  | succ j ih =>
    intro n x h1 h2 hx
    obtain ⟨n, rfl⟩ : ∃ k, n = k + 1 := ⟨n - 1, by omega⟩
    rw [wX_way_53]
    refine br_f (ix_dn (by omega)) ?_
    rw [pk_m1]
    have vj : vp_in (nI j) 24 := vp_in_nI (by omega) (by omega)
    have hj := hdb j (by omega)
    have no : ¬ (dp j = 1 ∧ mk j = true) → wX_way_53 post (nI w) (nI i) fM fO fC fX fP tH kD sZ rF rT nU oB pA pI pF sE aN lA dM bF bN rE cH dE qU lO oR oP nF cO iL rP n x (nI j + (-1)) := by
      intro g
      refine ih n x (by omega) (by omega) ?_
      rcases hx with ⟨e, hx⟩ | ⟨p, e, p1, p2, p3⟩
      · refine Or.inl ⟨e, fun p a b => ?_⟩
        by_cases d : p = j
        · subst d; exact g
        · exact hx p (by omega) b
      · refine Or.inr ⟨p, e, p1, p2, fun y a b c => ?_⟩
        by_cases d : y = j
        · subst d; exact absurd c g
        · exact p3 y (by omega) b c
    refine ⟨vj, ?_⟩
    rw [nI_clamp (show j < 2 ^ 31 by omega), hd j (by omega)]
    refine pk_eq (dp j) 1 (fun g => ⟨vj, br_c (fun z => ?_) (fun z => ?_)⟩) (fun g => nm_e (no fun z => g z.1))
    · refine nm_e (no fun y => ?_)
      rw [(rb_0 (hm j (by omega))).1 z] at y
      exact nomatch y.2
    · have hmj : mk j = true := Classical.byContradiction fun y => z ((rb_0 (hm j (by omega))).2 (gx_f y))
      exact nm_e (ih n (nI j) (by omega) (by omega) (Or.inr ⟨j, rfl, by omega, ⟨g, hmj⟩, fun y a _ _ => a⟩))
theorem x_badPlace0 {post : Int32 → Prop} {w : Nat} (hw : w < 3) (k : post 0) : wpX_badPlace post (fM, fO, fC, fX, fP, tH, kD, sZ, rF, rT, nU, oB, pA, pI, pF, sE, aN, lA, dM, bF, bN, rE, cH, dE, qU, lO, oR, oP, nF, cO, iL, rP) (nI w) := by
  unfold wpX_badPlace
  exact br_f (nI_pos (by omega)) (br_t (nI_lt (b := 3) hw (by omega)) k)
theorem x_badPlace1 {post : Int32 → Prop} {x : Int32} (h : x < 0 ∨ nI 3 ≤ x) (k : post 1) : wpX_badPlace post (fM, fO, fC, fX, fP, tH, kD, sZ, rF, rT, nU, oB, pA, pI, pF, sE, aN, lA, dM, bF, bN, rE, cH, dE, qU, lO, oR, oP, nF, cO, iL, rP) x := by
  unfold wpX_badPlace
  refine br_c (fun _ => k) (fun n => br_f (fun z => ?_) k)
  rcases h with h | h
  · exact n h
  · exact Int32.not_le.mpr z h
theorem x_isDeep0 {post : Int32 → Prop} {x : Int32} (h : x < 0 ∨ nI 24 ≤ x) (k : post 0) : wpX_isDeep post (fM, fO, fC, fX, fP, tH, kD, sZ, rF, rT, nU, oB, pA, pI, pF, sE, aN, lA, dM, bF, bN, rE, cH, dE, qU, lO, oR, oP, nF, cO, iL, rP) x := by
  unfold wpX_isDeep
  refine br_c (fun _ => k) (fun n => br_t ?_ k)
  rcases h with h | h
  · exact absurd h n
  · exact h
theorem x_isDeep {post : Int32 → Prop} {o : Nat} {dp : Nat → Nat} (ho : o < 24) (hd : rp_a dE dp 24) (hdb : dp o ≤ 24) (k1 : dp o ≠ 0 → post 1) (k0 : dp o = 0 → post 0) : wpX_isDeep post (fM, fO, fC, fX, fP, tH, kD, sZ, rF, rT, nU, oB, pA, pI, pF, sE, aN, lA, dM, bF, bN, rE, cH, dE, qU, lO, oR, oP, nF, cO, iL, rP) (nI o) := by
  unfold wpX_isDeep
  refine br_f (nI_pos (by omega)) (br_f (nI_ge (b := 24) ho (by omega)) ⟨vp_in_nI ho (by omega), ?_⟩)
  rw [nI_clamp (by omega), hd o ho]
  exact pk_le (dp o) 0 (fun g => k0 (by omega)) (fun g => k1 (by omega))
theorem x_isAlive0 {post : Int32 → Prop} {x y : Int32} (h : x < 0 ∨ nI 24 ≤ x) (k : post 0) : wpX_isAlive post (fM, fO, fC, fX, fP, tH, kD, sZ, rF, rT, nU, oB, pA, pI, pF, sE, aN, lA, dM, bF, bN, rE, cH, dE, qU, lO, oR, oP, nF, cO, iL, rP) y x := by
  unfold wpX_isAlive
  refine br_c (fun _ => k) (fun n => br_t ?_ k)
  rcases h with h | h
  · exact absurd h n
  · exact h
theorem x_isAlive {post : Int32 → Prop} {y : Int32} {o m : Nat} {num : Nat → Nat} (ho : o < 24) (hn : rp_a nU num 24) (hm : num o < m) (hm5 : m ≤ 25) (k1 : num o ≠ 0 → post 1) (k0 : num o = 0 → post 0) : wpX_isAlive post (fM, fO, fC, fX, fP, tH, kD, sZ, rF, rT, nU, oB, pA, pI, pF, sE, aN, lA, dM, bF, bN, rE, cH, dE, qU, lO, oR, oP, nF, cO, iL, rP) y (nI o) := by
  unfold wpX_isAlive
  refine br_f (nI_pos (by omega)) (br_f (nI_ge (b := 24) ho (by omega)) ⟨vp_in_nI ho (by omega), ?_⟩)
  rw [nI_clamp (by omega), hn o ho]
  exact pk_le (num o) 0 (fun g => k0 (by omega)) (fun g => k1 (by omega))
end
end
section
/-! Y: findFar, findWay -/
def ff_I (tH fD : Nat → Int32) (w o t s : Nat) (fr : Nat → Nat) : Prop :=
  (∀ a, a < 24 → fr a ≤ 100 ∧ (fr a < 100 → Bk_d (gE tH fD w) o (fr a) a)) ∧
  (∀ a k, a < 24 → k ≤ t → Bk_d (gE tH fD w) o k a → fr a ≤ k) ∧
  (∀ j p k, j < s → p < 24 → gT tH w (j / 4) → fD (96 * w + j) = nI p → k ≤ t → Bk_d (gE tH fD w) o k p → fr (j / 4) ≤ k + 1)
theorem ff_row {tH fD : Nat → Int32} {w o t : Nat} {fr : Nat → Nat} (h : ff_I tH fD w o t 96 fr) : ff_I tH fD w o (t + 1) 0 fr := by
  obtain ⟨h1, h2, h3⟩ := h
  refine ⟨h1, fun a k ha hk hb => ?_, fun j p k hj => by omega⟩
  cases k with
  | zero => exact h2 a 0 ha (by omega) hb
  | succ k =>
    obtain ⟨b, ⟨e1, e2, e3, i, e4, e5⟩, b2⟩ := hb
    have := h3 (4 * a + i) b k (by omega) e3 (by rw [show (4 * a + i) / 4 = a by omega]; exact e2) (by rw [← Nat.add_assoc]; exact e5) (by omega) b2
    rw [show (4 * a + i) / 4 = a by omega] at this
    exact this
/-- one slot -/
theorem ff_step {tH fD : Nat → Int32} {w o t s v : Nat} {fr : Nat → Nat} (hs : s < 96) (h : ff_I tH fD w o t s fr)
    (hv : (v = fr (s / 4) ∧ ∀ p, p < 24 → gT tH w (s / 4) → fD (96 * w + s) = nI p → fr (s / 4) ≤ fr p + 1) ∨ ∃ p, p < 24 ∧ gE tH fD w (s / 4) p ∧ fD (96 * w + s) = nI p ∧ v = fr p + 1 ∧ fr p + 1 < fr (s / 4)) :
    ff_I tH fD w o t (s + 1) (pz_un fr (s / 4) v) := by
  obtain ⟨h1, h2, h3⟩ := h
  have hle : v ≤ fr (s / 4) := by
    rcases hv with ⟨hv, _⟩ | ⟨p, _, _, _, hv, _⟩ <;> omega
  have hl : ∀ a, pz_un fr (s / 4) v a ≤ fr a := fun a => by
    by_cases c : a = s / 4
    · subst c; rw [pz_us]; exact hle
    · rw [pz_ud c]; exact Nat.le_refl _
  refine ⟨fun a ha => ?_, fun a k ha hk hb => Nat.le_trans (hl a) (h2 a k ha hk hb), fun j p k hj hp hT hf hk hb => ?_⟩
  · have := h1 a ha
    refine ⟨Nat.le_trans (hl a) this.1, fun g => ?_⟩
    by_cases c : a = s / 4
    · subst c
      rw [pz_us] at g ⊢
      rcases hv with ⟨hv, _⟩ | ⟨p, p1, p2, p3, p4, p5⟩
      · rw [hv] at g ⊢; exact this.2 g
      · rw [p4]
        exact ⟨p, p2, (h1 p p1).2 (by omega)⟩
    · rw [pz_ud c] at g ⊢; exact this.2 g
  · by_cases c : j = s
    · subst c
      rw [pz_us]
      have hp' := h2 p k hp hk hb
      rcases hv with ⟨hv, hv2⟩ | ⟨q, q1, q2, q3, q4, q5⟩
      · have := hv2 p hp hT hf; omega
      · rw [q3] at hf
        have : q = p := (nI_eq (by omega) (by omega)).mp hf
        subst this
        omega
    · exact Nat.le_trans (hl _) (h3 j p k (by omega) hp hT hf hk hb)
section
variable {tH kD sZ fD rT fA lI : Nat → Int32}
theorem y_ff33 {post : SY → Prop} {w o : Nat} (hw : w < 3) (ok : gOk tH fD rT w) (h01 : ∀ n, n < 72 → tH n = 0 ∨ tH n = 1) (K : ∀ (fr : Nat → Nat) (fA : Nat → Int32), rp_a fA fr 24 → ff_I tH fD w o 24 0 fr → post (tH, kD, sZ, fD, rT, fA, lI)) :
    ∀ (m n : Nat) (fr : Nat → Nat) (fA : Nat → Int32), 2304 < m + n → n ≤ 2304 → rp_a fA fr 24 → ff_I tH fD w o (n / 96) (n % 96) fr → wY_findFar_33 post (nI w) m (nI n) tH kD sZ fD rT fA lI := by
  intro m
  induction m with
  | zero => intro n fr fA h1 h2; omega
  | succ m ih =>
    intro n fr fA h1 h2 hr hI
    rw [wY_findFar_33]
    by_cases c : n = 2304
    · subst c
      exact br_t (nI_le (a := 2304) (b := 2304) (by omega) (by omega)) (K fr fA hr hI)
    · have e1 : nI n - nI n / 96 * 96 = nI (n % 96) := pk_rem (d := 96) (by omega) (by omega) (by omega)
      have e2 : nI (n % 96) / 4 = nI (n % 96 / 4) := pk_div (d := 4) (by omega) (by omega) (by omega)
      refine br_f (nI_ge (b := 2304) (by omega) (by omega)) ⟨by decide, by decide, ?_⟩
      rw [e1, e2]
      have ha : n % 96 / 4 < 24 := by omega
      have ea : (nI (n % 96 / 4)).toNatClampNeg = n % 96 / 4 := nI_clamp (by omega)
      have va : vp_in (nI (n % 96 / 4)) 24 := vp_in_nI ha (by omega)
      refine nm_e ?_
      unfold wpY_isAliveThere
      rw [ix_o, nI_clamp (show 24 * w + n % 96 / 4 < 2 ^ 31 by omega)]
      refine ⟨vp_in_nI (by omega) (by omega), ?_, ?_⟩
      · rcases h01 (24 * w + n % 96 / 4) (by omega) with e | e <;> rw [e] <;> rfl
      -- going on with v at the object
      have go : ∀ v, ((v = fr (n % 96 / 4) ∧ ∀ p, p < 24 → gT tH w (n % 96 / 4) → fD (96 * w + n % 96) = nI p → fr (n % 96 / 4) ≤ fr p + 1) ∨ ∃ p, p < 24 ∧ gE tH fD w (n % 96 / 4) p ∧ fD (96 * w + n % 96) = nI p ∧ v = fr p + 1 ∧ fr p + 1 < fr (n % 96 / 4)) →
          wY_findFar_33 post (nI w) m (nI (n + 1)) tH kD sZ fD rT (upd fA (n % 96 / 4) (nI v)) lI := by
        intro v hv
        have hs := ff_step (by omega) hI hv
        refine ih (n + 1) _ _ (by omega) (by omega) (rp_upd hr) ?_
        by_cases d : n % 96 = 95
        · rw [show (n + 1) / 96 = n / 96 + 1 by omega, show (n + 1) % 96 = 0 by omega]
          rw [d] at hs ⊢
          exact ff_row hs
        · rw [show (n + 1) / 96 = n / 96 by omega, show (n + 1) % 96 = n % 96 + 1 by omega]
          exact hs
      have hfa := (hI.1 (n % 96 / 4) ha).1
      refine br_c (fun g => ?_) (fun g => ⟨by decide, ?_⟩)
      · unfold wY_findFar_76
        refine br_t ix_lt0 ⟨va, va, nm_r (e' := upd fA (n % 96 / 4) (nI (fr (n % 96 / 4)))) (by rw [ea, hr _ ha]) (nm_r (nI_1 n) (go _ (Or.inl ⟨rfl, fun p _ hT => absurd g hT⟩)))⟩
      · rw [ix_n, nI_clamp (show 96 * w + n % 96 < 2 ^ 31 by omega)]
        refine ⟨vp_in_nI (by omega) (by omega), ?_⟩
        unfold wY_findFar_76
        rcases ok.2 (n % 96 / 4) ha g (n % 96 % 4) (by omega) with f | ⟨p, f1, f2, f3⟩
        · rw [← yl_slot] at f
          rw [f]
          refine br_t ix_lt0 ⟨va, va, nm_r (e' := upd fA (n % 96 / 4) (nI (fr (n % 96 / 4)))) (by rw [ea, hr _ ha]) (nm_r (nI_1 n) (go _ (Or.inl ⟨rfl, fun p hp _ e => ?_⟩)))⟩
          rw [f] at e
          exact absurd e.symm (ix_m1 (by omega))
        · have f2' := f2
          rw [← yl_slot] at f2
          rw [f2]
          have ep : (nI p).toNatClampNeg = p := nI_clamp (by omega)
          have vp : vp_in (nI p) 24 := vp_in_nI f1 (by omega)
          have hfp := (hI.1 p f1).1
          refine br_f (nI_pos (by omega)) ⟨vp, va, ?_⟩
          rw [ea, ep, hr _ ha, hr p f1, nI_1 (fr p)]
          refine pk_le (fr (n % 96 / 4)) (fr p + 1) (fun q => ?_) (fun q => ?_)
          · refine ⟨va, va, nm_e (nm_r (nI_1 n) (go _ (Or.inl ⟨rfl, fun p' hp' _ e => ?_⟩)))⟩
            rw [f2] at e
            have : p = p' := (nI_eq (by omega) (by omega)).mp e
            subst this
            exact q
          · exact ⟨vp, va, nm_e (nm_r (nI_1 n) (go _ (Or.inr ⟨p, f1, ⟨ha, g, f1, n % 96 % 4, by omega, f2'⟩, f2, rfl, q⟩)))⟩
theorem y_ff2 {post : SY → Prop} {w o : Nat} (hw : w < 3) (ho : o < 24) (ok : gOk tH fD rT w) (h01 : ∀ n, n < 72 → tH n = 0 ∨ tH n = 1) (K : ∀ (fr : Nat → Nat) (fA : Nat → Int32), rp_a fA fr 24 → ff_I tH fD w o 24 0 fr → post (tH, kD, sZ, fD, rT, fA, lI)) :
    ∀ (n i : Nat) (fA : Nat → Int32), 24 < n + i → i ≤ 24 → rp_a fA (fun x => if x = o then 0 else 100) i → wY_findFar_2 post (nI w) (nI o) n (nI i) tH kD sZ fD rT fA lI := by
  intro n
  induction n with
  | zero => intro i fA h1 h2; omega
  | succ n ih =>
    intro i fA h1 h2 hr
    rw [wY_findFar_2]
    by_cases c : i = 24
    · subst c
      refine br_t (nI_le (a := 24) (b := 24) (by omega) (by omega)) ⟨2305, y_ff33 (o := o) hw ok h01 K 2305 0 (fun x => if x = o then 0 else 100) fA (by omega) (by omega) hr ⟨fun a ha => ?_, fun a k ha hk hb => ?_, fun j p k hj => by omega⟩⟩
      · by_cases d : a = o
        · dsimp only; rw [if_pos d]; exact ⟨by omega, fun _ => d⟩
        · dsimp only; rw [if_neg d]; exact ⟨by omega, fun z => by omega⟩
      · have hk0 : k = 0 := by omega
        subst hk0
        have e : a = o := hb
        show (if a = o then 0 else 100) ≤ 0
        rw [if_pos e]; exact Nat.le_refl 0
    · have ei : (nI i).toNatClampNeg = i := nI_clamp (by omega)
      have vi : vp_in (nI i) 24 := vp_in_nI (by omega) (by omega)
      have nxt : ∀ v : Nat, v = (if i = o then 0 else 100) → wY_findFar_2 post (nI w) (nI o) n (nI (i + 1)) tH kD sZ fD rT (upd fA i (nI v)) lI := by
        intro v hv
        refine ih (i + 1) _ (by omega) (by omega) fun x hx => ?_
        by_cases d : x = i
        · subst d; rw [pk_us, hv]
        · rw [pk_un d]; exact hr x (by omega)
      refine br_f (nI_ge (b := 24) (by omega) (by omega)) (pk_eq i o (fun g => ?_) (fun g => ?_))
      · exact ⟨vi, nm_r (e' := upd fA i (nI 0)) (by rw [ei]; rfl) (nm_r (nI_1 i) (nxt 0 (by rw [if_pos g])))⟩
      · exact ⟨vi, nm_r (e' := upd fA i (nI 100)) (by rw [ei]; rfl) (nm_r (nI_1 i) (nxt 100 (by rw [if_neg g])))⟩
theorem y_findFar {post : SY → Prop} {w o : Nat} (hw : w < 3) (ho : o < 24) (ok : gOk tH fD rT w) (h01 : ∀ n, n < 72 → tH n = 0 ∨ tH n = 1) (K : ∀ (fr : Nat → Nat) (fA : Nat → Int32), rp_a fA fr 24 → ff_I tH fD w o 24 0 fr → post (tH, kD, sZ, fD, rT, fA, lI)) : wpY_findFar post (tH, kD, sZ, fD, rT, fA, lI) (nI w) (nI o) := by
  unfold wpY_findFar
  exact ⟨25, y_ff2 hw ho ok h01 K 25 0 fA (by omega) (by omega) (fun x hx => by omega)⟩
/-- the next one: the least that is nearer -/
theorem y_fw143 {post : Int32 → SY → Prop} {J : Int32 → Int32 → (Nat → Int32) → (Nat → Int32) → (Nat → Int32) → (Nat → Int32) → (Nat → Int32) → (Nat → Int32) → (Nat → Int32) → Prop} {w a : Nat} {x4 : Int32} {fr : Nat → Nat} (hw : w < 3) (ha : a < 24) (hT : gT tH w a) (ok : gOk tH fD rT w) (hr : rp_a fA fr 24) (hrb : ∀ x, x < 24 → fr x ≤ 100)
    (K0 : (∀ y, gE tH fD w a y → fr y + 1 = fr a → False) → J x4 (-1) tH kD sZ fD rT fA lI)
    (K1 : ∀ q, gE tH fD w a q → fr q + 1 = fr a → (∀ y, gE tH fD w a y → fr y + 1 = fr a → q ≤ y) → J x4 (nI q) tH kD sZ fD rT fA lI) :
    ∀ (n i : Nat) (x : Int32), 4 < n + i → i ≤ 4 → ((x = -1 ∧ ∀ j y, j < i → y < 24 → gf_f fD w a j = nI y → fr y + 1 = fr a → False) ∨ ∃ q, x = nI q ∧ (∃ j, j < i ∧ gf_f fD w a j = nI q) ∧ q < 24 ∧ fr q + 1 = fr a ∧ ∀ j y, j < i → y < 24 → gf_f fD w a j = nI y → fr y + 1 = fr a → q ≤ y) →
      wY_findWay_143 post J (nI w) x4 (nI a) tH kD sZ fD rT fA lI n x (nI i) := by
  intro n
  induction n with
  | zero => intro i x h1 h2; omega
  | succ n ih =>
    intro i x h1 h2 hx
    rw [wY_findWay_143]
    by_cases c : i = 4
    · subst c
      refine br_t (nI_le (a := 4) (b := 4) (by omega) (by omega)) ?_
      rcases hx with ⟨rfl, hx⟩ | ⟨q, rfl, ⟨j, j1, j2⟩, q1, q2, q4⟩
      · exact K0 fun y ⟨_, _, e1, j, e2, e3⟩ e4 => hx j y e2 e1 e3 e4
      · exact K1 q ⟨ha, hT, q1, j, j1, j2⟩ q2 fun y ⟨_, _, e1, j', e2, e3⟩ e4 => q4 j' y e2 e1 e3 e4
    · refine br_f (nI_ge (b := 4) (by omega) (by omega)) ?_
      rw [ix_3, nI_clamp (by omega)]
      refine ⟨vp_in_nI (by omega) (by omega), nm_e ?_⟩
      have ef : fD (96 * w + 4 * a + i) = gf_f fD w a i := rfl
      rw [ef]
      have no : ∀ r : Int32, (∀ y, y < 24 → gf_f fD w a i = nI y → fr y + 1 = fr a → False) → wY_findWay_196 post J (wY_findWay_143 post J (nI w) x4 (nI a) tH kD sZ fD rT fA lI n) (nI w) x4 (nI a) x (nI i) r tH kD sZ fD rT fA lI := by
        intro r g
        unfold wY_findWay_196 wY_findWay_197
        refine br_t rfl (nm_r (nI_1 i) (ih (i + 1) x (by omega) (by omega) ?_))
        rcases hx with ⟨e, hx⟩ | ⟨q, e, ⟨j, j1, j2⟩, q1, q2, q4⟩
        · refine Or.inl ⟨e, fun j y a1 a2 a3 a4 => ?_⟩
          by_cases d : j = i
          · subst d; exact g y a2 a3 a4
          · exact hx j y (by omega) a2 a3 a4
        · refine Or.inr ⟨q, e, ⟨j, by omega, j2⟩, q1, q2, fun j y a1 a2 a3 a4 => ?_⟩
          by_cases d : j = i
          · subst d; exact (g y a2 a3 a4).elim
          · exact q4 j y (by omega) a2 a3 a4
      rcases ok.2 a ha hT i (by omega) with e | ⟨p, p1, p2, p3⟩
      · rw [e]
        refine br_t ix_lt0 (no _ fun y hy e' => ?_)
        rw [e] at e'
        exact absurd e'.symm (ix_m1 (by omega))
      · rw [p2]
        have vp : vp_in (nI p) 24 := vp_in_nI p1 (by omega)
        have hp := hrb p p1
        have ha' := hrb a ha
        have sm : ∀ y, y < 24 → gf_f fD w a i = nI y → y = p := fun y h e => by rw [p2] at e; exact ((nI_eq (by omega) (by omega)).mp e).symm
        refine br_f (nI_pos (by omega)) ⟨vp, vp_in_nI ha (by omega), ?_⟩
        rw [nI_clamp (show p < 2 ^ 31 by omega), nI_clamp (show a < 2 ^ 31 by omega), hr p p1, hr a ha, nI_1]
        refine pk_eq (fr p + 1) (fr a) (fun g => ?_) (fun g => ?_)
        · unfold wY_findWay_197
          refine br_f (by decide) ?_
          rcases hx with ⟨rfl, hx⟩ | ⟨q, rfl, ⟨j, j1, j2⟩, q1, q2, q4⟩
          · refine br_t ix_lt0 (nm_r (nI_1 i) (ih (i + 1) _ (by omega) (by omega) (Or.inr ⟨p, rfl, ⟨i, by omega, p2⟩, p1, g, fun j y a1 a2 a3 a4 => ?_⟩)))
            by_cases d : j = i
            · subst d; exact Nat.le_of_eq (sm y a2 a3).symm
            · exact (hx j y (by omega) a2 a3 a4).elim
          · refine br_f (nI_pos (by omega)) (pk_le q p (fun g' => ?_) (fun g' => ?_))
            · refine nm_r (nI_1 i) (ih (i + 1) _ (by omega) (by omega) (Or.inr ⟨q, rfl, ⟨j, by omega, j2⟩, q1, q2, fun j y a1 a2 a3 a4 => ?_⟩))
              by_cases d : j = i
              · subst d; rw [sm y a2 a3]; exact g'
              · exact q4 j y (by omega) a2 a3 a4
            · refine nm_r (nI_1 i) (ih (i + 1) _ (by omega) (by omega) (Or.inr ⟨p, rfl, ⟨i, by omega, p2⟩, p1, g, fun j y a1 a2 a3 a4 => ?_⟩))
              by_cases d : j = i
              · subst d; exact Nat.le_of_eq (sm y a2 a3).symm
              · have := q4 j y (by omega) a2 a3 a4; omega
        · refine no _ fun y hy e hdy => ?_
          rw [sm y hy e] at hdy
          exact g hdy
theorem y_fw120 {post : Int32 → SY → Prop} {w o D : Nat} {fr : Nat → Nat} (hw : w < 3) (ok : gOk tH fD rT w) (hr : rp_a fA fr 24) (hI : ff_I tH fD w o 24 0 fr) (hD : D ≤ 23) (hD2 : ∀ k p, gR rT w p → Bk_d (gE tH fD w) o k p → D ≤ k)
    (K : ∀ lI : Nat → Int32, (∀ k, k ≤ D → ∃ x, lI k = nI x ∧ Wy_d (gR rT w) (gE tH fD w) o D k x) → post (nI (D + 1)) (tH, kD, sZ, fD, rT, fA, lI)) :
    ∀ (d n k a : Nat) (lI : Nat → Int32), k + d = D → d + 1 < n → Wy_d (gR rT w) (gE tH fD w) o D k a → fr a = d → (∀ j, j < k → ∃ x, lI j = nI x ∧ Wy_d (gR rT w) (gE tH fD w) o D j x) →
      wY_findWay_120 post (nI w) n (nI k) (nI a) tH kD sZ fD rT fA lI := by
  have hrb : ∀ x, x < 24 → fr x ≤ 100 := fun x hx => (hI.1 x hx).1
  intro d
  induction d with
  | zero =>
    intro n k a lI h1 h2 hW hf hl
    obtain ⟨n, rfl⟩ : ∃ q, n = q + 2 := ⟨n - 2, by omega⟩
    have hA := gA_T ok (rk_a (wy_rk hW))
    rw [wY_findWay_120]
    refine br_f (nI_pos (by omega)) ⟨vp_in_nI (by omega) (by omega), nm_r (e' := upd lI k (nI a)) (by rw [nI_clamp (by omega)]) (nm_r (nI_1 k) ⟨5, ?_⟩)⟩
    refine y_fw143 hw hA.1 hA.2 ok hr hrb (fun _ => ?_) (fun q _ e => by omega) 5 0 (-1) (by omega) (by omega) (Or.inl ⟨rfl, fun j y hj => by omega⟩)
    rw [wY_findWay_120]
    refine br_t ix_lt0 ?_
    have e : k = D := by omega
    subst e
    refine K _ fun j hj => ?_
    by_cases c : j = k
    · subst c; exact ⟨a, pk_us, hW⟩
    · rw [pk_un c]; exact hl j (by omega)
  | succ d ih =>
    intro n k a lI h1 h2 hW hf hl
    obtain ⟨n, rfl⟩ : ∃ q, n = q + 1 := ⟨n - 1, by omega⟩
    have hrk := wy_rk hW
    have hbk := wy_bk hW
    have hA := gA_T ok (rk_a hrk)
    rw [wY_findWay_120]
    refine br_f (nI_pos (by omega)) ⟨vp_in_nI (by omega) (by omega), nm_r (e' := upd lI k (nI a)) (by rw [nI_clamp (by omega)]) (nm_r (nI_1 k) ⟨5, ?_⟩)⟩
    have key : ∀ q, gE tH fD w a q → (fr q + 1 = fr a ↔ Bk_d (gE tH fD w) o (D - (k + 1)) q) := by
      intro q hq
      have hq24 := hq.2.2.1
      constructor
      · intro e
        have := (hI.1 q hq24).2 (by omega)
        rw [show fr q = D - (k + 1) by omega] at this
        exact this
      · intro hb
        have h3 := hI.2.1 q (D - (k + 1)) hq24 (by omega) hb
        have h4 := (hI.1 q hq24).2 (by omega)
        obtain ⟨p, p1, p2⟩ := rk_bk (j := k) (k := fr q + 1) hrk ⟨q, hq, h4⟩
        have := hD2 _ p p1 p2
        omega
    refine y_fw143 hw hA.1 hA.2 ok hr hrb (fun hno => ?_) (fun q q1 q2 q3 => ?_) 5 0 (-1) (by omega) (by omega) (Or.inl ⟨rfl, fun j y hj => by omega⟩)
    · rw [show D - k = D - (k + 1) + 1 by omega] at hbk
      obtain ⟨q, q1, q2⟩ := hbk
      exact (hno q q1 ((key q q1).2 q2)).elim
    · refine ih n (k + 1) q _ (by omega) (by omega) ⟨a, hW, ⟨q1, (key q q1).1 q2⟩, fun y y1 y2 => q3 y y1 ((key y y1).2 y2)⟩ (by omega) (fun j hj => ?_)
      by_cases c : j = k
      · subst c; exact ⟨a, pk_us, hW⟩
      · rw [pk_un c]; exact hl j (by omega)
theorem y_fw11 {post : Int32 → SY → Prop} {w o D : Nat} {fr : Nat → Nat} (hw : w < 3) (ok : gOk tH fD rT w) (hr : rp_a fA fr 24) (hI : ff_I tH fD w o 24 0 fr) (hD : D ≤ 23) (hD1 : ∃ p, gR rT w p ∧ Bk_d (gE tH fD w) o D p) (hD2 : ∀ k p, gR rT w p → Bk_d (gE tH fD w) o k p → D ≤ k)
    (K : ∀ lI : Nat → Int32, (∀ k, k ≤ D → ∃ x, lI k = nI x ∧ Wy_d (gR rT w) (gE tH fD w) o D k x) → post (nI (D + 1)) (tH, kD, sZ, fD, rT, fA, lI)) :
    ∀ (n i : Nat) (x : Int32), 4 < n + i → i ≤ 4 → ((x = -1 ∧ ∀ j y, j < i → y < 24 → gt_r rT w j = nI y → fr y < 100 → False) ∨ ∃ b, x = nI b ∧ b < 24 ∧ gR rT w b ∧ fr b < 100 ∧ ∀ j y, j < i → y < 24 → gt_r rT w j = nI y → fr y < 100 → fr b < fr y ∨ (fr b = fr y ∧ b ≤ y)) →
      wY_findWay_11 post (nI w) tH kD sZ fD rT fA lI n x (nI i) := by
  have hrb : ∀ x, x < 24 → fr x ≤ 100 := fun x hx => (hI.1 x hx).1
  intro n
  induction n with
  | zero => intro i x h1 h2; omega
  | succ n ih =>
    intro i x h1 h2 hx
    rw [wY_findWay_11]
    by_cases c : i = 4
    · subst c
      refine br_t (nI_le (a := 4) (b := 4) (by omega) (by omega)) ⟨D + 2, ?_⟩
      obtain ⟨p, ⟨p1, j, p2, p3⟩, p4⟩ := hD1
      have hfp := hI.2.1 p D p1 (by omega) p4
      rcases hx with ⟨rfl, hx⟩ | ⟨b, rfl, b1, b2, b3, b4⟩
      · exact (hx j p p2 p1 p3 (by omega)).elim
      · have low : ∀ y, gR rT w y → fr y < 100 → D ≤ fr y := fun y hy hz => hD2 _ y hy ((hI.1 y hy.1).2 hz)
        have eb : fr b = D := by
          have := low b b2 b3
          have := b4 j p p2 p1 p3 (by omega)
          omega
        have hbb := (hI.1 b b1).2 b3
        rw [eb] at hbb
        refine y_fw120 hw ok hr hI hD hD2 K D (D + 2) 0 b lI (by omega) (by omega) ⟨⟨b2, hbb⟩, fun y y1 y2 => ?_⟩ eb (fun j hj => by omega)
        have hfy := hI.2.1 y D y1.1 (by omega) y2
        have := low y y1 (by omega)
        obtain ⟨y1', j', j1, j2⟩ := y1
        have := b4 j' y j1 y1' j2 (by omega)
        omega
    · refine br_f (nI_ge (b := 4) (by omega) (by omega)) ?_
      rw [ix_r, nI_clamp (by omega)]
      refine ⟨vp_in_nI (by omega) (by omega), nm_e ?_⟩
      have er : rT (4 * w + i) = gt_r rT w i := rfl
      rw [er]
      have no : ∀ r : Int32, (∀ y, y < 24 → gt_r rT w i = nI y → fr y < 100 → ∃ b, x = nI b ∧ b < 24 ∧ (fr b < fr y ∨ (fr b = fr y ∧ b ≤ y))) → wY_findWay_93 post (wY_findWay_11 post (nI w) tH kD sZ fD rT fA lI n) (nI w) x (nI i) r tH kD sZ fD rT fA lI := by
        intro r g
        unfold wY_findWay_93 wY_findWay_94
        refine br_t rfl (nm_r (nI_1 i) (ih (i + 1) x (by omega) (by omega) ?_))
        rcases hx with ⟨e, hx⟩ | ⟨b, e, b1, b2, b3, b4⟩
        · refine Or.inl ⟨e, fun j y a1 a2 a3 a4 => ?_⟩
          by_cases d : j = i
          · subst d
            obtain ⟨b, g1, g2, _⟩ := g y a2 a3 a4
            rw [e] at g1
            exact ix_m1 (by omega) g1.symm
          · exact hx j y (by omega) a2 a3 a4
        · refine Or.inr ⟨b, e, b1, b2, b3, fun j y a1 a2 a3 a4 => ?_⟩
          by_cases d : j = i
          · subst d
            obtain ⟨b', g1, g2, g3⟩ := g y a2 a3 a4
            rw [e] at g1
            have : b = b' := (nI_eq (by omega) (by omega)).mp g1
            subst this
            exact g3
          · exact b4 j y (by omega) a2 a3 a4
      rcases ok.1 i (by omega) with e | ⟨p, p1, p2, p3⟩
      · rw [e]
        refine br_t ix_lt0 (no _ fun y hy e' => ?_)
        rw [e] at e'
        exact absurd e'.symm (ix_m1 (by omega))
      · rw [p2]
        have vp : vp_in (nI p) 24 := vp_in_nI p1 (by omega)
        have ep : (nI p).toNatClampNeg = p := nI_clamp (by omega)
        have hp := hrb p p1
        have sm : ∀ y, y < 24 → gt_r rT w i = nI y → y = p := fun y h e => by rw [p2] at e; exact ((nI_eq (by omega) (by omega)).mp e).symm
        have yes : fr p < 100 → (∀ j y, j < i → y < 24 → gt_r rT w j = nI y → fr y < 100 → fr p < fr y ∨ (fr p = fr y ∧ p ≤ y)) → wY_findWay_89 post (wY_findWay_11 post (nI w) tH kD sZ fD rT fA lI n) (nI w) x (nI i) (nI p) tH kD sZ fD rT fA lI := by
          intro g1 g2
          unfold wY_findWay_89 wY_findWay_94
          refine br_f (by decide) (nm_r (nI_1 i) (ih (i + 1) _ (by omega) (by omega) (Or.inr ⟨p, rfl, p1, ⟨p1, i, by omega, p2⟩, g1, fun j y a1 a2 a3 a4 => ?_⟩)))
          by_cases d : j = i
          · subst d
            have := sm y a2 a3
            subst this
            exact Or.inr ⟨rfl, Nat.le_refl _⟩
          · exact g2 j y (by omega) a2 a3 a4
        refine br_f (nI_pos (by omega)) ⟨vp, ?_⟩
        rw [ep, hr p p1]
        refine pk_le 100 (fr p) (fun g => ?_) (fun g => ?_)
        · refine no _ fun y hy e hf => ?_
          rw [sm y hy e] at hf
          omega
        · rcases hx with ⟨e, hx⟩ | ⟨b, e, b1, b2, b3, b4⟩
          · refine br_t (by rw [e]; exact ix_lt0) (yes g fun j y a1 a2 a3 a4 => (hx j y a1 a2 a3 a4).elim)
          · have hb := hrb b b1
            have vb : vp_in x 24 := by rw [e]; exact vp_in_nI b1 (by omega)
            have eb : x.toNatClampNeg = b := by rw [e]; exact nI_clamp (by omega)
            refine br_f (by rw [e]; exact nI_pos (by omega)) ⟨vp, vb, ?_⟩
            rw [eb, hr b b1]
            refine pk_lt (fr p) (fr b) (fun g1 => yes g fun j y a1 a2 a3 a4 => ?_) (fun g1 => ⟨vp, vb, pk_eq (fr p) (fr b) (fun g2 => ?_) (fun g2 => ?_)⟩)
            · have := b4 j y a1 a2 a3 a4
              omega
            · refine pk_le b p (fun g3 => no _ fun y hy e' _ => ?_) (fun g3 => yes g fun j y a1 a2 a3 a4 => ?_) e
              · rw [sm y hy e']; exact ⟨b, e, b1, by omega⟩
              · have := b4 j y a1 a2 a3 a4
                omega
            · refine no _ fun y hy e' _ => ?_
              rw [sm y hy e']; exact ⟨b, e, b1, by omega⟩
/-- the first of the shortest ways -/
theorem y_findWay {post : Int32 → SY → Prop} {w o D : Nat} (hw : w < 3) (ho : o < 24) (ok : gOk tH fD rT w) (h01 : ∀ n, n < 72 → tH n = 0 ∨ tH n = 1) (hD : D ≤ 23) (hD1 : ∃ p, gR rT w p ∧ Bk_d (gE tH fD w) o D p) (hD2 : ∀ k p, gR rT w p → Bk_d (gE tH fD w) o k p → D ≤ k)
    (K : ∀ fA lI : Nat → Int32, (∀ k, k ≤ D → ∃ x, lI k = nI x ∧ Wy_d (gR rT w) (gE tH fD w) o D k x) → post (nI (D + 1)) (tH, kD, sZ, fD, rT, fA, lI)) : wpY_findWay post (tH, kD, sZ, fD, rT, fA, lI) (nI w) (nI o) := by
  unfold wpY_findWay
  refine y_findFar hw ho ok h01 fun fr fA g1 g2 => ⟨5, y_fw11 hw ok g1 g2 hD hD1 hD2 (fun lI => K fA lI) 5 0 (-1) (by omega) (by omega) (Or.inl ⟨rfl, fun j y hj => by omega⟩)⟩
end
end
section
/-! what a sweep leaves -/
theorem g0_f (rF : Nat → Int32) (o i : Nat) : gf_f rF 0 o i = rF (4 * o + i) := by unfold gf_f; rw [Nat.mul_zero, Nat.zero_add]
theorem g0_r (rT : Nat → Int32) (i : Nat) : gt_r rT 0 i = rT i := by unfold gt_r; rw [Nat.mul_zero, Nat.zero_add]
theorem g0_T (tH : Nat → Int32) (o : Nat) : gT tH 0 o ↔ tH o ≠ 0 := by unfold gT; rw [Nat.mul_zero, Nat.zero_add]
/-- a set each of whose members a root or a member refers to -/
def Su_s (tH rF rT : Nat → Int32) (S : Nat → Prop) : Prop := ∀ x, S x → x < 24 ∧ gT tH 0 x ∧ (gR rT 0 x ∨ ∃ a, S a ∧ gE tH rF 0 a x)
def Gl_s (tH rF rT : Nat → Int32) (x : Nat) : Prop := ∃ S, Su_s tH rF rT S ∧ S x
theorem gl_su (tH rF rT : Nat → Int32) : Su_s tH rF rT (Gl_s tH rF rT) := by
  rintro x ⟨S, hS, hx⟩
  obtain ⟨a, b, c⟩ := hS x hx
  refine ⟨a, b, c.imp id ?_⟩
  rintro ⟨y, y1, y2⟩
  exact ⟨y, ⟨S, hS, y1⟩, y2⟩
/-- counts of references -/
def ct_r (rT : Nat → Int32) (x n : Nat) : Nat := sn_s (fun i => if gt_r rT 0 i = nI x then 1 else 0) n
def ct_f (rF : Nat → Int32) (a x n : Nat) : Nat := sn_s (fun i => if gf_f rF 0 a i = nI x then 1 else 0) n
def ct_e (rF : Nat → Int32) (L : Nat → Bool) (x n : Nat) : Nat := sn_s (fun a => if L a = true then ct_f rF a x 4 else 0) n
theorem ct_ind {p : Nat → Prop} [DecidablePred p] (n : Nat) : sn_s (fun i => if p i then 1 else 0) n ≤ n := by
  have := sn_le (f := fun i => if p i then 1 else 0) (g := fun _ => 1) (n := n) (fun i _ => by
    show (if p i then 1 else 0) ≤ 1
    split <;> omega)
  rw [sn_const] at this
  omega
theorem ct_b (rF rT : Nat → Int32) (L : Nat → Bool) (x : Nat) : ct_r rT x 4 + ct_e rF L x 24 ≤ 100 := by
  have h1 : ct_r rT x 4 ≤ 4 := ct_ind 4
  have h2 : ct_e rF L x 24 ≤ 24 * 4 := by
    rw [← sn_const]
    refine sn_le fun a _ => ?_
    have : ct_f rF a x 4 ≤ 4 := ct_ind 4
    split <;> omega
  omega
/-- no reference: nothing refers to it -/
theorem ct_0 {tH rF rT : Nat → Int32} {L : Nat → Bool} {x : Nat} (hx : x < 24) (h : ct_r rT x 4 + ct_e rF L x 24 = 0) : ¬ gR rT 0 x ∧ ∀ a, L a = true → ¬ gE tH rF 0 a x := by
  constructor
  · rintro ⟨_, i, i1, i2⟩
    have := sn_zero (f := fun i => if gt_r rT 0 i = nI x then 1 else 0) (n := 4) (by unfold ct_r at h; omega) i i1
    rw [if_pos i2] at this
    omega
  · rintro a ha ⟨a1, _, _, i, i1, i2⟩
    have h1 := sn_zero (f := fun a => if L a = true then ct_f rF a x 4 else 0) (n := 24) (by unfold ct_e at h; omega) a a1
    rw [if_pos ha] at h1
    have := sn_zero (f := fun i => if gf_f rF 0 a i = nI x then 1 else 0) (n := 4) h1 i i1
    rw [if_pos i2] at this
    omega
theorem ct_ne {tH rF rT : Nat → Int32} {L : Nat → Bool} {x : Nat} (hx : x < 24) (hL : ∀ a, a < 24 → L a = true → gT tH 0 a) (h : ct_r rT x 4 + ct_e rF L x 24 ≠ 0) : gR rT 0 x ∨ ∃ a, a < 24 ∧ L a = true ∧ gE tH rF 0 a x := by
  by_cases c : ct_r rT x 4 = 0
  · right
    obtain ⟨a, a1, a2⟩ := sn_pos (f := fun a => if L a = true then ct_f rF a x 4 else 0) (n := 24) (by unfold ct_e at h; omega)
    by_cases hl : L a = true
    · rw [if_pos hl] at a2
      obtain ⟨i, i1, i2⟩ := sn_pos (f := fun i => if gf_f rF 0 a i = nI x then 1 else 0) (n := 4) a2
      by_cases e : gf_f rF 0 a i = nI x
      · exact ⟨a, a1, hl, a1, hL a a1 hl, hx, i, i1, e⟩
      · rw [if_neg e] at i2; omega
    · rw [if_neg hl] at a2; omega
  · left
    obtain ⟨i, i1, i2⟩ := sn_pos (f := fun i => if gt_r rT 0 i = nI x then 1 else 0) (n := 4) c
    by_cases e : gt_r rT 0 i = nI x
    · exact ⟨hx, i, i1, e⟩
    · rw [if_neg e] at i2; omega
theorem ct_del {rF : Nat → Int32} {L : Nat → Bool} {o x : Nat} (ho : o < 24) (hL : L o = true) : ct_e rF (pz_ub L o false) x 24 + ct_f rF o x 4 = ct_e rF L x 24 := by
  have := sn_one (f := fun a => if L a = true then ct_f rF a x 4 else 0) (g := fun a => if pz_ub L o false a = true then ct_f rF a x 4 else 0) (j := o) (n := 24) (fun i _ hne => by rw [pz_ubd hne]) ho
  rw [if_pos hL, pz_ubs, if_neg (by decide)] at this
  unfold ct_e
  omega
section
variable {fM fO fC fX fP : Int32} {tH kD sZ rF rT nU oB pA pI pF sE aN lA dM bF bN rE cH dE qU lO oR oP nF cO iL rP : Nat → Int32}
theorem x_count0 {post : SX → Prop} {b : Int32} (h : post (fM, fO, fC, fX, fP, tH, kD, sZ, rF, rT, nU, oB, pA, pI, pF, sE, aN, lA, dM, bF, bN, rE, cH, dE, qU, lO, oR, oP, nF, cO, iL, rP)) : wpX_count post (fM, fO, fC, fX, fP, tH, kD, sZ, rF, rT, nU, oB, pA, pI, pF, sE, aN, lA, dM, bF, bN, rE, cH, dE, qU, lO, oR, oP, nF, cO, iL, rP) (-1) b := by
  unfold wpX_count
  exact br_t rfl h
theorem x_count1 {post : SX → Prop} {b : Int32} {p : Nat} (hp : p < 24) (h : post (fM, fO, fC, fX, fP, tH, kD, sZ, rF, rT, nU, oB, pA, pI, pF, sE, aN, lA, dM, bF, bN, rE, cH, dE, qU, lO, oR, oP, nF, (upd cO p (cO p + b)), iL, rP)) : wpX_count post (fM, fO, fC, fX, fP, tH, kD, sZ, rF, rT, nU, oB, pA, pI, pF, sE, aN, lA, dM, bF, bN, rE, cH, dE, qU, lO, oR, oP, nF, cO, iL, rP) (nI p) b := by
  unfold wpX_count
  have ep : (nI p).toNatClampNeg = p := nI_clamp (by omega)
  have vp : vp_in (nI p) 24 := vp_in_nI hp (by omega)
  exact br_f (ix_m1 (by omega)) ⟨vp, vp, nm_r (e' := upd cO p (cO p + b)) (by rw [ep]) h⟩
theorem x_cf2 {post : SX → Prop} {b : Int32} {o : Nat} {c0 : Nat → Int32} (ho : o < 24) (hT : gT tH 0 o) (ok : gOk tH rF rT 0)
    (K : ∀ cO : Nat → Int32, (∀ x, x < 24 → cO x = c0 x + b * nI (ct_f rF o x 4)) → post (fM, fO, fC, fX, fP, tH, kD, sZ, rF, rT, nU, oB, pA, pI, pF, sE, aN, lA, dM, bF, bN, rE, cH, dE, qU, lO, oR, oP, nF, cO, iL, rP)) :
    ∀ (n i : Nat) (cO : Nat → Int32), 4 < n + i → i ≤ 4 → (∀ x, x < 24 → cO x = c0 x + b * nI (ct_f rF o x i)) → wX_countFields_2 post (nI o) b n (nI i) fM fO fC fX fP tH kD sZ rF rT nU oB pA pI pF sE aN lA dM bF bN rE cH dE qU lO oR oP nF cO iL rP := by
  intro n
  induction n with
  | zero => intro i cO h1 h2; omega
  | succ n ih =>
    intro i cO h1 h2 hc
    rw [wX_countFields_2]
    by_cases c : i = 4
    · subst c
      exact br_t (nI_le (a := 4) (b := 4) (by omega) (by omega)) (K cO hc)
    · refine br_f (nI_ge (b := 4) (by omega) (by omega)) ?_
      rw [ix_r, nI_clamp (by omega)]
      refine ⟨vp_in_nI (by omega) (by omega), ?_⟩
      rw [← g0_f rF o i]
      have st : ∀ x, ct_f rF o x (i + 1) = ct_f rF o x i + if gf_f rF 0 o i = nI x then 1 else 0 := fun x => rfl
      rcases ok.2 o ho hT i (by omega) with e | ⟨p, p1, p2, p3⟩
      · rw [e]
        refine x_count0 (nm_r (nI_1 i) (ih (i + 1) cO (by omega) (by omega) fun x hx => ?_))
        rw [st x, if_neg, Nat.add_zero]
        · exact hc x hx
        · rw [e]; exact fun z => ix_m1 (by omega) z.symm
      · rw [p2]
        refine x_count1 p1 (nm_r (nI_1 i) (ih (i + 1) _ (by omega) (by omega) fun x hx => ?_))
        rw [st x, p2]
        by_cases d : x = p
        · subst d
          rw [pk_us, if_pos rfl, hc x hx, ← nI_add]
          show _ = _ + b * (_ + 1)
          grind
        · rw [pk_un d, if_neg fun z => d ((nI_eq (by omega) (by omega)).mp z).symm, Nat.add_zero]
          exact hc x hx
theorem x_countFields {post : SX → Prop} {b : Int32} {o : Nat} (ho : o < 24) (hT : gT tH 0 o) (ok : gOk tH rF rT 0)
    (K : ∀ cO' : Nat → Int32, (∀ x, x < 24 → cO' x = cO x + b * nI (ct_f rF o x 4)) → post (fM, fO, fC, fX, fP, tH, kD, sZ, rF, rT, nU, oB, pA, pI, pF, sE, aN, lA, dM, bF, bN, rE, cH, dE, qU, lO, oR, oP, nF, cO', iL, rP)) : wpX_countFields post (fM, fO, fC, fX, fP, tH, kD, sZ, rF, rT, nU, oB, pA, pI, pF, sE, aN, lA, dM, bF, bN, rE, cH, dE, qU, lO, oR, oP, nF, cO, iL, rP) (nI o) b := by
  unfold wpX_countFields
  refine ⟨5, x_cf2 (c0 := cO) ho hT ok K 5 0 cO (by omega) (by omega) fun x _ => ?_⟩
  show cO x = cO x + b * 0
  rw [Int32.mul_zero, Int32.add_zero]
/-- one round -/
theorem x_fl108 {post : Int32 → SX → Prop} {J : (Int32 → Int32 → Int32 → Int32 → Int32 → Int32 → Int32 → Int32 → (Nat → Int32) → (Nat → Int32) → (Nat → Int32) → (Nat → Int32) → (Nat → Int32) → (Nat → Int32) → (Nat → Int32) → (Nat → Int32) → (Nat → Int32) → (Nat → Int32) → (Nat → Int32) → (Nat → Int32) → (Nat → Int32) → (Nat → Int32) → (Nat → Int32) → (Nat → Int32) → (Nat → Int32) → (Nat → Int32) → (Nat → Int32) → (Nat → Int32) → (Nat → Int32) → (Nat → Int32) → (Nat → Int32) → (Nat → Int32) → (Nat → Int32) → (Nat → Int32) → (Nat → Int32) → Prop)} {nb rd : Nat} (ok : gOk tH rF rT 0)
    (K : ∀ (n : Nat) (L : Nat → Bool) (iL cO : Nat → Int32), nb ≤ n → rb_a iL L 24 → (∀ x, x < 24 → cO x = nI (ct_r rT x 4 + ct_e rF L x 24)) → (∀ x, x < 24 → L x = true → gT tH 0 x) → (∀ x, x < 24 → Gl_s tH rF rT x → L x = true) → n = nn_c (fun x => decide (tH x ≠ 0) && !L x) 24 →
      (n = nb → ∀ o, o < 24 → L o = true → ct_r rT o 4 + ct_e rF L o 24 ≠ 0) → J (nI n) (if n ≤ nb then 0 else 1) (nI (rd + 1)) fM fO fC fX fP tH kD sZ rF rT nU oB pA pI pF sE aN lA dM bF bN rE cH dE qU lO oR oP nF cO iL rP) :
    ∀ (m i n : Nat) (L : Nat → Bool) (iL cO : Nat → Int32), 24 < m + i → i ≤ 24 → nb ≤ n → rb_a iL L 24 → (∀ x, x < 24 → cO x = nI (ct_r rT x 4 + ct_e rF L x 24)) → (∀ x, x < 24 → L x = true → gT tH 0 x) → (∀ x, x < 24 → Gl_s tH rF rT x → L x = true) → n = nn_c (fun x => decide (tH x ≠ 0) && !L x) 24 →
      (n = nb → ∀ o, o < i → L o = true → ct_r rT o 4 + ct_e rF L o 24 ≠ 0) → wX_findLeft_108 post J (nI rd) (nI nb) m (nI n) (nI i) fM fO fC fX fP tH kD sZ rF rT nU oB pA pI pF sE aN lA dM bF bN rE cH dE qU lO oR oP nF cO iL rP := by
  intro m
  induction m with
  | zero => intro i n L iL cO h1 h2; omega
  | succ m ih =>
    intro i n L iL cO h1 h2 hnb hb hc hT hG hn hst
    rw [wX_findLeft_108]
    have hn24 : n ≤ 24 := by rw [hn]; exact nn_c_le _ 24
    by_cases c : i = 24
    · subst c
      have key := K n L iL cO hnb hb hc hT hG hn hst
      refine br_t (nI_le (a := 24) (b := 24) (by omega) (by omega)) (pk_le n nb (fun g => ?_) (fun g => ?_))
      · rw [if_pos g] at key; exact nm_r (nI_1 rd) key
      · rw [if_neg (by omega)] at key; exact nm_r (nI_1 rd) key
    · have ei : (nI i).toNatClampNeg = i := nI_clamp (by omega)
      have vi : vp_in (nI i) 24 := vp_in_nI (by omega) (by omega)
      refine br_f (nI_ge (b := 24) (by omega) (by omega)) ⟨vi, ?_⟩
      rw [ei]
      have skip : (L i = true → ct_r rT i 4 + ct_e rF L i 24 ≠ 0) → wX_findLeft_108 post J (nI rd) (nI nb) m (nI n) (nI (i + 1)) fM fO fC fX fP tH kD sZ rF rT nU oB pA pI pF sE aN lA dM bF bN rE cH dE qU lO oR oP nF cO iL rP := by
        intro g
        refine ih (i + 1) n L iL cO (by omega) (by omega) hnb hb hc hT hG hn fun e o ho hl => ?_
        by_cases d : o = i
        · subst d; exact g hl
        · exact hst e o (by omega) hl
      refine br_c (fun g => nm_r (nI_1 i) (skip fun z => ?_)) (fun g => ⟨vi, ?_⟩)
      · rw [(rb_0 (hb i (by omega))).1 g] at z; exact nomatch z
      · have hLi : L i = true := Classical.byContradiction fun y => g ((rb_0 (hb i (by omega))).2 (gx_f y))
        have hTi := hT i (by omega) hLi
        have hbd := ct_b rF rT L i
        rw [hc i (by omega)]
        refine pk_eq (ct_r rT i 4 + ct_e rF L i 24) 0 (fun z => ⟨vi, nm_r (e' := upd iL i 0) rfl ?_⟩) (fun z => nm_r (nI_1 i) (skip fun _ => z))
        refine x_countFields (by omega) hTi ok fun cO' hc' => ?_
        refine nm_r (nI_1 n) (nm_r (nI_1 i) ?_)
        obtain ⟨n1, n2⟩ := ct_0 (tH := tH) (show i < 24 by omega) z
        refine ih (i + 1) (n + 1) (pz_ub L i false) _ cO' (by omega) (by omega) (by omega) (rb_upd (b := false) hb) (fun x hx => ?_) (fun x hx hl => ?_) (fun x hx hg => ?_) ?_ (fun e => by omega)
        · rw [hc' x hx, hc x hx, ← ct_del (rF := rF) (L := L) (o := i) (x := x) (by omega) hLi, ← Nat.add_assoc, ← nI_add _ (ct_f rF i x 4)]
          grind
        · by_cases d : x = i
          · subst d; exact hTi
          · rw [pz_ubd d] at hl; exact hT x hx hl
        · by_cases d : x = i
          · subst d
            exfalso
            obtain ⟨_, _, s⟩ := gl_su tH rF rT x hg
            rcases s with s | ⟨a, a1, a2⟩
            · exact n1 s
            · exact n2 a (hG a a2.1 a1) a2
          · rw [pz_ubd d]; exact hG x hx hg
        · rw [nn_c_ins (p := fun x => decide (tH x ≠ 0) && !L x) (j := i) ?_ ?_ (fun x hx hne => by rw [pz_ubd hne]) (by omega), ← hn]
          · rw [hLi]; exact Bool.and_false _
          · rw [pz_ubs, decide_eq_true ((g0_T tH i).1 hTi)]; rfl
theorem x_fl92 {post : Int32 → SX → Prop} (ok : gOk tH rF rT 0)
    (K : ∀ (n : Nat) (L : Nat → Bool) (iL cO : Nat → Int32), rb_a iL L 24 → (∀ x, x < 24 → (L x = true ↔ Gl_s tH rF rT x)) → n = nn_c (fun x => decide (tH x ≠ 0) && !L x) 24 → post (nI n) (fM, fO, fC, fX, fP, tH, kD, sZ, rF, rT, nU, oB, pA, pI, pF, sE, aN, lA, dM, bF, bN, rE, cH, dE, qU, lO, oR, oP, nF, cO, iL, rP)) :
    ∀ (m rd n : Nat) (L : Nat → Bool) (more : Int32) (iL cO : Nat → Int32), 25 < m + rd → rd ≤ 25 → rb_a iL L 24 → (∀ x, x < 24 → cO x = nI (ct_r rT x 4 + ct_e rF L x 24)) → (∀ x, x < 24 → L x = true → gT tH 0 x) → (∀ x, x < 24 → Gl_s tH rF rT x → L x = true) → n = nn_c (fun x => decide (tH x ≠ 0) && !L x) 24 →
      ((more = 1 ∧ rd ≤ n) ∨ (more = 0 ∧ ∀ o, o < 24 → L o = true → ct_r rT o 4 + ct_e rF L o 24 ≠ 0)) → wX_findLeft_92 post m (nI n) more (nI rd) fM fO fC fX fP tH kD sZ rF rT nU oB pA pI pF sE aN lA dM bF bN rE cH dE qU lO oR oP nF cO iL rP := by
  intro m
  induction m with
  | zero => intro rd n L more iL cO h1 h2; omega
  | succ m ih =>
    intro rd n L more iL cO h1 h2 hb hc hT hG hn hst
    rw [wX_findLeft_92]
    have hn24 : n ≤ 24 := by rw [hn]; exact nn_c_le _ 24
    rcases hst with ⟨rfl, hst⟩ | ⟨rfl, hst⟩
    · refine br_f (nI_ge (b := 25) (by omega) (by omega)) (br_f (by decide) ⟨25, ?_⟩)
      refine x_fl108 (nb := n) ok (fun n' L' iL' cO' g0 g1 g2 g3 g4 g5 g6 => ?_) 25 0 n L iL cO (by omega) (by omega) (Nat.le_refl _) hb hc hT hG hn (fun _ o ho => by omega)
      refine ih (rd + 1) n' L' _ iL' cO' (by omega) (by omega) g1 g2 g3 g4 g5 ?_
      by_cases d : n' ≤ n
      · rw [if_pos d]; exact Or.inr ⟨rfl, g6 (by omega)⟩
      · rw [if_neg d]; exact Or.inl ⟨rfl, by omega⟩
    · have fin := K n L iL cO hb (fun x hx => ⟨fun hl => ?_, hG x hx⟩) hn
      · exact br_c (fun _ => fin) (fun _ => br_t rfl fin)
      · refine ⟨fun y => y < 24 ∧ L y = true, fun y hy => ⟨hy.1, hT y hy.1 hy.2, ?_⟩, hx, hl⟩
        rcases ct_ne hy.1 hT (hst y hy.1 hy.2) with g | ⟨a, a1, a2, a3⟩
        · exact Or.inl g
        · exact Or.inr ⟨a, ⟨a1, a2⟩, a3⟩
theorem x_fl59 {post : Int32 → SX → Prop} (ok : gOk tH rF rT 0) (hb : rb_a iL (fun x => decide (tH x ≠ 0)) 24)
    (K : ∀ (n : Nat) (L : Nat → Bool) (iL cO : Nat → Int32), rb_a iL L 24 → (∀ x, x < 24 → (L x = true ↔ Gl_s tH rF rT x)) → n = nn_c (fun x => decide (tH x ≠ 0) && !L x) 24 → post (nI n) (fM, fO, fC, fX, fP, tH, kD, sZ, rF, rT, nU, oB, pA, pI, pF, sE, aN, lA, dM, bF, bN, rE, cH, dE, qU, lO, oR, oP, nF, cO, iL, rP)) :
    ∀ (m i : Nat) (cO : Nat → Int32), 24 < m + i → i ≤ 24 → (∀ x, x < 24 → cO x = nI (ct_r rT x 4 + ct_e rF (fun a => decide (tH a ≠ 0)) x i)) → wX_findLeft_59 post m (nI i) fM fO fC fX fP tH kD sZ rF rT nU oB pA pI pF sE aN lA dM bF bN rE cH dE qU lO oR oP nF cO iL rP := by
  intro m
  induction m with
  | zero => intro i cO h1 h2; omega
  | succ m ih =>
    intro i cO h1 h2 hc
    rw [wX_findLeft_59]
    by_cases c : i = 24
    · subst c
      refine br_t (nI_le (a := 24) (b := 24) (by omega) (by omega)) ⟨26, ?_⟩
      refine x_fl92 ok K 26 0 0 (fun x => decide (tH x ≠ 0)) 1 iL cO (by omega) (by omega) hb hc (fun x _ hl => (g0_T tH x).2 (decide_eq_true_iff.1 hl)) (fun x _ hg => ?_) ?_ (Or.inl ⟨rfl, by omega⟩)
      · exact decide_eq_true ((g0_T tH x).1 (gl_su tH rF rT x hg).2.1)
      · refine (nn_c_none fun x _ => ?_).symm
        cases decide (tH x ≠ 0) <;> rfl
    · refine br_f (nI_ge (b := 24) (by omega) (by omega)) ⟨vp_in_nI (by omega) (by omega), ?_⟩
      rw [nI_clamp (by omega)]
      have st : ∀ x, ct_e rF (fun a => decide (tH a ≠ 0)) x (i + 1) = ct_e rF (fun a => decide (tH a ≠ 0)) x i + if decide (tH i ≠ 0) = true then ct_f rF i x 4 else 0 := fun x => rfl
      refine br_c (fun g => ?_) (fun g => ?_)
      · refine nm_r (nI_1 i) (ih (i + 1) cO (by omega) (by omega) fun x hx => ?_)
        rw [st x, decide_eq_false (fun z => z g), if_neg (by decide), Nat.add_zero]
        exact hc x hx
      · refine x_countFields (by omega) ((g0_T tH i).2 g) ok fun cO' hc' => nm_r (nI_1 i) (ih (i + 1) cO' (by omega) (by omega) fun x hx => ?_)
        rw [st x, decide_eq_true g, if_pos rfl, hc' x hx, hc x hx, Int32.one_mul, nI_add, Nat.add_assoc]
theorem x_fl35 {post : Int32 → SX → Prop} (ok : gOk tH rF rT 0) (hb : rb_a iL (fun x => decide (tH x ≠ 0)) 24)
    (K : ∀ (n : Nat) (L : Nat → Bool) (iL cO : Nat → Int32), rb_a iL L 24 → (∀ x, x < 24 → (L x = true ↔ Gl_s tH rF rT x)) → n = nn_c (fun x => decide (tH x ≠ 0) && !L x) 24 → post (nI n) (fM, fO, fC, fX, fP, tH, kD, sZ, rF, rT, nU, oB, pA, pI, pF, sE, aN, lA, dM, bF, bN, rE, cH, dE, qU, lO, oR, oP, nF, cO, iL, rP)) :
    ∀ (m i : Nat) (cO : Nat → Int32), 4 < m + i → i ≤ 4 → (∀ x, x < 24 → cO x = nI (ct_r rT x i)) → wX_findLeft_35 post m (nI i) fM fO fC fX fP tH kD sZ rF rT nU oB pA pI pF sE aN lA dM bF bN rE cH dE qU lO oR oP nF cO iL rP := by
  intro m
  induction m with
  | zero => intro i cO h1 h2; omega
  | succ m ih =>
    intro i cO h1 h2 hc
    rw [wX_findLeft_35]
    by_cases c : i = 4
    · subst c
      exact br_t (nI_le (a := 4) (b := 4) (by omega) (by omega)) ⟨25, x_fl59 ok hb K 25 0 cO (by omega) (by omega) fun x hx => hc x hx⟩
    · refine br_f (nI_ge (b := 4) (by omega) (by omega)) ⟨vp_in_nI (by omega) (by omega), ?_⟩
      rw [nI_clamp (by omega), ← g0_r rT i]
      have st : ∀ x, ct_r rT x (i + 1) = ct_r rT x i + if gt_r rT 0 i = nI x then 1 else 0 := fun x => rfl
      rcases ok.1 i (by omega) with e | ⟨p, p1, p2, p3⟩
      · rw [e]
        refine x_count0 (nm_r (nI_1 i) (ih (i + 1) cO (by omega) (by omega) fun x hx => ?_))
        rw [st x, if_neg, Nat.add_zero]
        · exact hc x hx
        · rw [e]; exact fun z => ix_m1 (by omega) z.symm
      · rw [p2]
        refine x_count1 p1 (nm_r (nI_1 i) (ih (i + 1) _ (by omega) (by omega) fun x hx => ?_))
        rw [st x, p2]
        by_cases d : x = p
        · subst d
          rw [pk_us, if_pos rfl, hc x hx]; exact nI_1 _
        · rw [pk_un d, if_neg fun z => d ((nI_eq (by omega) (by omega)).mp z).symm, Nat.add_zero]
          exact hc x hx
theorem x_fl2 {post : Int32 → SX → Prop} (ok : gOk tH rF rT 0) (h01 : ∀ n, n < 72 → tH n = 0 ∨ tH n = 1)
    (K : ∀ (n : Nat) (L : Nat → Bool) (iL cO : Nat → Int32), rb_a iL L 24 → (∀ x, x < 24 → (L x = true ↔ Gl_s tH rF rT x)) → n = nn_c (fun x => decide (tH x ≠ 0) && !L x) 24 → post (nI n) (fM, fO, fC, fX, fP, tH, kD, sZ, rF, rT, nU, oB, pA, pI, pF, sE, aN, lA, dM, bF, bN, rE, cH, dE, qU, lO, oR, oP, nF, cO, iL, rP)) :
    ∀ (m i : Nat) (cO iL : Nat → Int32), 24 < m + i → i ≤ 24 → (∀ x, x < i → cO x = 0) → rb_a iL (fun x => decide (tH x ≠ 0)) i → wX_findLeft_2 post fM fO fC fX fP m (nI i) tH kD sZ rF rT nU oB pA pI pF sE aN lA dM bF bN rE cH dE qU lO oR oP nF cO iL rP := by
  intro m
  induction m with
  | zero => intro i cO iL h1 h2; omega
  | succ m ih =>
    intro i cO iL h1 h2 hc hb
    rw [wX_findLeft_2]
    by_cases c : i = 24
    · subst c
      exact br_t (nI_le (a := 24) (b := 24) (by omega) (by omega)) ⟨5, x_fl35 ok hb K 5 0 cO (by omega) (by omega) fun x hx => hc x hx⟩
    · have ei : (nI i).toNatClampNeg = i := nI_clamp (by omega)
      have vi : vp_in (nI i) 24 := vp_in_nI (by omega) (by omega)
      refine br_f (nI_ge (b := 24) (by omega) (by omega)) ⟨vi, nm_r (e' := upd cO i 0) (by rw [ei]) ⟨vp_in_nI (by omega) (by omega), vi, nm_r (e' := upd iL i (if decide (tH i ≠ 0) = true then 1 else 0)) ?_ (nm_r (nI_1 i) (ih (i + 1) _ _ (by omega) (by omega) (fun x hx => ?_) (fun x hx => ?_)))⟩⟩
      · rw [ei]
        rcases h01 i (by omega) with e | e <;> rw [e] <;> rfl
      · by_cases d : x = i
        · subst d; exact pk_us
        · rw [pk_un d]; exact hc x (by omega)
      · by_cases d : x = i
        · subst d; exact pk_us
        · rw [pk_un d]; exact hb x (by omega)
theorem x_findLeft {post : Int32 → SX → Prop} (ok : gOk tH rF rT 0) (h01 : ∀ n, n < 72 → tH n = 0 ∨ tH n = 1)
    (K : ∀ (n : Nat) (L : Nat → Bool) (iL cO : Nat → Int32), rb_a iL L 24 → (∀ x, x < 24 → (L x = true ↔ Gl_s tH rF rT x)) → n = nn_c (fun x => decide (tH x ≠ 0) && !L x) 24 → post (nI n) (fM, fO, fC, fX, fP, tH, kD, sZ, rF, rT, nU, oB, pA, pI, pF, sE, aN, lA, dM, bF, bN, rE, cH, dE, qU, lO, oR, oP, nF, cO, iL, rP)) : wpX_findLeft post (fM, fO, fC, fX, fP, tH, kD, sZ, rF, rT, nU, oB, pA, pI, pF, sE, aN, lA, dM, bF, bN, rE, cH, dE, qU, lO, oR, oP, nF, cO, iL, rP) := by
  unfold wpX_findLeft
  exact ⟨25, x_fl2 ok h01 K 25 0 cO iL (by omega) (by omega) (fun x hx => by omega) (fun x hx => by omega)⟩
end
end
section
/-! Y: loose, lose -/
section
variable {tH kD sZ fD rT fA lI : Nat → Int32}
/-- what is held so far: roots before i, and what slots before k of members of l refer to -/
def lo_H (tH fD rT : Nat → Int32) (l : Int32) (i k : Nat) (s : Int32) : Prop :=
  ∀ x, bt s x = true ↔ (x < 24 ∧ ((∃ j, j < i ∧ gt_r rT 0 j = nI x) ∨ ∃ j, j < k ∧ bt l (j / 4) = true ∧ fD j = nI x))
theorem yo_60 {post : Int32 → Prop} {J : Int32 → Int32 → Prop} {l x2 : Int32} (ok : gOk tH fD rT 0) (hl : ∀ x, bt l x = true → x < 24 ∧ gT tH 0 x) (K : ∀ s, lo_H tH fD rT l 4 96 s → J (l &&& s) x2) :
    ∀ (n k : Nat) (s : Int32), 96 < n + k → k ≤ 96 → lo_H tH fD rT l 4 k s → wY_loose_60 post J l x2 tH kD sZ fD rT fA lI n s (nI k) := by
  intro n
  induction n with
  | zero => intro k s h1 h2; omega
  | succ n ih =>
    intro k s h1 h2 hs
    rw [wY_loose_60]
    by_cases c : k = 96
    · subst c
      exact br_t (nI_le (a := 96) (b := 96) (by omega) (by omega)) (nm_e (K s hs))
    · refine br_f (nI_ge (b := 96) (by omega) (by omega)) ⟨by decide, ?_⟩
      have e4 : nI k / 4 = nI (k / 4) := pk_div (d := 4) (by omega) (by omega) (by omega)
      rw [e4]
      have skip : (∀ x, x < 24 → bt l (k / 4) = true → fD k = nI x → False) → wY_loose_60 post J l x2 tH kD sZ fD rT fA lI n s (nI (k + 1)) := by
        intro g
        refine ih (k + 1) s (by omega) (by omega) fun x => ?_
        rw [hs x]
        refine and_congr_right fun hx => or_congr_right ⟨fun ⟨j, a, b⟩ => ⟨j, by omega, b⟩, fun ⟨j, a, b⟩ => ⟨j, ?_, b⟩⟩
        have : j ≠ k := fun e => by subst e; exact g x hx b.1 b.2
        omega
      have es : fD k = gf_f fD 0 (k / 4) (k % 4) := by
        rw [← yl_slot, Nat.mul_zero, Nat.zero_add]
      refine br_c (fun g => ?_) (fun g => ?_)
      · rw [yb_is (by omega)] at g
        obtain ⟨a1, a2⟩ := hl _ g
        rw [nI_clamp (by omega)]
        refine ⟨vp_in_nI (by omega) (by omega), ?_⟩
        unfold wY_loose_90
        rcases ok.2 (k / 4) a1 a2 (k % 4) (by omega) with f | ⟨p, f1, f2, f3⟩
        · rw [← es] at f
          rw [f]
          refine br_t ix_lt0 (nm_r (nI_1 k) (skip fun x hx _ e => ?_))
          rw [f] at e
          exact ix_m1 (by omega) e.symm
        · rw [← es] at f2
          rw [f2]
          refine br_f (nI_pos (by omega)) (nm_e (nm_r (nI_1 k) (ih (k + 1) _ (by omega) (by omega) fun x => ?_)))
          constructor
          · intro z
            rw [yb_or1 (by omega) (yb_lt z), hs x] at z
            rcases z with ⟨z1, z2 | ⟨j, j1, j2⟩⟩ | z
            · exact ⟨z1, Or.inl z2⟩
            · exact ⟨z1, Or.inr ⟨j, by omega, j2⟩⟩
            · subst z; exact ⟨f1, Or.inr ⟨k, by omega, g, f2⟩⟩
          · rintro ⟨z1, z2⟩
            rw [yb_or1 (by omega) (by omega), hs x]
            rcases z2 with z2 | ⟨j, j1, j2, j3⟩
            · exact Or.inl ⟨z1, Or.inl z2⟩
            · by_cases d : j = k
              · subst d
                rw [f2] at j3
                exact Or.inr ((nI_eq (by omega) (by omega)).mp j3).symm
              · exact Or.inl ⟨z1, Or.inr ⟨j, by omega, j2, j3⟩⟩
      · rw [yb_is (by omega)] at g
        unfold wY_loose_90
        exact br_t ix_lt0 (nm_r (nI_1 k) (skip fun x _ z _ => g z))
theorem yo_19 {post : Int32 → Prop} {J : Int32 → Int32 → Prop} {l x2 : Int32} (ok : gOk tH fD rT 0) (hl : ∀ x, bt l x = true → x < 24 ∧ gT tH 0 x) (K : ∀ s, lo_H tH fD rT l 4 96 s → J (l &&& s) x2) :
    ∀ (n i : Nat) (s : Int32), 4 < n + i → i ≤ 4 → lo_H tH fD rT l i 0 s → wY_loose_19 post J l x2 tH kD sZ fD rT fA lI n s (nI i) := by
  intro n
  induction n with
  | zero => intro i s h1 h2; omega
  | succ n ih =>
    intro i s h1 h2 hs
    rw [wY_loose_19]
    by_cases c : i = 4
    · subst c
      exact br_t (nI_le (a := 4) (b := 4) (by omega) (by omega)) ⟨97, yo_60 ok hl K 97 0 s (by omega) (by omega) hs⟩
    · have vi : vp_in (nI i) 12 := vp_in_nI (by omega) (by omega)
      refine br_f (nI_ge (b := 4) (by omega) (by omega)) ⟨vi, ?_⟩
      rw [nI_clamp (by omega), ← g0_r rT i]
      rcases ok.1 i (by omega) with f | ⟨p, f1, f2, f3⟩
      · rw [f]
        refine br_t ix_lt0 (nm_r (nI_1 i) (ih (i + 1) s (by omega) (by omega) fun x => ?_))
        rw [hs x]
        refine and_congr_right fun hx => or_congr_left ⟨fun ⟨j, a, b⟩ => ⟨j, by omega, b⟩, fun ⟨j, a, b⟩ => ⟨j, ?_, b⟩⟩
        have : j ≠ i := fun e => by subst e; rw [f] at b; exact ix_m1 (by omega) b.symm
        omega
      · rw [f2]
        refine br_f (nI_pos (by omega)) ⟨vi, nm_e (nm_r (nI_1 i) (ih (i + 1) _ (by omega) (by omega) fun x => ?_))⟩
        constructor
        · intro z
          rw [yb_or1 (by omega) (yb_lt z), hs x] at z
          rcases z with ⟨z1, ⟨j, j1, j2⟩ | z2⟩ | z
          · exact ⟨z1, Or.inl ⟨j, by omega, j2⟩⟩
          · exact ⟨z1, Or.inr z2⟩
          · subst z; exact ⟨f1, Or.inl ⟨i, by omega, f2⟩⟩
        · rintro ⟨z1, z2⟩
          rw [yb_or1 (by omega) (by omega), hs x]
          rcases z2 with ⟨j, j1, j2⟩ | z2
          · by_cases d : j = i
            · subst d
              rw [f2] at j2
              exact Or.inr ((nI_eq (by omega) (by omega)).mp j2).symm
            · exact Or.inl ⟨z1, Or.inl ⟨j, by omega, j2⟩⟩
          · exact Or.inl ⟨z1, Or.inr z2⟩
theorem yo_7 {post : Int32 → Prop} (ok : gOk tH fD rT 0) (K : ∀ s, ys_S s (fun x => tH x ≠ 0 ∧ ¬ Gl_s tH fD rT x) → post s) :
    ∀ (n : Nat) (l b : Int32), (b ≠ l → nn_c (bt l) 24 + 1 < n) → 1 ≤ n → (∀ x, bt l x = true → x < 24 ∧ gT tH 0 x) → (∀ x, Gl_s tH fD rT x → bt l x = true) →
      (b = -1 ∨ ∀ x, bt l x = true → gR rT 0 x ∨ ∃ a, bt b a = true ∧ gE tH fD 0 a x) → wY_loose_7 post tH kD sZ fD rT fA lI n l b := by
  intro n
  induction n with
  | zero => intro l b h1 h2; omega
  | succ n ih =>
    intro l b h1 h2 hl hG hb
    rw [wY_loose_7]
    by_cases c : b = l
    · refine br_t c (y_all fun s hs => K _ ?_)
      have hsu : ∀ x, bt l x = true → gR rT 0 x ∨ ∃ a, bt b a = true ∧ gE tH fD 0 a x := by
        rcases hb with hb | hb
        · have : bt l 31 = true := by rw [← c, hb]; exact b_m1 31 (by omega)
          have := (hl 31 this).1
          omega
        · exact hb
      subst c
      have hlS : ys_S b (Gl_s tH fD rT) := fun x => ⟨fun z => ⟨(hl x z).1, fun y => bt b y = true, fun y hy => ⟨(hl y hy).1, (hl y hy).2, hsu y hy⟩, z⟩, fun z => hG x z.2⟩
      exact ys_diff hs hlS
    · refine br_f c ⟨5, ?_⟩
      have hb1 := h1 c
      refine yo_19 ok hl (fun s hs => ?_) 5 0 0 (by omega) (by omega) (fun x => ?_)
      · have sub : ∀ x, bt (l &&& s) x = true → bt l x = true := fun x z => by rw [b_and, Bool.and_eq_true] at z; exact z.1
        refine ih (l &&& s) l (fun hne => ?_) (by omega) (fun x z => hl x (sub x z)) (fun x hg => ?_) (Or.inr fun x z => ?_)
        · have hex : ∃ j, j < 24 ∧ bt (l &&& s) j = false ∧ bt l j = true := by
            refine Classical.byContradiction fun hn => hne (yb_eq fun i hi => ⟨fun z => ?_, sub i⟩)
            refine Classical.byContradiction fun k => hn ⟨i, (hl i z).1, gx_f k, z⟩
          obtain ⟨j, j1, j2, j3⟩ := hex
          have := nn_c_lt (p := bt (l &&& s)) (q := bt l) j2 j3 (n := 24) (fun i _ z => sub i z) j1
          omega
        · obtain ⟨g1, g2, g3⟩ := gl_su tH fD rT x hg
          rw [b_and, Bool.and_eq_true]
          refine ⟨hG x hg, (hs x).2 ⟨g1, ?_⟩⟩
          rcases g3 with ⟨_, g3⟩ | ⟨a, a1, a2⟩
          · exact Or.inl g3
          · obtain ⟨e1, _, _, i, e4, e5⟩ := a2
            refine Or.inr ⟨4 * a + i, by omega, ?_, ?_⟩
            · rw [show (4 * a + i) / 4 = a by omega]; exact hG a a1
            · rw [← g0_f fD a i]; exact e5
        · rw [b_and, Bool.and_eq_true] at z
          obtain ⟨z1, z2⟩ := (hs x).1 z.2
          rcases z2 with z2 | ⟨j, j1, j2, j3⟩
          · exact Or.inl ⟨z1, z2⟩
          · obtain ⟨l1, l2⟩ := hl _ j2
            refine Or.inr ⟨j / 4, j2, l1, l2, z1, j % 4, by omega, ?_⟩
            rw [← yl_slot, Nat.mul_zero, Nat.zero_add]
            exact j3
      · rw [b_0]
        exact ⟨(fun z => nomatch z), fun ⟨_, z⟩ => by rcases z with ⟨j, hj, _⟩ | ⟨j, hj, _⟩ <;> omega⟩
theorem y_loose {post : Int32 → Prop} (ok : gOk tH fD rT 0) (K : ∀ s, ys_S s (fun x => tH x ≠ 0 ∧ ¬ Gl_s tH fD rT x) → post s) : wpY_loose post (tH, kD, sZ, fD, rT, fA, lI) := by
  unfold wpY_loose
  refine y_all fun s hs => ⟨27, yo_7 ok K 27 s (-1) (fun _ => ?_) (by omega) (fun x z => ?_) (fun x hg => ?_) (Or.inl rfl)⟩
  · have := nn_c_le (bt s) 24
    omega
  · obtain ⟨a, b⟩ := (hs x).1 z
    exact ⟨a, (g0_T tH x).2 b⟩
  · obtain ⟨g1, g2, _⟩ := gl_su tH fD rT x hg
    exact (hs x).2 ⟨g1, (g0_T tH x).1 g2⟩
theorem yi_lose {post : SY → Prop} {s : Int32} {P : Nat → Prop} (hs : ys_S s P) (K : ∀ tH' : Nat → Int32, (∀ x, x < 24 → ((tH' x = 1 ∧ tH x ≠ 0 ∧ ¬ P x) ∨ (tH' x = 0 ∧ ¬ (tH x ≠ 0 ∧ ¬ P x)))) → (∀ x, 24 ≤ x → tH' x = tH x) → post (tH', kD, sZ, fD, rT, fA, lI)) :
    ∀ (n i : Nat) (tH' : Nat → Int32), 24 < n + i → i ≤ 24 → (∀ x, x < i → ((tH' x = 1 ∧ tH x ≠ 0 ∧ ¬ P x) ∨ (tH' x = 0 ∧ ¬ (tH x ≠ 0 ∧ ¬ P x)))) → (∀ x, i ≤ x → tH' x = tH x) → wY_lose_2 post s n (nI i) tH' kD sZ fD rT fA lI := by
  intro n
  induction n with
  | zero => intro i tH' h1 h2; omega
  | succ n ih =>
    intro i tH' h1 h2 h3 h4
    rw [wY_lose_2]
    by_cases c : i = 24
    · subst c
      exact br_t (nI_le (a := 24) (b := 24) (by omega) (by omega)) (K tH' h3 h4)
    · have ei : (nI i).toNatClampNeg = i := nI_clamp (by omega)
      have vi : vp_in (nI i) 72 := vp_in_nI (by omega) (by omega)
      refine br_f (nI_ge (b := 24) (by omega) (by omega)) ⟨vi, ?_⟩
      rw [ei, h4 i (Nat.le_refl i)]
      have nxt : ∀ z : Int32, ((z = 1 ∧ tH i ≠ 0 ∧ ¬ P i) ∨ (z = 0 ∧ ¬ (tH i ≠ 0 ∧ ¬ P i))) → wY_lose_2 post s n (nI (i + 1)) (upd tH' i z) kD sZ fD rT fA lI := by
        intro z hz
        refine ih (i + 1) _ (by omega) (by omega) (fun x hx => ?_) (fun x hx => ?_)
        · by_cases d : x = i
          · subst d; rw [pk_us]; exact hz
          · rw [pk_un d]; exact h3 x (by omega)
        · rw [pk_un (by omega)]; exact h4 x (by omega)
      refine br_c (fun g => ⟨vi, nm_r (e' := upd tH' i 0) rfl (nm_r (nI_1 i) (nxt 0 (Or.inr ⟨rfl, fun z => z.1 g⟩)))⟩) (fun g => br_c (fun q => ?_) (fun q => ?_))
      · rw [yb_no (by omega)] at q
        refine ⟨vi, nm_r (e' := upd tH' i 1) rfl (nm_r (nI_1 i) (nxt 1 (Or.inl ⟨rfl, g, fun z => ?_⟩)))⟩
        rw [(hs i).2 ⟨by omega, z⟩] at q
        exact nomatch q
      · refine ⟨vi, nm_r (e' := upd tH' i 0) rfl (nm_r (nI_1 i) (nxt 0 (Or.inr ⟨rfl, fun z => q ?_⟩)))⟩
        rw [yb_no (by omega)]
        exact gx_f fun y => z.2 ((hs i).1 y).2
theorem y_lose {post : SY → Prop} {s : Int32} {P : Nat → Prop} (hs : ys_S s P) (K : ∀ tH' : Nat → Int32, (∀ x, x < 24 → ((tH' x = 1 ∧ tH x ≠ 0 ∧ ¬ P x) ∨ (tH' x = 0 ∧ ¬ (tH x ≠ 0 ∧ ¬ P x)))) → (∀ x, 24 ≤ x → tH' x = tH x) → post (tH', kD, sZ, fD, rT, fA, lI)) : wpY_lose post (tH, kD, sZ, fD, rT, fA, lI) s := by
  unfold wpY_lose
  exact ⟨25, yi_lose hs K 25 0 tH (by omega) (by omega) (fun x hx => by omega) (fun x _ => rfl)⟩
end
end
section
/-! the relation -/
/-- what is held of the arrays: there is 0 or 1; roots and fields lead to what is there; the reference's fields are the same at what is there; a dump holds the alive alone -/
def Rl_c (tH rF rT fD : Nat → Int32) : Prop :=
  (∀ n, n < 72 → tH n = 0 ∨ tH n = 1) ∧ (∀ w, w < 3 → gOk tH rF rT w) ∧ (∀ w o i, w < 3 → o < 24 → gT tH w o → i < 4 → gf_f fD w o i = gf_f rF w o i) ∧
  (∀ w o, 1 ≤ w → w < 3 → o < 24 → gT tH w o → gA tH rF rT w o)
def i_Rel (_k : Nat) (u : SX) (v : SY) : Prop :=
  match u with
  | (fM, fO, fC, fX, fP, tH, kD, sZ, rF, rT, nU, oB, pA, pI, pF, sE, aN, lA, dM, bF, bN, rE, cH, dE, qU, lO, oR, oP, nF, cO, iL, rP) => match v with
    | (tH', kD', sZ', fD, rT', fA, lI) => tH' = tH ∧ kD' = kD ∧ sZ' = sZ ∧ rT' = rT ∧ Rl_c tH rF rT fD
theorem i_up {k : Nat} {u : SX} {v : SY} (h : i_Rel k u v) : i_Rel (k + 4) u v := h
section
variable {fM fO fC fX fP : Int32} {tH kD sZ rF rT nU oB pA pI pF sE aN lA dM bF bN rE cH dE qU lO oR oP nF cO iL rP : Nat → Int32} {fD fA lI : Nat → Int32}
theorem rl_in {k : Nat} (h : Rl_c tH rF rT fD) : i_Rel k (fM, fO, fC, fX, fP, tH, kD, sZ, rF, rT, nU, oB, pA, pI, pF, sE, aN, lA, dM, bF, bN, rE, cH, dE, qU, lO, oR, oP, nF, cO, iL, rP) (tH, kD, sZ, fD, rT, fA, lI) := ⟨rfl, rfl, rfl, rfl, h⟩
theorem rl_in2 {k : Nat} {tH' rT' : Nat → Int32} (h : Rl_c tH rF rT fD) (e1 : tH' = tH) (e2 : rT' = rT) : i_Rel k (fM, fO, fC, fX, fP, tH, kD, sZ, rF, rT, nU, oB, pA, pI, pF, sE, aN, lA, dM, bF, bN, rE, cH, dE, qU, lO, oR, oP, nF, cO, iL, rP) (tH', kD, sZ, fD, rT', fA, lI) := ⟨e1, rfl, rfl, e2, h⟩
end
theorem rl_el {P : SX → SY → Prop} {k : Nat} {u : SX} {v : SY} (h : ∀ (fM fO fC fX fP : Int32) (tH kD sZ rF rT nU oB pA pI pF sE aN lA dM bF bN rE cH dE qU lO oR oP nF cO iL rP fD fA lI : Nat → Int32), Rl_c tH rF rT fD → P (fM, fO, fC, fX, fP, tH, kD, sZ, rF, rT, nU, oB, pA, pI, pF, sE, aN, lA, dM, bF, bN, rE, cH, dE, qU, lO, oR, oP, nF, cO, iL, rP) (tH, kD, sZ, fD, rT, fA, lI)) (I : i_Rel k u v) : P u v := by
  obtain ⟨fM, fO, fC, fX, fP, tH, kD, sZ, rF, rT, nU, oB, pA, pI, pF, sE, aN, lA, dM, bF, bN, rE, cH, dE, qU, lO, oR, oP, nF, cO, iL, rP⟩ := u
  obtain ⟨tH', kD', sZ', fD, rT', fA, lI⟩ := v
  obtain ⟨e1, e2, e3, e4, c⟩ := I
  subst e1; subst e2; subst e3; subst e4
  exact h _ _ _ _ _ _ _ _ _ _ _ _ _ _ _ _ _ _ _ _ _ _ _ _ _ _ _ _ _ _ _ _ _ _ _ c
section
variable {tH rF rT fD : Nat → Int32}
theorem rl_E (h : Rl_c tH rF rT fD) {w : Nat} (hw : w < 3) : gE tH fD w = gE tH rF w := by
  funext a b
  refine propext ⟨fun ⟨a1, a2, a3, i, a4, a5⟩ => ⟨a1, a2, a3, i, a4, ?_⟩, fun ⟨a1, a2, a3, i, a4, a5⟩ => ⟨a1, a2, a3, i, a4, ?_⟩⟩
  · rw [← h.2.2.1 w a i hw a1 a2 a4]; exact a5
  · rw [h.2.2.1 w a i hw a1 a2 a4]; exact a5
theorem rl_okY (h : Rl_c tH rF rT fD) {w : Nat} (hw : w < 3) : gOk tH fD rT w := by
  obtain ⟨k1, k2⟩ := h.2.1 w hw
  refine ⟨k1, fun o ho hT i hi => ?_⟩
  rw [h.2.2.1 w o i hw ho hT hi]
  exact k2 o ho hT i hi
theorem rl_A (h : Rl_c tH rF rT fD) {w : Nat} (hw : w < 3) : gA tH fD rT w = gA tH rF rT w := by
  unfold gA
  rw [rl_E h hw]
theorem rl_K (h : Rl_c tH rF rT fD) {w a : Nat} (hw : w < 3) : gK tH fD rT w a = gK tH rF rT w a := by
  funext x
  unfold gK
  rw [rl_E h hw, rl_A h hw]
theorem rl_G (h : Rl_c tH rF rT fD) : Gl_s tH fD rT = Gl_s tH rF rT := by
  funext x
  unfold Gl_s Su_s
  rw [rl_E h (by omega)]
/-- place 0 alone changes -/
theorem rl_0 {tH' rF' rT' fD' : Nat → Int32} (h : Rl_c tH rF rT fD) (h1 : ∀ n, 24 ≤ n → tH' n = tH n) (h2 : ∀ n, 96 ≤ n → rF' n = rF n) (h3 : ∀ n, 96 ≤ n → fD' n = fD n) (h4 : ∀ n, 4 ≤ n → rT' n = rT n)
    (k1 : ∀ n, n < 24 → tH' n = 0 ∨ tH' n = 1) (k2 : ∀ i, i < 4 → df_ok (fun o => tH' o ≠ 0) (rT' i)) (k3 : ∀ o, o < 24 → tH' o ≠ 0 → ∀ i, i < 4 → df_ok (fun o => tH' o ≠ 0) (rF' (4 * o + i)) ∧ fD' (4 * o + i) = rF' (4 * o + i)) : Rl_c tH' rF' rT' fD' := by
  obtain ⟨a1, a2, a3, a4⟩ := h
  have eT : ∀ w, 1 ≤ w → gT tH' w = gT tH w := fun w hw => by
    funext o
    unfold gT
    rw [h1 _ (by omega)]
  have eT0 : gT tH' 0 = fun o => tH' o ≠ 0 := by
    funext o
    unfold gT
    rw [Nat.mul_zero, Nat.zero_add]
  have eF : ∀ w, 1 ≤ w → gf_f rF' w = gf_f rF w := fun w hw => by
    funext o i
    unfold gf_f
    rw [h2 _ (by omega)]
  have eD : ∀ w, 1 ≤ w → gf_f fD' w = gf_f fD w := fun w hw => by
    funext o i
    unfold gf_f
    rw [h3 _ (by omega)]
  have eR : ∀ w, 1 ≤ w → gt_r rT' w = gt_r rT w := fun w hw => by
    funext i
    unfold gt_r
    rw [h4 _ (by omega)]
  refine ⟨fun n hn => ?_, fun w hw => ?_, fun w o i hw ho hT hi => ?_, fun w o hw1 hw ho hT => ?_⟩
  · by_cases c : n < 24
    · exact k1 n c
    · rw [h1 n (by omega)]; exact a1 n hn
  · by_cases c : w = 0
    · subst c
      refine ⟨fun i hi => ?_, fun o ho hT i hi => ?_⟩
      · rw [eT0, g0_r]; exact k2 i hi
      · rw [eT0] at hT ⊢
        rw [g0_f]
        exact (k3 o ho hT i hi).1
    · unfold gOk
      rw [eT w (by omega), eF w (by omega), eR w (by omega)]
      exact a2 w hw
  · by_cases c : w = 0
    · subst c
      rw [eT0] at hT
      rw [g0_f, g0_f]
      exact (k3 o ho hT i hi).2
    · rw [eT w (by omega)] at hT
      rw [eF w (by omega), eD w (by omega)]
      exact a3 w o i hw ho hT hi
  · rw [eT w hw1] at hT
    have e1 : gR rT' w = gR rT w := by
      funext b
      unfold gR
      rw [eR w hw1]
    have e2 : gE tH' rF' w = gE tH rF w := by
      funext a b
      unfold gE
      rw [eT w hw1, eF w hw1]
    unfold gA
    rw [e1, e2]
    exact a4 w o hw1 hw ho hT
end
/-! the constructors -/
section
variable {fM fO fC fX fP : Int32} {tH kD sZ rF rT nU oB pA pI pF sE aN lA dM bF bN rE cH dE qU lO oR oP nF cO iL rP : Nat → Int32} {fD fA lI : Nat → Int32}
theorem x_i245 {post : SX → Prop} (K : ∀ rT : Nat → Int32, (∀ n, rT n = if n < 12 then -1 else 0) → post (fM, fO, fC, fX, fP, tH, kD, sZ, rF, rT, nU, oB, pA, pI, pF, sE, aN, lA, dM, bF, bN, rE, cH, dE, qU, lO, oR, oP, nF, cO, iL, rP)) : ∀ (n i : Nat) (rT : Nat → Int32), 12 < n + i → i ≤ 12 → (∀ n, rT n = if n < i then -1 else 0) → wX_init_245 post fM fO fC fX fP n (nI i) tH kD sZ rF rT nU oB pA pI pF sE aN lA dM bF bN rE cH dE qU lO oR oP nF cO iL rP := by
  intro n
  induction n with
  | zero => intro i rT h1 h2; omega
  | succ n ih =>
    intro i rT h1 h2 h3
    rw [wX_init_245]
    by_cases c : i = 12
    · subst c
      exact br_t (nI_le (a := 12) (b := 12) (by omega) (by omega)) (K rT h3)
    · refine br_f (nI_ge (b := 12) (by omega) (by omega)) ⟨vp_in_nI (by omega) (by omega), nm_r (e' := upd rT i (-1)) (by rw [nI_clamp (by omega)]) (nm_r (nI_1 i) (ih (i + 1) _ (by omega) (by omega) fun x => ?_))⟩
      by_cases d : x = i
      · subst d; rw [pk_us, if_pos (by omega)]
      · rw [pk_un d, h3 x]
        by_cases q : x < i
        · rw [if_pos q, if_pos (by omega)]
        · rw [if_neg q, if_neg (by omega)]
theorem x_i223 {post : SX → Prop} (hT : rT = fun _ => 0) (K : ∀ rT rF : Nat → Int32, (∀ n, rT n = if n < 12 then -1 else 0) → post (fM, fO, fC, fX, fP, tH, kD, sZ, rF, rT, nU, oB, pA, pI, pF, sE, aN, lA, dM, bF, bN, rE, cH, dE, qU, lO, oR, oP, nF, cO, iL, rP)) : ∀ (n i : Nat) (rF : Nat → Int32), 288 < n + i → i ≤ 288 → wX_init_223 post fM fO fC fX fP n (nI i) tH kD sZ rF rT nU oB pA pI pF sE aN lA dM bF bN rE cH dE qU lO oR oP nF cO iL rP := by
  intro n
  induction n with
  | zero => intro i rF h1 h2; omega
  | succ n ih =>
    intro i rF h1 h2
    rw [wX_init_223]
    by_cases c : i = 288
    · subst c
      refine br_t (nI_le (a := 288) (b := 288) (by omega) (by omega)) ⟨13, x_i245 (fun rT => K rT rF) 13 0 rT (by omega) (by omega) fun n => ?_⟩
      rw [hT, if_neg (by omega)]
    · exact br_f (nI_ge (b := 288) (by omega) (by omega)) ⟨vp_in_nI (by omega) (by omega), nm_e (nm_r (nI_1 i) (ih (i + 1) _ (by omega) (by omega)))⟩
theorem y_i63 {post : SY → Prop} (K : ∀ rT : Nat → Int32, (∀ n, rT n = if n < 12 then -1 else 0) → post (tH, kD, sZ, fD, rT, fA, lI)) : ∀ (n i : Nat) (rT : Nat → Int32), 12 < n + i → i ≤ 12 → (∀ n, rT n = if n < i then -1 else 0) → wY_init_63 post n (nI i) tH kD sZ fD rT fA lI := by
  intro n
  induction n with
  | zero => intro i rT h1 h2; omega
  | succ n ih =>
    intro i rT h1 h2 h3
    rw [wY_init_63]
    by_cases c : i = 12
    · subst c
      exact br_t (nI_le (a := 12) (b := 12) (by omega) (by omega)) (K rT h3)
    · refine br_f (nI_ge (b := 12) (by omega) (by omega)) ⟨vp_in_nI (by omega) (by omega), nm_r (e' := upd rT i (-1)) (by rw [nI_clamp (by omega)]) (nm_r (nI_1 i) (ih (i + 1) _ (by omega) (by omega) fun x => ?_))⟩
      by_cases d : x = i
      · subst d; rw [pk_us, if_pos (by omega)]
      · rw [pk_un d, h3 x]
        by_cases q : x < i
        · rw [if_pos q, if_pos (by omega)]
        · rw [if_neg q, if_neg (by omega)]
end
theorem i_vc0 : wpX_init (fun u => wpY_init (fun v => i_Rel 0 u v)) := by
  unfold wpX_init
  refine ⟨289, x_i223 rfl (fun rT rF h => ?_) 289 0 (fun _ => 0) (by omega) (by omega)⟩
  unfold wpY_init
  refine ⟨13, y_i63 (fun rT' h' => ?_) 13 0 (fun _ => 0) (by omega) (by omega) (fun n => (if_neg (by omega)).symm)⟩
  have e : rT' = rT := by
    funext n
    rw [h n, h' n]
  refine rl_in2 ⟨fun n _ => Or.inl rfl, fun w hw => ⟨fun i hi => Or.inl ?_, fun o _ hT => absurd rfl hT⟩, fun w o i _ _ hT => absurd rfl hT, fun w o _ _ _ hT => absurd rfl hT⟩ rfl e
  unfold gt_r
  rw [h, if_pos (by omega)]
end
section
/-! make, field, root -/
theorem ix_gt {b : Nat} {x : Int32} (hb : b + 1 < 2 ^ 31) (h : nI (b + 1) ≤ x) : nI b < x := by
  have := Int32.le_iff_toInt_le.mp h
  rw [nI_toInt hb] at this
  rw [Int32.lt_iff_toInt_lt, nI_toInt (by omega)]
  omega
theorem df_up {T T' : Nat → Prop} {x : Int32} (h : df_ok T x) (hT : ∀ p, p < 24 → T p → T' p) : df_ok T' x :=
  h.imp id fun ⟨p, a, b, c⟩ => ⟨p, a, b, hT p a c⟩
section
variable {fM fO fC fX fP : Int32} {tH kD sZ rF rT nU oB pA pI pF sE aN lA dM bF bN rE cH dE qU lO oR oP nF cO iL rP : Nat → Int32} {fD fA lI : Nat → Int32}
theorem x_free {post : Int32 → Prop} {o : Nat} (ho : o ≤ 24) (h1 : ∀ j, j < o → tH j ≠ 0) (h2 : o < 24 → tH o = 0) (K1 : o < 24 → post (nI o)) (K0 : o = 24 → post (-1)) : ∀ (n i : Nat), 24 < n + i → i ≤ o → wX_freeNumber_2 post fM fO fC fX fP tH kD sZ rF rT nU oB pA pI pF sE aN lA dM bF bN rE cH dE qU lO oR oP nF cO iL rP n (nI i) := by
  intro n
  induction n with
  | zero => intro i a b; omega
  | succ n ih =>
    intro i a b
    rw [wX_freeNumber_2]
    by_cases c : i = 24
    · subst c
      exact br_t (nI_le (a := 24) (b := 24) (by omega) (by omega)) (K0 (by omega))
    · refine br_f (nI_ge (b := 24) (by omega) (by omega)) ⟨vp_in_nI (by omega) (by omega), ?_⟩
      rw [nI_clamp (by omega)]
      by_cases d : i = o
      · subst d; exact br_t (h2 (by omega)) (K1 (by omega))
      · exact br_f (h1 i (by omega)) (nm_r (nI_1 i) (ih (i + 1) (by omega) (by omega)))
theorem y_free {post : Int32 → SY → Prop} {o : Nat} {x1 x2 x3 : Int32} (ho : o ≤ 24) (h1 : ∀ j, j < o → tH j ≠ 0) (h2 : o < 24 → tH o = 0) (K : wY_make_59 post x1 x2 x3 (nI o) tH kD sZ fD rT fA lI) : ∀ (n i : Nat), 24 < n + i → i ≤ o → wY_make_36 post x1 x2 x3 tH kD sZ fD rT fA lI n (nI i) := by
  intro n
  induction n with
  | zero => intro i a b; omega
  | succ n ih =>
    intro i a b
    rw [wY_make_36]
    by_cases c : i = 24
    · have : i = o := by omega
      subst this
      subst c
      exact br_t (nI_le (a := 24) (b := 24) (by omega) (by omega)) K
    · refine br_f (nI_ge (b := 24) (by omega) (by omega)) ⟨vp_in_nI (by omega) (by omega), ?_⟩
      rw [nI_clamp (by omega)]
      by_cases d : i = o
      · subst d; exact br_t (h2 (by omega)) K
      · exact br_f (h1 i (by omega)) (nm_r (nI_1 i) (ih (i + 1) (by omega) (by omega)))
theorem x_mk73 {post : Int32 → SX → Prop} {r o : Nat} {rF0 : Nat → Int32} (hr : r < 4) (ho : o < 24) (K : ∀ rF : Nat → Int32, (∀ n, rF n = if 4 * o ≤ n ∧ n < 4 * o + 4 then -1 else rF0 n) → post (nI o) (fM, fO, fC, fX, fP, tH, kD, sZ, rF, (upd rT r (nI o)), nU, oB, pA, pI, pF, sE, aN, lA, dM, bF, bN, rE, cH, dE, qU, lO, oR, oP, nF, cO, iL, rP)) :
    ∀ (n i : Nat) (rF : Nat → Int32), 4 < n + i → i ≤ 4 → (∀ n, rF n = if 4 * o ≤ n ∧ n < 4 * o + i then -1 else rF0 n) → wX_make_73 post (nI r) (nI o) fM fO fC fX fP n (nI i) tH kD sZ rF rT nU oB pA pI pF sE aN lA dM bF bN rE cH dE qU lO oR oP nF cO iL rP := by
  intro n
  induction n with
  | zero => intro i rF a b; omega
  | succ n ih =>
    intro i rF a b h
    rw [wX_make_73]
    by_cases c : i = 4
    · subst c
      exact br_t (nI_le (a := 4) (b := 4) (by omega) (by omega)) ⟨vp_in_nI (by omega) (by omega), nm_r (e' := upd rT r (nI o)) (by rw [nI_clamp (by omega)]) (K rF h)⟩
    · refine br_f (nI_ge (b := 4) (by omega) (by omega)) ?_
      rw [ix_r, nI_clamp (by omega)]
      refine ⟨vp_in_nI (by omega) (by omega), nm_e (nm_r (nI_1 i) (ih (i + 1) _ (by omega) (by omega) fun x => ?_))⟩
      by_cases d : x = 4 * o + i
      · subst d; rw [pk_us, if_pos (by omega)]
      · rw [pk_un d, h x]
        by_cases q : 4 * o ≤ x ∧ x < 4 * o + i
        · rw [if_pos q, if_pos (by omega)]
        · rw [if_neg q, if_neg (by omega)]
theorem y_mk96 {post : Int32 → SY → Prop} {r o : Nat} {fD0 : Nat → Int32} (hr : r < 4) (ho : o < 24) (K : ∀ fD : Nat → Int32, (∀ n, fD n = if 4 * o ≤ n ∧ n < 4 * o + 4 then -1 else fD0 n) → post (nI o) (tH, kD, sZ, fD, (upd rT r (nI o)), fA, lI)) :
    ∀ (n i : Nat) (fD : Nat → Int32), 4 < n + i → i ≤ 4 → (∀ n, fD n = if 4 * o ≤ n ∧ n < 4 * o + i then -1 else fD0 n) → wY_make_96 post (nI r) (nI o) n (nI i) tH kD sZ fD rT fA lI := by
  intro n
  induction n with
  | zero => intro i fD a b; omega
  | succ n ih =>
    intro i fD a b h
    rw [wY_make_96]
    by_cases c : i = 4
    · subst c
      exact br_t (nI_le (a := 4) (b := 4) (by omega) (by omega)) ⟨vp_in_nI (by omega) (by omega), nm_r (e' := upd rT r (nI o)) (by rw [nI_clamp (by omega)]) (K fD h)⟩
    · refine br_f (nI_ge (b := 4) (by omega) (by omega)) ?_
      rw [ix_r, nI_clamp (by omega)]
      refine ⟨vp_in_nI (by omega) (by omega), nm_e (nm_r (nI_1 i) (ih (i + 1) _ (by omega) (by omega) fun x => ?_))⟩
      by_cases d : x = 4 * o + i
      · subst d; rw [pk_us, if_pos (by omega)]
      · rw [pk_un d, h x]
        by_cases q : 4 * o ≤ x ∧ x < 4 * o + i
        · rw [if_pos q, if_pos (by omega)]
        · rw [if_neg q, if_neg (by omega)]
theorem x_noObj {post : Int32 → Prop} {x : Int32} (K1 : ∀ o, o < 24 → x = nI o → tH o ≠ 0 → post 0) (K0 : (∀ o, o < 24 → x = nI o → tH o = 0) → post 1) : wpX_noObject post (fM, fO, fC, fX, fP, tH, kD, sZ, rF, rT, nU, oB, pA, pI, pF, sE, aN, lA, dM, bF, bN, rE, cH, dE, qU, lO, oR, oP, nF, cO, iL, rP) x := by
  unfold wpX_noObject
  rcases pk_ix x (n := 24) (by omega) with h | h | ⟨o, ho, rfl⟩
  · refine br_t h (K0 fun o ho e => ?_)
    rw [e] at h; exact absurd h (nI_pos (by omega))
  · have k0 : post 1 := K0 fun o ho e => by rw [e] at h; exact absurd h (nI_ge ho (by omega))
    exact br_c (fun _ => k0) (fun _ => br_t h k0)
  · refine br_f (nI_pos (by omega)) (br_f (nI_ge (b := 24) ho (by omega)) ⟨vp_in_nI (by omega) (by omega), ?_⟩)
    rw [nI_clamp (by omega)]
    refine br_c (fun g => K0 fun o' ho' e => ?_) (fun g => K1 o ho rfl g)
    have : o = o' := (nI_eq (by omega) (by omega)).mp e
    subst this; exact g
theorem y_isObj {post : Int32 → Prop} {x : Int32} (K1 : ∀ o, o < 24 → x = nI o → tH o ≠ 0 → post 1) (K0 : (∀ o, o < 24 → x = nI o → tH o = 0) → post 0) : wpY_isObject post (tH, kD, sZ, fD, rT, fA, lI) x := by
  unfold wpY_isObject
  rcases pk_ix x (n := 24) (by omega) with h | h | ⟨o, ho, rfl⟩
  · refine yi_0 (Or.inl h) (br_t rfl (K0 fun o ho e => ?_))
    rw [e] at h; exact absurd h (nI_pos (by omega))
  · refine yi_0 (Or.inr (ix_gt (b := 23) (by omega) h)) (br_t rfl (K0 fun o ho e => ?_))
    rw [e] at h; exact absurd h (nI_ge ho (by omega))
  · refine yi_in (b := 23) (by omega) (by omega) (br_f (by decide) ⟨vp_in_nI (by omega) (by omega), ?_⟩)
    rw [nI_clamp (by omega)]
    refine br_c (fun g => K0 fun o' ho' e => ?_) (fun g => K1 o ho rfl g)
    have : o = o' := (nI_eq (by omega) (by omega)).mp e
    subst this; exact g
end
theorem i_vc_make {k : Nat} {u : SX} {v : SY} (I : i_Rel k u v) (hk : k + 4 ≤ 2048) (v1 : Int32) (v2 : Int32) (v3 : Int32) : wpX_make (fun r u' => wpY_make (fun r' v' => r' = r ∧ i_Rel (k + 4) u' v') v v1 v2 v3) u v1 v2 v3 := by
  refine rl_el (P := fun u v => wpX_make (fun r u' => wpY_make (fun r' v' => r' = r ∧ i_Rel (k + 4) u' v') v v1 v2 v3) u v1 v2 v3) ?_ I
  intro fM fO fC fX fP tH kD sZ rF rT nU oB pA pI pF sE aN lA dM bF bN rE cH dE qU lO oR oP nF cO iL rP fD fA lI C
  unfold wpX_make
  rcases pk_ix v1 (n := 4) (by omega) with h | h | ⟨r, hr, rfl⟩
  · refine br_t h ?_
    unfold wpY_make
    exact yi_0 (Or.inl h) (br_t rfl ⟨rfl, rl_in C⟩)
  · have fin : wpY_make (fun r' v' => r' = -1 ∧ i_Rel (k + 4) (fM, fO, fC, fX, fP, tH, kD, sZ, rF, rT, nU, oB, pA, pI, pF, sE, aN, lA, dM, bF, bN, rE, cH, dE, qU, lO, oR, oP, nF, cO, iL, rP) v') (tH, kD, sZ, fD, rT, fA, lI) v1 v2 v3 := by
      unfold wpY_make
      exact yi_0 (Or.inr (ix_gt (b := 3) (by omega) h)) (br_t rfl ⟨rfl, rl_in C⟩)
    exact br_c (fun _ => fin) (fun _ => br_t h fin)
  · refine br_f (nI_pos (by omega)) (br_f (nI_ge (b := 4) hr (by omega)) ?_)
    rcases pk_ix v2 (n := 4) (by omega) with h | h | ⟨kd, hkd, rfl⟩
    · refine br_t h ?_
      unfold wpY_make
      exact yi_in (b := 3) (by omega) (by omega) (br_f (by decide) (yi_0 (Or.inl h) (br_t rfl ⟨rfl, rl_in C⟩)))
    · have fin : wpY_make (fun r' v' => r' = -1 ∧ i_Rel (k + 4) (fM, fO, fC, fX, fP, tH, kD, sZ, rF, rT, nU, oB, pA, pI, pF, sE, aN, lA, dM, bF, bN, rE, cH, dE, qU, lO, oR, oP, nF, cO, iL, rP) v') (tH, kD, sZ, fD, rT, fA, lI) (nI r) v2 v3 := by
        unfold wpY_make
        exact yi_in (b := 3) (by omega) (by omega) (br_f (by decide) (yi_0 (Or.inr (ix_gt (b := 3) (by omega) h)) (br_t rfl ⟨rfl, rl_in C⟩)))
      exact br_c (fun _ => fin) (fun _ => br_t h fin)
    · refine br_f (nI_pos (by omega)) (br_f (nI_ge (b := 4) hkd (by omega)) ?_)
      by_cases h1 : v3 < 1
      · refine br_t h1 ?_
        unfold wpY_make
        exact yi_in (b := 3) (by omega) (by omega) (br_f (by decide) (yi_in (b := 3) (by omega) (by omega) (br_f (by decide) (yi_0 (Or.inl h1) (br_t rfl ⟨rfl, rl_in C⟩)))))
      · refine br_f h1 ?_
        by_cases h2 : v3 ≤ 99
        · refine br_t h2 ?_
          obtain ⟨o, ho, o1, o2⟩ : ∃ o, o ≤ 24 ∧ (∀ j, j < o → tH j ≠ 0) ∧ (o < 24 → tH o = 0) := by
            by_cases c : ∃ j, j < 24 ∧ tH j = 0
            · obtain ⟨o, a, b⟩ := pk_least (fun j => j < 24 ∧ tH j = 0) c
              exact ⟨o, by omega, fun j hj e => b j hj ⟨by omega, e⟩, fun _ => a.2⟩
            · exact ⟨24, Nat.le_refl _, fun j hj e => c ⟨j, hj, e⟩, fun z => by omega⟩
          have toY : ∀ (Q : Int32 → SY → Prop), wY_make_59 Q (nI r) (nI kd) v3 (nI o) tH kD sZ fD rT fA lI → wpY_make Q (tH, kD, sZ, fD, rT, fA, lI) (nI r) (nI kd) v3 := by
            intro Q hQ
            unfold wpY_make
            exact yi_in (b := 3) (by omega) (by omega) (br_f (by decide) (yi_in (b := 3) (by omega) (by omega) (br_f (by decide) (yi_1 h1 (Int32.not_lt.mpr h2) (br_f (by decide) ⟨25, y_free ho o1 o2 hQ 25 0 (by omega) (by omega)⟩)))))
          unfold wpX_freeNumber
          refine ⟨25, x_free ho o1 o2 (fun ho' => ?_) (fun ho' => ?_) 25 0 (by omega) (by omega)⟩
          · have eo : (nI o).toNatClampNeg = o := nI_clamp (by omega)
            have vo : vp_in (nI o) 72 := vp_in_nI (by omega) (by omega)
            refine br_f (ix_m1 (by omega)) ⟨vo, nm_r (e' := upd tH o 1) (by rw [eo]; rfl) ⟨vo, nm_r (e' := upd kD o (nI kd)) (by rw [eo]) ⟨vo, nm_r (e' := upd sZ o v3) (by rw [eo]) ⟨5, ?_⟩⟩⟩⟩
            refine x_mk73 (rF0 := rF) hr ho' (fun rF' hF => toY _ ?_) 5 0 rF (by omega) (by omega) (fun n => by rw [if_neg (by omega)])
            unfold wY_make_59
            refine br_f (fun z => by have := (nI_eq (b := 24) (by omega) (by omega)).mp z; omega) ⟨vo, nm_r (e' := upd tH o 1) (by rw [eo]; rfl) ⟨vo, nm_r (e' := upd kD o (nI kd)) (by rw [eo]) ⟨vo, nm_r (e' := upd sZ o v3) (by rw [eo]) ⟨5, ?_⟩⟩⟩⟩
            refine y_mk96 (fD0 := fD) hr ho' (fun fD' hD => ⟨rfl, rl_in (rl_0 C (fun n hn => pk_un (by omega)) (fun n hn => ?_) (fun n hn => ?_) (fun n hn => pk_un (by omega)) (fun n hn => ?_) (fun i hi => ?_) (fun x hx hT i hi => ?_))⟩) 5 0 fD (by omega) (by omega) (fun n => by rw [if_neg (by omega)])
            · rw [hF n, if_neg (by omega)]
            · rw [hD n, if_neg (by omega)]
            · by_cases d : n = o
              · subst d; rw [pk_us]; exact Or.inr rfl
              · rw [pk_un d]; exact C.1 n (by omega)
            · have up : ∀ p, p < 24 → gT tH 0 p → upd tH o 1 p ≠ 0 := fun p _ hp => by
                by_cases d : p = o
                · subst d; rw [pk_us]; decide
                · rw [pk_un d]; exact (g0_T tH p).1 hp
              by_cases d : i = r
              · subst d; rw [pk_us]; exact Or.inr ⟨o, ho', rfl, by show upd tH o 1 o ≠ 0; rw [pk_us]; decide⟩
              · rw [pk_un d]
                have := (C.2.1 0 (by omega)).1 i hi
                rw [g0_r] at this
                exact df_up this up
            · have up : ∀ p, p < 24 → gT tH 0 p → upd tH o 1 p ≠ 0 := fun p _ hp => by
                by_cases d : p = o
                · subst d; rw [pk_us]; decide
                · rw [pk_un d]; exact (g0_T tH p).1 hp
              rw [hF, hD]
              by_cases d : x = o
              · subst d
                rw [if_pos (by omega), if_pos (by omega)]
                exact ⟨Or.inl rfl, rfl⟩
              · rw [if_neg (by omega), if_neg (by omega)]
                rw [pk_un d] at hT
                have t0 := (g0_T tH x).2 hT
                have a := (C.2.1 0 (by omega)).2 x hx t0 i hi
                have b := C.2.2.1 0 x i (by omega) hx t0 hi
                rw [g0_f] at a
                rw [g0_f, g0_f] at b
                exact ⟨df_up a up, b⟩
          · refine br_t rfl (toY _ ?_)
            unfold wY_make_59
            rw [ho']
            exact br_t rfl ⟨rfl, rl_in C⟩
        · refine br_f h2 ?_
          unfold wpY_make
          exact yi_in (b := 3) (by omega) (by omega) (br_f (by decide) (yi_in (b := 3) (by omega) (by omega) (br_f (by decide) (yi_0 (Or.inr (Int32.not_le.mp h2)) (br_t rfl ⟨rfl, rl_in C⟩)))))
/-- a store of a field, or of a root -/
theorem i_vc_field {k : Nat} {u : SX} {v : SY} (I : i_Rel k u v) (hk : k + 4 ≤ 2048) (v1 : Int32) (v2 : Int32) (v3 : Int32) : wpX_field (fun r u' => wpY_field (fun r' v' => r' = r ∧ i_Rel (k + 4) u' v') v v1 v2 v3) u v1 v2 v3 := by
  refine rl_el (P := fun u v => wpX_field (fun r u' => wpY_field (fun r' v' => r' = r ∧ i_Rel (k + 4) u' v') v v1 v2 v3) u v1 v2 v3) ?_ I
  intro fM fO fC fX fP tH kD sZ rF rT nU oB pA pI pF sE aN lA dM bF bN rE cH dE qU lO oR oP nF cO iL rP fD fA lI C
  unfold wpX_field
  rcases pk_ix v2 (n := 4) (by omega) with h | h | ⟨f, hf, rfl⟩
  · refine br_t h ?_
    unfold wpY_field
    exact yi_0 (Or.inl h) (br_t rfl ⟨rfl, rl_in C⟩)
  · have fin : wpY_field (fun r' v' => r' = -1 ∧ i_Rel (k + 4) (fM, fO, fC, fX, fP, tH, kD, sZ, rF, rT, nU, oB, pA, pI, pF, sE, aN, lA, dM, bF, bN, rE, cH, dE, qU, lO, oR, oP, nF, cO, iL, rP) v') (tH, kD, sZ, fD, rT, fA, lI) v1 v2 v3 := by
      unfold wpY_field
      exact yi_0 (Or.inr (ix_gt (b := 3) (by omega) h)) (br_t rfl ⟨rfl, rl_in C⟩)
    refine br_c (fun _ => fin) (fun _ => br_f (fun z => ?_) fin)
    exact Int32.not_le.mpr z h
  · refine br_f (nI_pos (by omega)) (br_t (nI_lt (b := 4) hf (by omega)) ?_)
    have inY : ∀ (Q : Int32 → SY → Prop), wpY_isObject (fun r_10 => ((r_10 = 0 → Q (-3) (tH, kD, sZ, fD, rT, fA, lI)) ∧ (¬ r_10 = 0 → ((v3 = -1 → wY_field_36 Q v1 (nI f) v3 tH kD sZ fD rT fA lI) ∧ (¬ v3 = -1 → wpY_isObject (fun r_24 => ((r_24 = 0 → Q (-3) (tH, kD, sZ, fD, rT, fA, lI)) ∧ (¬ r_24 = 0 → wY_field_36 Q v1 (nI f) v3 tH kD sZ fD rT fA lI))) (tH, kD, sZ, fD, rT, fA, lI) v3))))) (tH, kD, sZ, fD, rT, fA, lI) v1 → wpY_field Q (tH, kD, sZ, fD, rT, fA, lI) v1 (nI f) v3 := by
      intro Q hQ
      unfold wpY_field
      exact yi_in (b := 3) (by omega) (by omega) (br_f (by decide) hQ)
    refine x_noObj (fun o ho e hT => br_t rfl ?_) (fun hno => br_f (by decide) ?_)
    · subst e
      have ix : (4 : Int32) * nI o + nI f = nI (4 * o + f) := ix_r o f
      -- both store
      have st : (v3 = -1 ∨ ∃ p, p < 24 ∧ v3 = nI p ∧ tH p ≠ 0) → ∀ (hY : ∀ (Q : Int32 → SY → Prop), wY_field_36 Q (nI o) (nI f) v3 tH kD sZ fD rT fA lI → wpY_field Q (tH, kD, sZ, fD, rT, fA, lI) (nI o) (nI f) v3), wX_field_35 (fun r u' => wpY_field (fun r' v' => r' = r ∧ i_Rel (k + 4) u' v') (tH, kD, sZ, fD, rT, fA, lI) (nI o) (nI f) v3) (nI o) (nI f) v3 fM fO fC fX fP tH kD sZ rF rT nU oB pA pI pF sE aN lA dM bF bN rE cH dE qU lO oR oP nF cO iL rP := by
        intro hv hY
        unfold wX_field_35
        rw [ix, nI_clamp (by omega)]
        refine ⟨vp_in_nI (by omega) (by omega), nm_e ⟨vp_in_nI (by omega) (by omega), nm_e (hY _ ?_)⟩⟩
        unfold wY_field_36
        rw [ix, nI_clamp (by omega)]
        have t0 := (g0_T tH o).2 hT
        have b := C.2.2.1 0 o f (by omega) ho t0 hf
        rw [g0_f, g0_f] at b
        refine ⟨vp_in_nI (by omega) (by omega), nm_e ⟨vp_in_nI (by omega) (by omega), nm_e ⟨b, rl_in (rl_0 C (fun _ _ => rfl) (fun n hn => pk_un (by omega)) (fun n hn => pk_un (by omega)) (fun _ _ => rfl) (fun n hn => C.1 n (by omega)) (fun i hi => ?_) (fun x hx hTx i hi => ?_))⟩⟩⟩
        · have := (C.2.1 0 (by omega)).1 i hi
          rw [g0_r] at this
          exact df_up this fun p _ => (g0_T tH p).1
        · by_cases d : 4 * x + i = 4 * o + f
          · rw [d, pk_us, pk_us]
            exact ⟨hv, rfl⟩
          · rw [pk_un d, pk_un d]
            have t0 := (g0_T tH x).2 hTx
            have a := (C.2.1 0 (by omega)).2 x hx t0 i hi
            have b := C.2.2.1 0 x i (by omega) hx t0 hi
            rw [g0_f] at a
            rw [g0_f, g0_f] at b
            exact ⟨df_up a fun p _ => (g0_T tH p).1, b⟩
      refine br_c (fun g => st (Or.inl g) fun Q hQ => inY Q ?_) (fun g => ?_)
      · exact y_isObj (fun _ _ _ _ => br_f (by decide) (br_t g hQ)) (fun hn => absurd (hn o ho rfl) hT)
      · refine x_noObj (fun p hp e hTp => br_t rfl (st (Or.inr ⟨p, hp, e, hTp⟩) fun Q hQ => inY Q ?_)) (fun hno => br_f (by decide) (inY _ ?_))
        · exact y_isObj (fun _ _ _ _ => br_f (by decide) (br_f g (y_isObj (fun _ _ _ _ => br_f (by decide) hQ) (fun hn => absurd (hn p hp e) hTp)))) (fun hn => absurd (hn o ho rfl) hT)
        · exact y_isObj (fun _ _ _ _ => br_f (by decide) (br_f g (y_isObj (fun q hq e hTq => absurd (hno q hq e) hTq) (fun _ => br_t rfl ⟨rfl, rl_in C⟩)))) (fun hn => absurd (hn o ho rfl) hT)
    · refine inY _ (y_isObj (fun q hq e hTq => absurd (hno q hq e) hTq) (fun _ => br_t rfl ⟨rfl, rl_in C⟩))
theorem i_vc_root {k : Nat} {u : SX} {v : SY} (I : i_Rel k u v) (hk : k + 4 ≤ 2048) (v1 : Int32) (v2 : Int32) : wpX_root (fun r u' => wpY_root (fun r' v' => r' = r ∧ i_Rel (k + 4) u' v') v v1 v2) u v1 v2 := by
  refine rl_el (P := fun u v => wpX_root (fun r u' => wpY_root (fun r' v' => r' = r ∧ i_Rel (k + 4) u' v') v v1 v2) u v1 v2) ?_ I
  intro fM fO fC fX fP tH kD sZ rF rT nU oB pA pI pF sE aN lA dM bF bN rE cH dE qU lO oR oP nF cO iL rP fD fA lI C
  unfold wpX_root
  rcases pk_ix v1 (n := 4) (by omega) with h | h | ⟨r, hr, rfl⟩
  · refine br_t h ?_
    unfold wpY_root
    exact yi_0 (Or.inl h) (br_t rfl ⟨rfl, rl_in C⟩)
  · have fin : wpY_root (fun r' v' => r' = -1 ∧ i_Rel (k + 4) (fM, fO, fC, fX, fP, tH, kD, sZ, rF, rT, nU, oB, pA, pI, pF, sE, aN, lA, dM, bF, bN, rE, cH, dE, qU, lO, oR, oP, nF, cO, iL, rP) v') (tH, kD, sZ, fD, rT, fA, lI) v1 v2 := by
      unfold wpY_root
      exact yi_0 (Or.inr (ix_gt (b := 3) (by omega) h)) (br_t rfl ⟨rfl, rl_in C⟩)
    refine br_c (fun _ => fin) (fun _ => br_f (fun z => ?_) fin)
    exact Int32.not_le.mpr z h
  · refine br_f (nI_pos (by omega)) (br_t (nI_lt (b := 4) hr (by omega)) ?_)
    have inY : ∀ (Q : Int32 → SY → Prop), ((v2 = -1 → wY_root_28 Q (nI r) v2 tH kD sZ fD rT fA lI) ∧ (¬ v2 = -1 → wpY_isObject (fun r_15 => ((r_15 = 0 → Q (-3) (tH, kD, sZ, fD, rT, fA, lI)) ∧ (¬ r_15 = 0 → wY_root_28 Q (nI r) v2 tH kD sZ fD rT fA lI))) (tH, kD, sZ, fD, rT, fA, lI) v2)) → wpY_root Q (tH, kD, sZ, fD, rT, fA, lI) (nI r) v2 := by
      intro Q hQ
      unfold wpY_root
      exact yi_in (b := 3) (by omega) (by omega) (br_f (by decide) hQ)
    have st : (v2 = -1 ∨ ∃ p, p < 24 ∧ v2 = nI p ∧ tH p ≠ 0) → ∀ (hY : ∀ (Q : Int32 → SY → Prop), wY_root_28 Q (nI r) v2 tH kD sZ fD rT fA lI → wpY_root Q (tH, kD, sZ, fD, rT, fA, lI) (nI r) v2), wX_root_27 (fun r0 u' => wpY_root (fun r' v' => r' = r0 ∧ i_Rel (k + 4) u' v') (tH, kD, sZ, fD, rT, fA, lI) (nI r) v2) (nI r) v2 fM fO fC fX fP tH kD sZ rF rT nU oB pA pI pF sE aN lA dM bF bN rE cH dE qU lO oR oP nF cO iL rP := by
      intro hv hY
      unfold wX_root_27
      rw [nI_clamp (by omega)]
      refine ⟨vp_in_nI (by omega) (by omega), nm_e ⟨vp_in_nI (by omega) (by omega), nm_e (hY _ ?_)⟩⟩
      unfold wY_root_28
      rw [nI_clamp (by omega)]
      refine ⟨vp_in_nI (by omega) (by omega), nm_e ⟨vp_in_nI (by omega) (by omega), nm_e ⟨rfl, rl_in (rl_0 C (fun _ _ => rfl) (fun _ _ => rfl) (fun _ _ => rfl) (fun n hn => pk_un (by omega)) (fun n hn => C.1 n (by omega)) (fun i hi => ?_) (fun x hx hTx i hi => ?_))⟩⟩⟩
      · by_cases d : i = r
        · subst d; rw [pk_us]; exact hv
        · rw [pk_un d]
          have := (C.2.1 0 (by omega)).1 i hi
          rw [g0_r] at this
          exact df_up this fun p _ => (g0_T tH p).1
      · have t0 := (g0_T tH x).2 hTx
        have a := (C.2.1 0 (by omega)).2 x hx t0 i hi
        have b := C.2.2.1 0 x i (by omega) hx t0 hi
        rw [g0_f] at a
        rw [g0_f, g0_f] at b
        exact ⟨df_up a fun p _ => (g0_T tH p).1, b⟩
    refine br_c (fun g => st (Or.inl g) fun Q hQ => inY Q (br_t g hQ)) (fun g => ?_)
    refine x_noObj (fun p hp e hTp => br_t rfl (st (Or.inr ⟨p, hp, e, hTp⟩) fun Q hQ => inY Q (br_f g ?_))) (fun hno => br_f (by decide) (inY _ (br_f g ?_)))
    · exact y_isObj (fun _ _ _ _ => br_f (by decide) hQ) (fun hn => absurd (hn p hp e) hTp)
    · exact y_isObj (fun q hq e hTq => absurd (hno q hq e) hTq) (fun _ => br_t rfl ⟨rfl, rl_in C⟩)
end
section
/-! collect, sweep -/
theorem rl_keep {tH rF rT fD tH' : Nat → Int32} {S : Nat → Prop} (C : Rl_c tH rF rT fD) (h1 : ∀ x, x < 24 → (tH' x = 1 ∧ S x) ∨ (tH' x = 0 ∧ ¬ S x)) (h24 : ∀ x, 24 ≤ x → tH' x = tH x) (hS : ∀ x, x < 24 → S x → gT tH 0 x)
    (hR : ∀ x, gR rT 0 x → S x) (hE : ∀ a b, S a → gE tH rF 0 a b → S b) : Rl_c tH' rF rT fD := by
  have up : ∀ p, p < 24 → S p → tH' p ≠ 0 := fun p hp hs => by
    rcases h1 p hp with ⟨a, _⟩ | ⟨_, b⟩
    · rw [a]; decide
    · exact absurd hs b
  have dn : ∀ p, p < 24 → tH' p ≠ 0 → S p := fun p hp hs => by
    rcases h1 p hp with ⟨_, b⟩ | ⟨a, _⟩
    · exact b
    · exact absurd a hs
  refine rl_0 C h24 (fun _ _ => rfl) (fun _ _ => rfl) (fun _ _ => rfl) (fun n hn => ?_) (fun i hi => ?_) (fun x hx hT i hi => ?_)
  · rcases h1 n hn with ⟨a, _⟩ | ⟨a, _⟩
    · exact Or.inr a
    · exact Or.inl a
  · rcases (C.2.1 0 (by omega)).1 i hi with g | ⟨p, p1, p2, p3⟩
    · rw [g0_r] at g; exact Or.inl g
    · exact Or.inr ⟨p, p1, by rw [← g0_r rT i]; exact p2, up p p1 (hR p ⟨p1, i, hi, p2⟩)⟩
  · have sx := dn x hx hT
    have t0 := hS x hx sx
    have b := C.2.2.1 0 x i (by omega) hx t0 hi
    rw [g0_f, g0_f] at b
    refine ⟨?_, b⟩
    rcases (C.2.1 0 (by omega)).2 x hx t0 i hi with g | ⟨p, p1, p2, p3⟩
    · rw [g0_f] at g; exact Or.inl g
    · exact Or.inr ⟨p, p1, by rw [← g0_f rF x i]; exact p2, up p p1 (hE x p sx ⟨hx, t0, p1, i, hi, p2⟩)⟩
theorem tH_eq {tH t1 t2 : Nat → Int32} {P Q : Nat → Prop} (h1 : ∀ x, x < 24 → (t1 x = 1 ∧ P x) ∨ (t1 x = 0 ∧ ¬ P x)) (h2 : ∀ x, x < 24 → (t2 x = 1 ∧ Q x) ∨ (t2 x = 0 ∧ ¬ Q x)) (e : ∀ x, x < 24 → (P x ↔ Q x)) (k1 : ∀ x, 24 ≤ x → t1 x = tH x) (k2 : ∀ x, 24 ≤ x → t2 x = tH x) : t1 = t2 := by
  funext x
  by_cases c : x < 24
  · have := e x c
    rcases h1 x c with ⟨a, b⟩ | ⟨a, b⟩ <;> rcases h2 x c with ⟨a', b'⟩ | ⟨a', b'⟩
    · rw [a, a']
    · exact absurd (this.1 b) b'
    · exact absurd (this.2 b') b
    · rw [a, a']
  · rw [k1 x (by omega), k2 x (by omega)]
section
variable {fM fO fC fX fP : Int32} {tH kD sZ rF rT nU oB pA pI pF sE aN lA dM bF bN rE cH dE qU lO oR oP nF cO iL rP : Nat → Int32} {fD fA lI : Nat → Int32}
theorem x_col10 {post : Int32 → SX → Prop} {num : Nat → Nat} {m : Nat} {t0 : Nat → Int32} (hn : rp_a nU num 24) (hm : ∀ x, x < 24 → num x < m) (hm5 : m ≤ 25)
    (K : ∀ tH : Nat → Int32, (∀ x, x < 24 → (tH x = 1 ∧ (t0 x ≠ 0 ∧ num x ≠ 0)) ∨ (tH x = 0 ∧ ¬ (t0 x ≠ 0 ∧ num x ≠ 0))) → (∀ x, 24 ≤ x → tH x = t0 x) → post (nI (nn_c (fun x => decide (t0 x ≠ 0 ∧ num x = 0)) 24)) (fM, fO, fC, fX, fP, tH, kD, sZ, rF, rT, nU, oB, pA, pI, pF, sE, aN, lA, dM, bF, bN, rE, cH, dE, qU, lO, oR, oP, nF, cO, iL, rP)) :
    ∀ (n i : Nat) (tH : Nat → Int32), 24 < n + i → i ≤ 24 → (∀ x, x < i → (tH x = 1 ∧ (t0 x ≠ 0 ∧ num x ≠ 0)) ∨ (tH x = 0 ∧ ¬ (t0 x ≠ 0 ∧ num x ≠ 0))) → (∀ x, i ≤ x → tH x = t0 x) →
      wX_collect_10 post fM fO fC fX fP n (nI (nn_c (fun x => decide (t0 x ≠ 0 ∧ num x = 0)) i)) (nI i) tH kD sZ rF rT nU oB pA pI pF sE aN lA dM bF bN rE cH dE qU lO oR oP nF cO iL rP := by
  intro n
  induction n with
  | zero => intro i tH h1 h2; omega
  | succ n ih =>
    intro i tH h1 h2 h3 h4
    rw [wX_collect_10]
    by_cases c : i = 24
    · subst c
      exact br_t (nI_le (a := 24) (b := 24) (by omega) (by omega)) (K tH h3 h4)
    · have ei : (nI i).toNatClampNeg = i := nI_clamp (by omega)
      have vi : vp_in (nI i) 72 := vp_in_nI (by omega) (by omega)
      have hmi := hm i (by omega)
      have et : tH i = t0 i := h4 i (Nat.le_refl i)
      have st : nn_c (fun x => decide (t0 x ≠ 0 ∧ num x = 0)) (i + 1) = nn_c (fun x => decide (t0 x ≠ 0 ∧ num x = 0)) i + if decide (t0 i ≠ 0 ∧ num i = 0) = true then 1 else 0 := rfl
      have nxt : ∀ z : Int32, ((z = 1 ∧ (t0 i ≠ 0 ∧ num i ≠ 0)) ∨ (z = 0 ∧ ¬ (t0 i ≠ 0 ∧ num i ≠ 0))) → wX_collect_10 post fM fO fC fX fP n (nI (nn_c (fun x => decide (t0 x ≠ 0 ∧ num x = 0)) (i + 1))) (nI (i + 1)) (upd tH i z) kD sZ rF rT nU oB pA pI pF sE aN lA dM bF bN rE cH dE qU lO oR oP nF cO iL rP := by
        intro z hz
        refine ih (i + 1) _ (by omega) (by omega) (fun x hx => ?_) (fun x hx => ?_)
        · by_cases d : x = i
          · subst d; rw [pk_us]; exact hz
          · rw [pk_un d]; exact h3 x (by omega)
        · rw [pk_un (by omega)]; exact h4 x (by omega)
      have stay : ¬ (t0 i ≠ 0 ∧ num i = 0) → wX_collect_38 post (wX_collect_10 post fM fO fC fX fP n) (nI (nn_c (fun x => decide (t0 x ≠ 0 ∧ num x = 0)) i)) (nI i) fM fO fC fX fP tH kD sZ rF rT nU oB pA pI pF sE aN lA dM bF bN rE cH dE qU lO oR oP nF cO iL rP := by
        intro g
        unfold wX_collect_38 wX_collect_39
        refine br_t rfl ?_
        rw [decide_eq_false g, if_neg (by decide), Nat.add_zero] at st
        rw [st] at nxt
        unfold wX_collect_51
        refine ⟨vi, ?_⟩
        rw [ei, et]
        refine br_c (fun q => ⟨vi, nm_r (e' := upd tH i 0) rfl (nm_r (nI_1 i) (nxt 0 (Or.inr ⟨rfl, fun z => z.1 q⟩)))⟩) (fun q => br_t rfl ⟨vi, nm_r (e' := upd tH i 1) rfl (nm_r (nI_1 i) (nxt 1 (Or.inl ⟨rfl, q, fun z => g ⟨q, z⟩⟩)))⟩)
      refine br_f (nI_ge (b := 24) (by omega) (by omega)) ⟨vi, ?_⟩
      rw [ei, et]
      refine br_c (fun g => stay fun z => z.1 g) (fun g => ⟨vp_in_nI (by omega) (by omega), ?_⟩)
      rw [hn i (by omega)]
      refine pk_eq (num i) 0 (fun q => ?_) (fun q => stay fun z => q z.2)
      unfold wX_collect_39
      refine br_f (by decide) ?_
      unfold wX_collect_51
      refine ⟨vi, ?_⟩
      rw [ei, et, nI_1 (nn_c _ i)]
      rw [decide_eq_true ⟨g, q⟩, if_pos rfl] at st
      rw [st] at nxt
      exact br_f g (br_f (by decide) ⟨vi, nm_r (e' := upd tH i 0) rfl (nm_r (nI_1 i) (nxt 0 (Or.inr ⟨rfl, fun z => z.2 q⟩)))⟩)
theorem x_sw7 {post : Int32 → SX → Prop} {L : Nat → Bool} {r : Int32} {t0 : Nat → Int32} (hb : rb_a iL L 24)
    (K : ∀ tH : Nat → Int32, (∀ x, x < 24 → (tH x = 1 ∧ (t0 x ≠ 0 ∧ L x = true)) ∨ (tH x = 0 ∧ ¬ (t0 x ≠ 0 ∧ L x = true))) → (∀ x, 24 ≤ x → tH x = t0 x) → post r (fM, fO, fC, fX, fP, tH, kD, sZ, rF, rT, nU, oB, pA, pI, pF, sE, aN, lA, dM, bF, bN, rE, cH, dE, qU, lO, oR, oP, nF, cO, iL, rP)) :
    ∀ (n i : Nat) (tH : Nat → Int32), 24 < n + i → i ≤ 24 → (∀ x, x < i → (tH x = 1 ∧ (t0 x ≠ 0 ∧ L x = true)) ∨ (tH x = 0 ∧ ¬ (t0 x ≠ 0 ∧ L x = true))) → (∀ x, i ≤ x → tH x = t0 x) → wX_sweep_7 post r fM fO fC fX fP n (nI i) tH kD sZ rF rT nU oB pA pI pF sE aN lA dM bF bN rE cH dE qU lO oR oP nF cO iL rP := by
  intro n
  induction n with
  | zero => intro i tH h1 h2; omega
  | succ n ih =>
    intro i tH h1 h2 h3 h4
    rw [wX_sweep_7]
    by_cases c : i = 24
    · subst c
      exact br_t (nI_le (a := 24) (b := 24) (by omega) (by omega)) (K tH h3 h4)
    · have ei : (nI i).toNatClampNeg = i := nI_clamp (by omega)
      have vi : vp_in (nI i) 72 := vp_in_nI (by omega) (by omega)
      have et : tH i = t0 i := h4 i (Nat.le_refl i)
      have nxt : ∀ z : Int32, ((z = 1 ∧ (t0 i ≠ 0 ∧ L i = true)) ∨ (z = 0 ∧ ¬ (t0 i ≠ 0 ∧ L i = true))) → wX_sweep_7 post r fM fO fC fX fP n (nI (i + 1)) (upd tH i z) kD sZ rF rT nU oB pA pI pF sE aN lA dM bF bN rE cH dE qU lO oR oP nF cO iL rP := by
        intro z hz
        refine ih (i + 1) _ (by omega) (by omega) (fun x hx => ?_) (fun x hx => ?_)
        · by_cases d : x = i
          · subst d; rw [pk_us]; exact hz
          · rw [pk_un d]; exact h3 x (by omega)
        · rw [pk_un (by omega)]; exact h4 x (by omega)
      refine br_f (nI_ge (b := 24) (by omega) (by omega)) ⟨vi, ?_⟩
      rw [ei, et]
      refine br_c (fun g => ⟨vi, nm_r (e' := upd tH i 0) rfl (nm_r (nI_1 i) (nxt 0 (Or.inr ⟨rfl, fun z => z.1 g⟩)))⟩) (fun g => ⟨vp_in_nI (by omega) (by omega), br_c (fun q => ?_) (fun q => ?_)⟩)
      · refine ⟨vi, nm_r (e' := upd tH i 0) rfl (nm_r (nI_1 i) (nxt 0 (Or.inr ⟨rfl, fun z => ?_⟩)))⟩
        rw [(rb_0 (hb i (by omega))).1 q] at z
        exact nomatch z.2
      · refine ⟨vi, nm_r (e' := upd tH i 1) rfl (nm_r (nI_1 i) (nxt 1 (Or.inl ⟨rfl, g, ?_⟩)))⟩
        exact Classical.byContradiction fun y => q ((rb_0 (hb i (by omega))).2 (gx_f y))
end
theorem i_vc_collect {k : Nat} {u : SX} {v : SY} (I : i_Rel k u v) (hk : k + 4 ≤ 2048) : wpX_collect (fun r u' => wpY_collect (fun r' v' => r' = r ∧ i_Rel (k + 4) u' v') v) u := by
  refine rl_el (P := fun u v => wpX_collect (fun r u' => wpY_collect (fun r' v' => r' = r ∧ i_Rel (k + 4) u' v') v) u) ?_ I
  intro fM fO fC fX fP tH kD sZ rF rT nU oB pA pI pF sE aN lA dM bF bN rE cH dE qU lO oR oP nF cO iL rP fD fA lI C
  have ok := C.2.1 0 (by omega)
  have okY := rl_okY C (w := 0) (by omega)
  unfold wpX_collect
  refine xs_search (w := 0) (by omega) ok fun m nU oB pA pI pF num obj par hr hd => ⟨25, ?_⟩
  have hA : ∀ x, x < 24 → (num x ≠ 0 ↔ gA tH rF rT 0 x) := fun x hx => df_A hd hx
  refine x_col10 (t0 := tH) hr.1 (fun x hx => (hd.1.2.2 x hx).1) (df_m25 hd.1) (fun tH' h1 h2 => ?_) 25 0 tH (by omega) (by omega) (fun x hx => by omega) (fun _ _ => rfl)
  unfold wpY_collect
  refine y_all fun s hs => y_live0 (w := 0) (by omega) okY fun t ht => nm_e ?_
  rw [rl_A C (by omega)] at ht
  have hst := ys_diff hs ht
  refine y_lose hst fun tH2 g1 g2 => y_bits ⟨?_, ?_⟩
  · refine congrArg nI (ys_cnt hst fun x hx => ?_)
    rw [decide_eq_true_iff]
    exact and_congr_right fun _ => ⟨fun z => fun a => (hA x hx).2 a z, fun z => Classical.byContradiction fun q => z ((hA x hx).1 q)⟩
  · have e : tH2 = tH' := tH_eq (tH := tH) (P := fun x => tH x ≠ 0 ∧ ¬ (tH x ≠ 0 ∧ ¬ gA tH rF rT 0 x)) g1 h1 (fun x hx => and_congr_right fun z => ⟨fun a => (hA x hx).2 (Classical.byContradiction fun b => a ⟨z, b⟩), fun a b => b.2 ((hA x hx).1 a)⟩) g2 h2
    refine rl_in2 (rl_keep (S := gA tH rF rT 0) C (fun x hx => ?_) h2 (fun x hx hs => (gA_T ok hs).2) (fun x hx => rc_root hx id) (fun a b ha he => rc_step ha he id)) e rfl
    rcases h1 x hx with ⟨a, b⟩ | ⟨a, b⟩
    · exact Or.inl ⟨a, (hA x hx).1 b.2⟩
    · exact Or.inr ⟨a, fun z => b ⟨(g0_T tH x).1 (gA_T ok z).2, (hA x hx).2 z⟩⟩
theorem i_vc_sweep {k : Nat} {u : SX} {v : SY} (I : i_Rel k u v) (hk : k + 4 ≤ 2048) : wpX_sweep (fun r u' => wpY_sweep (fun r' v' => r' = r ∧ i_Rel (k + 4) u' v') v) u := by
  refine rl_el (P := fun u v => wpX_sweep (fun r u' => wpY_sweep (fun r' v' => r' = r ∧ i_Rel (k + 4) u' v') v) u) ?_ I
  intro fM fO fC fX fP tH kD sZ rF rT nU oB pA pI pF sE aN lA dM bF bN rE cH dE qU lO oR oP nF cO iL rP fD fA lI C
  have ok := C.2.1 0 (by omega)
  have okY := rl_okY C (w := 0) (by omega)
  unfold wpX_sweep
  refine x_findLeft ok C.1 fun n L iL cO hb hL hn => ⟨25, ?_⟩
  refine x_sw7 (t0 := tH) hb (fun tH' h1 h2 => ?_) 25 0 tH (by omega) (by omega) (fun x hx => by omega) (fun _ _ => rfl)
  unfold wpY_sweep
  refine y_loose okY fun s hs => ?_
  rw [rl_G C] at hs
  refine y_lose hs fun tH2 g1 g2 => y_bits ⟨?_, ?_⟩
  · rw [hn]
    refine congrArg nI (ys_cnt hs fun x hx => ?_)
    rw [Bool.and_eq_true, decide_eq_true_iff, Bool.not_eq_true']
    refine and_congr_right fun _ => ⟨fun z q => ?_, fun z => gx_f fun q => z ((hL x hx).1 q)⟩
    rw [(hL x hx).2 q] at z
    exact nomatch z
  · have e : tH2 = tH' := tH_eq (tH := tH) (P := fun x => tH x ≠ 0 ∧ ¬ (tH x ≠ 0 ∧ ¬ Gl_s tH rF rT x)) g1 h1 (fun x hx => and_congr_right fun z => ⟨fun a => (hL x hx).2 (Classical.byContradiction fun b => a ⟨z, b⟩), fun a b => b.2 ((hL x hx).1 a)⟩) g2 h2
    refine rl_in2 (rl_keep (S := Gl_s tH rF rT) C (fun x hx => ?_) h2 (fun x hx hs => (gl_su tH rF rT x hs).2.1) (fun x hx => ?_) (fun a b ha he => ?_)) e rfl
    · rcases h1 x hx with ⟨a, b⟩ | ⟨a, b⟩
      · exact Or.inl ⟨a, (hL x hx).1 b.2⟩
      · exact Or.inr ⟨a, fun z => b ⟨(g0_T tH x).1 (gl_su tH rF rT x z).2.1, (hL x hx).2 z⟩⟩
    · refine ⟨fun y => y = x, fun y hy => ?_, rfl⟩
      subst hy
      exact ⟨hx.1, gR_T ok hx, Or.inl hx⟩
    · refine ⟨fun y => Gl_s tH rF rT y ∨ y = b, fun y hy => ?_, Or.inr rfl⟩
      rcases hy with hy | hy
      · obtain ⟨p1, p2, p3⟩ := gl_su tH rF rT y hy
        exact ⟨p1, p2, p3.imp id fun ⟨c, c1, c2⟩ => ⟨c, Or.inl c1, c2⟩⟩
      · subst hy
        exact ⟨he.2.2.1, gE_T ok he, Or.inr ⟨a, Or.inl ha, he⟩⟩
end
section
/-! dump -/
/-- place w of an array with c cells a place is place 0's, up to e -/
def cp_A (c w e : Nat) (a a0 : Nat → Int32) : Prop := ∀ n, a n = if c * w ≤ n ∧ n < c * w + e then a0 (n - c * w) else a0 n
theorem cp_0 {c w : Nat} {a : Nat → Int32} : cp_A c w 0 a a := fun n => by rw [if_neg (by omega)]
theorem cp_s {c w e : Nat} {a a0 : Nat → Int32} (h : cp_A c w e a a0) : cp_A c w (e + 1) (upd a (c * w + e) (a0 e)) a0 := by
  intro n
  by_cases d : n = c * w + e
  · subst d
    rw [pk_us, if_pos (by omega)]
    congr 1
    omega
  · rw [pk_un d, h n]
    by_cases q : c * w ≤ n ∧ n < c * w + e
    · rw [if_pos q, if_pos (by omega)]
    · rw [if_neg q, if_neg (by omega)]
theorem cp_eq {c w e : Nat} {a b a0 : Nat → Int32} (h : cp_A c w e a a0) (g : cp_A c w e b a0) : a = b := by
  funext n
  rw [h n, g n]
theorem cp_lo {c w e n : Nat} {a a0 : Nat → Int32} (h : cp_A c w e a a0) (hn : n < c * w) : a n = a0 n := by
  rw [h n, if_neg (by omega)]
/-- there: what is alive -/
def cp_T (w e : Nat) (A : Nat → Prop) (t t0 : Nat → Int32) : Prop :=
  (∀ x, x < e → (t (24 * w + x) = 1 ∧ A x) ∨ (t (24 * w + x) = 0 ∧ ¬ A x)) ∧ ∀ n, ¬ (24 * w ≤ n ∧ n < 24 * w + e) → t n = t0 n
theorem cpT_s {w e : Nat} {A : Nat → Prop} {t t0 : Nat → Int32} {z : Int32} (h : cp_T w e A t t0) (hz : (z = 1 ∧ A e) ∨ (z = 0 ∧ ¬ A e)) : cp_T w (e + 1) A (upd t (24 * w + e) z) t0 := by
  refine ⟨fun x hx => ?_, fun n hn => ?_⟩
  · by_cases d : x = e
    · subst d; rw [pk_us]; exact hz
    · rw [pk_un (by omega)]; exact h.1 x (by omega)
  · rw [pk_un (by omega)]; exact h.2 n (by omega)
theorem cpT_eq {w : Nat} {A B : Nat → Prop} {t1 t2 t0 : Nat → Int32} (h : cp_T w 24 A t1 t0) (g : cp_T w 24 B t2 t0) (e : ∀ x, x < 24 → (A x ↔ B x)) : t1 = t2 := by
  funext n
  by_cases c : 24 * w ≤ n ∧ n < 24 * w + 24
  · have hx := h.1 (n - 24 * w) (by omega)
    have gx := g.1 (n - 24 * w) (by omega)
    rw [show 24 * w + (n - 24 * w) = n by omega] at hx gx
    have ex := e (n - 24 * w) (by omega)
    rcases hx with ⟨a, b⟩ | ⟨a, b⟩ <;> rcases gx with ⟨a', b'⟩ | ⟨a', b'⟩
    · rw [a, a']
    · exact absurd (ex.1 b) b'
    · exact absurd (ex.2 b') b
    · rw [a, a']
  · rw [h.2 n c, g.2 n c]
/-- the relation after a dump -/
theorem rl_dump {tH rF rT fD t r q f : Nat → Int32} {w : Nat} (C : Rl_c tH rF rT fD) (hw1 : 1 ≤ w) (hw : w < 3) (hT : cp_T w 24 (gA tH rF rT 0) t tH) (hF : cp_A 96 w 96 f rF) (hq : cp_A 96 w 96 q fD) (hR : cp_A 4 w 4 r rT) : Rl_c t f r q := by
  have ok := C.2.1 0 (by omega)
  -- another place stays
  have oT : ∀ w', w' ≠ w → ∀ o, o < 24 → t (24 * w' + o) = tH (24 * w' + o) := fun w' hne o ho => hT.2 _ (by omega)
  have oF : ∀ w', w' ≠ w → ∀ o i, o < 24 → i < 4 → gf_f f w' o i = gf_f rF w' o i := fun w' hne o i ho hi => by
    unfold gf_f
    rw [hF, if_neg (by omega)]
  have oD : ∀ w', w' ≠ w → ∀ o i, o < 24 → i < 4 → gf_f q w' o i = gf_f fD w' o i := fun w' hne o i ho hi => by
    unfold gf_f
    rw [hq, if_neg (by omega)]
  have oR : ∀ w', w' ≠ w → ∀ i, i < 4 → gt_r r w' i = gt_r rT w' i := fun w' hne i hi => by
    unfold gt_r
    rw [hR, if_neg (by omega)]
  have nF : ∀ o i, o < 24 → i < 4 → gf_f f w o i = gf_f rF 0 o i := fun o i ho hi => by
    rw [g0_f]
    unfold gf_f
    rw [hF, if_pos (by omega)]
    congr 1
    omega
  have nD : ∀ o i, o < 24 → i < 4 → gf_f q w o i = gf_f fD 0 o i := fun o i ho hi => by
    rw [g0_f]
    unfold gf_f
    rw [hq, if_pos (by omega)]
    congr 1
    omega
  have nR : ∀ i, i < 4 → gt_r r w i = gt_r rT 0 i := fun i hi => by
    rw [g0_r]
    unfold gt_r
    rw [hR, if_pos (by omega)]
    congr 1
    omega
  have nT : ∀ o, o < 24 → (gT t w o ↔ gA tH rF rT 0 o) := fun o ho => by
    unfold gT
    rcases hT.1 o ho with ⟨a, b⟩ | ⟨a, b⟩
    · rw [a]; exact ⟨fun _ => b, fun _ => by decide⟩
    · rw [a]; exact ⟨fun z => absurd rfl z, fun z => absurd z b⟩
  have oE : ∀ w', w' ≠ w → gE t f w' = gE tH rF w' := fun w' hne => by
    funext a b
    refine propext ⟨fun ⟨a1, a2, a3, i, a4, a5⟩ => ⟨a1, ?_, a3, i, a4, ?_⟩, fun ⟨a1, a2, a3, i, a4, a5⟩ => ⟨a1, ?_, a3, i, a4, ?_⟩⟩
    · unfold gT at a2 ⊢; rw [← oT w' hne a a1]; exact a2
    · rw [← oF w' hne a i a1 a4]; exact a5
    · unfold gT at a2 ⊢; rw [oT w' hne a a1]; exact a2
    · rw [oF w' hne a i a1 a4]; exact a5
  have oRR : ∀ w', w' ≠ w → gR r w' = gR rT w' := fun w' hne => by
    funext b
    refine propext ⟨fun ⟨a1, i, a4, a5⟩ => ⟨a1, i, a4, ?_⟩, fun ⟨a1, i, a4, a5⟩ => ⟨a1, i, a4, ?_⟩⟩
    · rw [← oR w' hne i a4]; exact a5
    · rw [oR w' hne i a4]; exact a5
  refine ⟨fun n hn => ?_, fun w' hw' => ?_, fun w' o i hw' ho hTo hi => ?_, fun w' o h1 hw' ho hTo => ?_⟩
  · by_cases c : 24 * w ≤ n ∧ n < 24 * w + 24
    · have := hT.1 (n - 24 * w) (by omega)
      rw [show 24 * w + (n - 24 * w) = n by omega] at this
      rcases this with ⟨a, _⟩ | ⟨a, _⟩
      · exact Or.inr a
      · exact Or.inl a
    · rw [hT.2 n c]; exact C.1 n hn
  · by_cases c : w' = w
    · subst c
      refine ⟨fun i hi => ?_, fun o ho hTo i hi => ?_⟩
      · rw [nR i hi]
        rcases ok.1 i hi with e | ⟨p, p1, p2, p3⟩
        · exact Or.inl e
        · exact Or.inr ⟨p, p1, p2, (nT p p1).2 (rc_root ⟨p1, i, hi, p2⟩ id)⟩
      · rw [nF o i ho hi]
        have hA := (nT o ho).1 hTo
        have hTo' := (gA_T ok hA).2
        rcases ok.2 o ho hTo' i hi with e | ⟨p, p1, p2, p3⟩
        · exact Or.inl e
        · exact Or.inr ⟨p, p1, p2, (nT p p1).2 (rc_step hA ⟨ho, hTo', p1, i, hi, p2⟩ id)⟩
    · obtain ⟨k1, k2⟩ := C.2.1 w' hw'
      have up : ∀ p, p < 24 → gT tH w' p → gT t w' p := fun p hp h => by unfold gT at h ⊢; rw [oT w' c p hp]; exact h
      refine ⟨fun i hi => ?_, fun o ho hTo i hi => ?_⟩
      · rw [oR w' c i hi]; exact df_up (k1 i hi) up
      · rw [oF w' c o i ho hi]
        unfold gT at hTo
        rw [oT w' c o ho] at hTo
        exact df_up (k2 o ho hTo i hi) up
  · by_cases c : w' = w
    · subst c
      rw [nF o i ho hi, nD o i ho hi]
      exact C.2.2.1 0 o i (by omega) ho (gA_T ok ((nT o ho).1 hTo)).2 hi
    · rw [oF w' c o i ho hi, oD w' c o i ho hi]
      unfold gT at hTo
      rw [oT w' c o ho] at hTo
      exact C.2.2.1 w' o i hw' ho hTo hi
  · by_cases c : w' = w
    · subst c
      refine rc_ind (S := fun o => gA t f r w' o) ((nT o ho).1 hTo) (fun b hb _ => ?_) (fun a b ha hS he _ => ?_)
      · obtain ⟨b1, i, b2, b3⟩ := hb
        exact rc_root ⟨b1, i, b2, by rw [nR i b2]; exact b3⟩ id
      · obtain ⟨e1, e2, e3, i, e4, e5⟩ := he
        exact rc_step hS ⟨e1, (nT a e1).2 ha, e3, i, e4, by rw [nF a i e1 e4]; exact e5⟩ id
    · unfold gT at hTo
      rw [oT w' c o ho] at hTo
      have := C.2.2.2 w' o h1 hw' ho hTo
      unfold gA at this ⊢
      rw [oE w' c, oRR w' c]
      exact this
section
variable {fM fO fC fX fP : Int32} {tH kD sZ rF rT nU oB pA pI pF sE aN lA dM bF bN rE cH dE qU lO oR oP nF cO iL rP : Nat → Int32} {fD fA lI : Nat → Int32}
theorem x_du120 {post : Int32 → SX → Prop} {J : (Int32 → (Nat → Int32) → (Nat → Int32) → (Nat → Int32) → (Nat → Int32) → (Nat → Int32) → (Nat → Int32) → (Nat → Int32) → (Nat → Int32) → (Nat → Int32) → (Nat → Int32) → (Nat → Int32) → (Nat → Int32) → (Nat → Int32) → (Nat → Int32) → (Nat → Int32) → (Nat → Int32) → (Nat → Int32) → (Nat → Int32) → (Nat → Int32) → (Nat → Int32) → (Nat → Int32) → (Nat → Int32) → (Nat → Int32) → (Nat → Int32) → (Nat → Int32) → (Nat → Int32) → (Nat → Int32) → Prop)} {w o : Nat} {r0 : Nat → Int32} (hw1 : 1 ≤ w) (hw : w < 3) (ho : o < 24) (K : ∀ rF : Nat → Int32, cp_A 96 w (4 * o + 4) rF r0 → J (nI (o + 1)) tH kD sZ rF rT nU oB pA pI pF sE aN lA dM bF bN rE cH dE qU lO oR oP nF cO iL rP) :
    ∀ (n i : Nat) (rF : Nat → Int32), 4 < n + i → i ≤ 4 → cp_A 96 w (4 * o + i) rF r0 → wX_dump_120 post J (nI w) (nI o) fM fO fC fX fP n (nI i) tH kD sZ rF rT nU oB pA pI pF sE aN lA dM bF bN rE cH dE qU lO oR oP nF cO iL rP := by
  intro n
  induction n with
  | zero => intro i rF h1 h2; omega
  | succ n ih =>
    intro i rF h1 h2 h
    rw [wX_dump_120]
    by_cases c : i = 4
    · subst c
      exact br_t (nI_le (a := 4) (b := 4) (by omega) (by omega)) (nm_r (nI_1 o) (K rF h))
    · refine br_f (nI_ge (b := 4) (by omega) (by omega)) ?_
      rw [ix_r, ix_3, nI_clamp (show 4 * o + i < 2 ^ 31 by omega), nI_clamp (show 96 * w + 4 * o + i < 2 ^ 31 by omega), cp_lo h (show 4 * o + i < 96 * w by omega), Nat.add_assoc]
      exact ⟨vp_in_nI (by omega) (by omega), vp_in_nI (by omega) (by omega), nm_e (nm_r (nI_1 i) (ih (i + 1) _ (by omega) (by omega) (cp_s h)))⟩
theorem x_du52 {post : Int32 → SX → Prop} {w m : Nat} {num : Nat → Nat} {t0 k0 s0 r0 : Nat → Int32} (hw1 : 1 ≤ w) (hw : w < 3) (hn : rp_a nU num 24) (hm : ∀ x, x < 24 → num x < m) (hm5 : m ≤ 25)
    (K : ∀ tH kD sZ rF : Nat → Int32, cp_T w 24 (fun x => num x ≠ 0) tH t0 → cp_A 24 w 24 kD k0 → cp_A 24 w 24 sZ s0 → cp_A 96 w 96 rF r0 → post (fM - 1) (fM, fO, fC, fX, fP, tH, kD, sZ, rF, rT, nU, oB, pA, pI, pF, sE, aN, lA, dM, bF, bN, rE, cH, dE, qU, lO, oR, oP, nF, cO, iL, rP)) :
    ∀ (n i : Nat) (tH kD sZ rF : Nat → Int32), 24 < n + i → i ≤ 24 → cp_T w i (fun x => num x ≠ 0) tH t0 → cp_A 24 w i kD k0 → cp_A 24 w i sZ s0 → cp_A 96 w (4 * i) rF r0 → wX_dump_52 post (nI w) fM fO fC fX fP n (nI i) tH kD sZ rF rT nU oB pA pI pF sE aN lA dM bF bN rE cH dE qU lO oR oP nF cO iL rP := by
  intro n
  induction n with
  | zero => intro i tH kD sZ rF h1 h2; omega
  | succ n ih =>
    intro i tH kD sZ rF h1 h2 h3 h4 h5 h6
    rw [wX_dump_52]
    by_cases c : i = 24
    · subst c
      exact br_t (nI_le (a := 24) (b := 24) (by omega) (by omega)) (K tH kD sZ rF h3 h4 h5 h6)
    · have ei : (nI i).toNatClampNeg = i := nI_clamp (by omega)
      have hmi := hm i (by omega)
      have go : ∀ z : Int32, ((z = 1 ∧ num i ≠ 0) ∨ (z = 0 ∧ ¬ num i ≠ 0)) → wX_dump_82 post (wX_dump_52 post (nI w) fM fO fC fX fP n) (nI w) (nI i) z (24 * nI w + nI i) fM fO fC fX fP tH kD sZ rF rT nU oB pA pI pF sE aN lA dM bF bN rE cH dE qU lO oR oP nF cO iL rP := by
        intro z hz
        unfold wX_dump_82
        have vi : vp_in (nI i) 72 := vp_in_nI (by omega) (by omega)
        rw [ix_o, ei, nI_clamp (show 24 * w + i < 2 ^ 31 by omega), cp_lo h4 (show i < 24 * w by omega), cp_lo h5 (show i < 24 * w by omega)]
        have vw : vp_in (nI (24 * w + i)) 72 := vp_in_nI (by omega) (by omega)
        refine ⟨vw, nm_r (e' := upd tH (24 * w + i) z) ?_ ⟨vi, vw, nm_e ⟨vi, vw, nm_e ⟨5, ?_⟩⟩⟩⟩
        · rcases hz with ⟨rfl, _⟩ | ⟨rfl, _⟩ <;> rfl
        · exact x_du120 (r0 := r0) hw1 hw (by omega) (fun rF' hF' => ih (i + 1) _ _ _ rF' (by omega) (by omega) (cpT_s h3 hz) (cp_s h4) (cp_s h5) hF') 5 0 rF (by omega) (by omega) h6
      refine br_f (nI_ge (b := 24) (by omega) (by omega)) ⟨vp_in_nI (by omega) (by omega), ?_⟩
      rw [ei, hn i (by omega)]
      exact pk_le (num i) 0 (fun g => go 0 (Or.inr ⟨rfl, by omega⟩)) (fun g => go 1 (Or.inl ⟨rfl, by omega⟩))
theorem x_du23 {post : Int32 → SX → Prop} {w m : Nat} {num : Nat → Nat} {r0 : Nat → Int32} (hw1 : 1 ≤ w) (hw : w < 3) (hn : rp_a nU num 24) (hm : ∀ x, x < 24 → num x < m) (hm5 : m ≤ 25)
    (K : ∀ tH' kD' sZ' rF' rT : Nat → Int32, cp_T w 24 (fun x => num x ≠ 0) tH' tH → cp_A 24 w 24 kD' kD → cp_A 24 w 24 sZ' sZ → cp_A 96 w 96 rF' rF → cp_A 4 w 4 rT r0 → post (fM - 1) (fM, fO, fC, fX, fP, tH', kD', sZ', rF', rT, nU, oB, pA, pI, pF, sE, aN, lA, dM, bF, bN, rE, cH, dE, qU, lO, oR, oP, nF, cO, iL, rP)) :
    ∀ (n i : Nat) (rT : Nat → Int32), 4 < n + i → i ≤ 4 → cp_A 4 w i rT r0 → wX_dump_23 post (nI w) fM fO fC fX fP n (nI i) tH kD sZ rF rT nU oB pA pI pF sE aN lA dM bF bN rE cH dE qU lO oR oP nF cO iL rP := by
  intro n
  induction n with
  | zero => intro i rT h1 h2; omega
  | succ n ih =>
    intro i rT h1 h2 h
    rw [wX_dump_23]
    by_cases c : i = 4
    · subst c
      refine br_t (nI_le (a := 4) (b := 4) (by omega) (by omega)) ⟨25, ?_⟩
      exact x_du52 hw1 hw hn hm hm5 (fun tH' kD' sZ' rF' a b c d => K tH' kD' sZ' rF' rT a b c d h) 25 0 tH kD sZ rF (by omega) (by omega) ⟨fun x hx => by omega, fun _ _ => rfl⟩ cp_0 cp_0 cp_0
    · refine br_f (nI_ge (b := 4) (by omega) (by omega)) ?_
      rw [ix_r, nI_clamp (show i < 2 ^ 31 by omega), nI_clamp (show 4 * w + i < 2 ^ 31 by omega), cp_lo h (show i < 4 * w by omega)]
      exact ⟨vp_in_nI (by omega) (by omega), vp_in_nI (by omega) (by omega), nm_e (nm_r (nI_1 i) (ih (i + 1) _ (by omega) (by omega) (cp_s h)))⟩
theorem y_du101 {post : Int32 → SY → Prop} {J : Int32 → (Nat → Int32) → (Nat → Int32) → (Nat → Int32) → (Nat → Int32) → (Nat → Int32) → (Nat → Int32) → (Nat → Int32) → Prop} {w o : Nat} {s : Int32} {r0 : Nat → Int32} (hw1 : 1 ≤ w) (hw : w < 3) (ho : o < 24) (K : ∀ fD : Nat → Int32, cp_A 96 w (4 * o + 4) fD r0 → J (nI (o + 1)) tH kD sZ fD rT fA lI) :
    ∀ (n i : Nat) (fD : Nat → Int32), 4 < n + i → i ≤ 4 → cp_A 96 w (4 * o + i) fD r0 → wY_dump_101 post J s (nI w) (nI o) n (nI i) tH kD sZ fD rT fA lI := by
  intro n
  induction n with
  | zero => intro i fD h1 h2; omega
  | succ n ih =>
    intro i fD h1 h2 h
    rw [wY_dump_101]
    by_cases c : i = 4
    · subst c
      exact br_t (nI_le (a := 4) (b := 4) (by omega) (by omega)) (nm_r (nI_1 o) (K fD h))
    · refine br_f (nI_ge (b := 4) (by omega) (by omega)) ?_
      rw [ix_r, ix_3, nI_clamp (show 4 * o + i < 2 ^ 31 by omega), nI_clamp (show 96 * w + 4 * o + i < 2 ^ 31 by omega), cp_lo h (show 4 * o + i < 96 * w by omega), Nat.add_assoc]
      exact ⟨vp_in_nI (by omega) (by omega), vp_in_nI (by omega) (by omega), nm_e (nm_r (nI_1 i) (ih (i + 1) _ (by omega) (by omega) (cp_s h)))⟩
theorem y_du151 {post : Int32 → SY → Prop} {w : Nat} {s : Int32} {r0 : Nat → Int32} (hw1 : 1 ≤ w) (hw : w < 3) (K : ∀ rT : Nat → Int32, cp_A 4 w 4 rT r0 → post (nI (nn_c (bt s) 24)) (tH, kD, sZ, fD, rT, fA, lI)) :
    ∀ (n i : Nat) (rT : Nat → Int32), 4 < n + i → i ≤ 4 → cp_A 4 w i rT r0 → wY_dump_151 post s (nI w) n (nI i) tH kD sZ fD rT fA lI := by
  intro n
  induction n with
  | zero => intro i rT h1 h2; omega
  | succ n ih =>
    intro i rT h1 h2 h
    rw [wY_dump_151]
    by_cases c : i = 4
    · subst c
      exact br_t (nI_le (a := 4) (b := 4) (by omega) (by omega)) (y_bits (K rT h))
    · refine br_f (nI_ge (b := 4) (by omega) (by omega)) ?_
      rw [ix_r, nI_clamp (show i < 2 ^ 31 by omega), nI_clamp (show 4 * w + i < 2 ^ 31 by omega), cp_lo h (show i < 4 * w by omega)]
      exact ⟨vp_in_nI (by omega) (by omega), vp_in_nI (by omega) (by omega), nm_e (nm_r (nI_1 i) (ih (i + 1) _ (by omega) (by omega) (cp_s h)))⟩
theorem y_du26 {post : Int32 → SY → Prop} {w : Nat} {s : Int32} {A : Nat → Prop} {t0 k0 s0 f0 : Nat → Int32} (hw1 : 1 ≤ w) (hw : w < 3) (hs : ys_S s A)
    (K : ∀ tH kD sZ fD rT' : Nat → Int32, cp_T w 24 A tH t0 → cp_A 24 w 24 kD k0 → cp_A 24 w 24 sZ s0 → cp_A 96 w 96 fD f0 → cp_A 4 w 4 rT' rT → post (nI (nn_c (bt s) 24)) (tH, kD, sZ, fD, rT', fA, lI)) :
    ∀ (n i : Nat) (tH kD sZ fD : Nat → Int32), 24 < n + i → i ≤ 24 → cp_T w i A tH t0 → cp_A 24 w i kD k0 → cp_A 24 w i sZ s0 → cp_A 96 w (4 * i) fD f0 → wY_dump_26 post s (nI w) n (nI i) tH kD sZ fD rT fA lI := by
  intro n
  induction n with
  | zero => intro i tH kD sZ fD h1 h2; omega
  | succ n ih =>
    intro i tH kD sZ fD h1 h2 h3 h4 h5 h6
    rw [wY_dump_26]
    by_cases c : i = 24
    · subst c
      exact br_t (nI_le (a := 24) (b := 24) (by omega) (by omega)) ⟨5, y_du151 hw1 hw (fun rT' => K tH kD sZ fD rT' h3 h4 h5 h6) 5 0 rT (by omega) (by omega) cp_0⟩
    · have ei : (nI i).toNatClampNeg = i := nI_clamp (by omega)
      have go : ∀ z : Int32, ((z = 1 ∧ A i) ∨ (z = 0 ∧ ¬ A i)) → wY_dump_59 post (wY_dump_26 post s (nI w) n) s (nI w) (nI i) z (24 * nI w + nI i) tH kD sZ fD rT fA lI := by
        intro z hz
        unfold wY_dump_59
        have vi : vp_in (nI i) 72 := vp_in_nI (by omega) (by omega)
        rw [ix_o, ei, nI_clamp (show 24 * w + i < 2 ^ 31 by omega), cp_lo h4 (show i < 24 * w by omega), cp_lo h5 (show i < 24 * w by omega)]
        have vw : vp_in (nI (24 * w + i)) 72 := vp_in_nI (by omega) (by omega)
        refine ⟨vw, nm_r (e' := upd tH (24 * w + i) z) ?_ ⟨vi, vw, nm_e ⟨vi, vw, nm_e ⟨5, ?_⟩⟩⟩⟩
        · rcases hz with ⟨rfl, _⟩ | ⟨rfl, _⟩ <;> rfl
        · exact y_du101 (r0 := f0) hw1 hw (by omega) (fun fD' hF' => ih (i + 1) _ _ _ fD' (by omega) (by omega) (cpT_s h3 hz) (cp_s h4) (cp_s h5) hF') 5 0 fD (by omega) (by omega) h6
      refine br_f (nI_ge (b := 24) (by omega) (by omega)) (br_c (fun g => ?_) (fun g => ?_))
      · rw [yb_is (by omega)] at g
        exact go 1 (Or.inl ⟨rfl, ((hs i).1 g).2⟩)
      · rw [yb_is (by omega)] at g
        exact go 0 (Or.inr ⟨rfl, fun z => g ((hs i).2 ⟨by omega, z⟩)⟩)
end
/-- the count of the numbered is that of the set -/
theorem cnt_eq {tH kD rF rT : Nat → Int32} {w m : Nat} {num obj par : Nat → Nat} {s : Int32} (hd : df_out (gt_r rT w) (gf_f rF w) (gT tH w) (gW kD w (-1)) m num obj par) (hs : ys_S s (gA tH rF rT w)) : nI (nn_c (bt s) 24) = nI m - 1 := by
  rw [ix_dec hd.1.1, df_cnt hd.1]
  refine congrArg nI (ys_cnt hs fun x hx => ?_)
  rw [decide_eq_true_iff]
  exact df_A hd hx
theorem i_vc_dump {k : Nat} {u : SX} {v : SY} (I : i_Rel k u v) (hk : k + 4 ≤ 2048) (v1 : Int32) : wpX_dump (fun r u' => wpY_dump (fun r' v' => r' = r ∧ i_Rel (k + 4) u' v') v v1) u v1 := by
  refine rl_el (P := fun u v => wpX_dump (fun r u' => wpY_dump (fun r' v' => r' = r ∧ i_Rel (k + 4) u' v') v v1) u v1) ?_ I
  intro fM fO fC fX fP tH kD sZ rF rT nU oB pA pI pF sE aN lA dM bF bN rE cH dE qU lO oR oP nF cO iL rP fD fA lI C
  have ok := C.2.1 0 (by omega)
  have okY := rl_okY C (w := 0) (by omega)
  unfold wpX_dump
  rcases pk_ix v1 (n := 2) (by omega) with h | h | ⟨d, hd, rfl⟩
  · refine br_t h ?_
    unfold wpY_dump
    exact yi_0 (Or.inl h) (br_t rfl ⟨rfl, rl_in C⟩)
  · have h' := ix_gt (b := 1) (by omega) h
    have fin : wpY_dump (fun r' v' => r' = -1 ∧ i_Rel (k + 4) (fM, fO, fC, fX, fP, tH, kD, sZ, rF, rT, nU, oB, pA, pI, pF, sE, aN, lA, dM, bF, bN, rE, cH, dE, qU, lO, oR, oP, nF, cO, iL, rP) v') (tH, kD, sZ, fD, rT, fA, lI) v1 := by
      unfold wpY_dump
      exact yi_0 (Or.inr h') (br_t rfl ⟨rfl, rl_in C⟩)
    exact br_c (fun _ => fin) (fun _ => br_f (Int32.not_le.mpr h') fin)
  · refine br_f (nI_pos (by omega)) (br_t (nI_le (b := 1) (by omega) (by omega)) ?_)
    refine xs_search (w := 0) (by omega) ok fun m nU oB pA pI pF num obj par hr hd' => nm_r (nI_1 d) ⟨5, ?_⟩
    refine x_du23 (r0 := rT) (by omega) (by omega) hr.1 (fun x hx => (hd'.1.2.2 x hx).1) (df_m25 hd'.1) (fun tH1 kD1 sZ1 rF1 rT1 a1 a2 a3 a4 a5 => ?_) 5 0 rT (by omega) (by omega) cp_0
    unfold wpY_dump
    refine yi_in (b := 1) (by omega) (by omega) (br_f (by decide) (y_live0 (w := 0) (by omega) okY fun s hs => nm_r (nI_1 d) ⟨25, ?_⟩))
    rw [rl_A C (by omega)] at hs
    refine y_du26 (w := d + 1) (by omega) (by omega) hs (fun tH2 kD2 sZ2 fD2 rT2 b1 b2 b3 b4 b5 => ⟨cnt_eq hd' hs, ?_⟩) 25 0 tH kD sZ fD (by omega) (by omega) ⟨fun x hx => by omega, fun _ _ => rfl⟩ cp_0 cp_0 cp_0
    have e1 : tH2 = tH1 := cpT_eq b1 a1 fun x hx => (df_A hd' hx).symm
    have e2 : kD2 = kD1 := cp_eq b2 a2
    have e3 : sZ2 = sZ1 := cp_eq b3 a3
    have e4 : rT2 = rT1 := cp_eq b5 a5
    subst e1; subst e2; subst e3; subst e4
    exact rl_in (rl_dump C (by omega) (by omega) b1 a4 b4 b5)
end
section
/-! objects, garbage, leaked, alive, bytes, retainedByKind, fresh, grown -/
/-- bytes of a kind -/
noncomputable def by_S (tH kD sZ rF rT : Nat → Int32) (w : Nat) (k : Int32) : Int32 := si_s (fun o => pc_v (gA tH rF rT w o ∧ (k = -1 ∨ kD (24 * w + o) = k)) (sZ (24 * w + o))) 24
theorem ys_sumP {s : Int32} {P : Nat → Prop} {g : Nat → Int32} (h : ys_S s P) : si_s (fun o => if bt s o = true then g o else 0) 24 = si_s (fun o => pc_v (P o) (g o)) 24 :=
  si_congr fun o ho => by
    by_cases c : P o
    · rw [pc_t c, if_pos ((h o).2 ⟨ho, c⟩)]
    · rw [pc_n c, if_neg fun z => c ((h o).1 z).2]
section
variable {fM fO fC fX fP : Int32} {tH kD sZ rF rT nU oB pA pI pF sE aN lA dM bF bN rE cH dE qU lO oR oP nF cO iL rP : Nat → Int32} {fD fA lI : Nat → Int32}
theorem x_obj4 {post : Int32 → Prop} (K : post (nI (nn_c (fun x => decide (tH x ≠ 0)) 24))) : ∀ (n i : Nat), 24 < n + i → i ≤ 24 → wX_objects_4 post fM fO fC fX fP tH kD sZ rF rT nU oB pA pI pF sE aN lA dM bF bN rE cH dE qU lO oR oP nF cO iL rP n (nI (nn_c (fun x => decide (tH x ≠ 0)) i)) (nI i) := by
  intro n
  induction n with
  | zero => intro i h1 h2; omega
  | succ n ih =>
    intro i h1 h2
    rw [wX_objects_4]
    by_cases c : i = 24
    · subst c
      exact br_t (nI_le (a := 24) (b := 24) (by omega) (by omega)) K
    · have st : nn_c (fun x => decide (tH x ≠ 0)) (i + 1) = nn_c (fun x => decide (tH x ≠ 0)) i + if decide (tH i ≠ 0) = true then 1 else 0 := rfl
      have nx := ih (i + 1) (by omega) (by omega)
      rw [st] at nx
      refine br_f (nI_ge (b := 24) (by omega) (by omega)) ⟨vp_in_nI (by omega) (by omega), ?_⟩
      rw [nI_clamp (by omega)]
      refine br_c (fun g => nm_r (nI_1 i) ?_) (fun g => nm_r (nI_1 _) (nm_r (nI_1 i) ?_))
      · rw [decide_eq_false fun z => z g, if_neg (by decide), Nat.add_zero] at nx; exact nx
      · rw [decide_eq_true g, if_pos rfl] at nx; exact nx
theorem x_gar10 {post : Int32 → SX → Prop} {num : Nat → Nat} {m : Nat} (hn : rp_a nU num 24) (hm : ∀ x, x < 24 → num x < m) (hm5 : m ≤ 25) (K : post (si_s (fun x => if tH x ≠ 0 ∧ num x = 0 then sZ x else 0) 24) (fM, fO, fC, fX, fP, tH, kD, sZ, rF, rT, nU, oB, pA, pI, pF, sE, aN, lA, dM, bF, bN, rE, cH, dE, qU, lO, oR, oP, nF, cO, iL, rP)) :
    ∀ (n i : Nat), 24 < n + i → i ≤ 24 → wX_garbage_10 post fM fO fC fX fP tH kD sZ rF rT nU oB pA pI pF sE aN lA dM bF bN rE cH dE qU lO oR oP nF cO iL rP n (si_s (fun x => if tH x ≠ 0 ∧ num x = 0 then sZ x else 0) i) (nI i) := by
  intro n
  induction n with
  | zero => intro i h1 h2; omega
  | succ n ih =>
    intro i h1 h2
    rw [wX_garbage_10]
    by_cases c : i = 24
    · subst c
      exact br_t (nI_le (a := 24) (b := 24) (by omega) (by omega)) K
    · have hmi := hm i (by omega)
      have st : si_s (fun x => if tH x ≠ 0 ∧ num x = 0 then sZ x else 0) (i + 1) = si_s (fun x => if tH x ≠ 0 ∧ num x = 0 then sZ x else 0) i + if tH i ≠ 0 ∧ num i = 0 then sZ i else 0 := rfl
      have nx := ih (i + 1) (by omega) (by omega)
      rw [st] at nx
      have no : ¬ (tH i ≠ 0 ∧ num i = 0) → wX_garbage_10 post fM fO fC fX fP tH kD sZ rF rT nU oB pA pI pF sE aN lA dM bF bN rE cH dE qU lO oR oP nF cO iL rP n (si_s (fun x => if tH x ≠ 0 ∧ num x = 0 then sZ x else 0) i) (nI (i + 1)) := fun g => by
        rw [if_neg g, Int32.add_zero] at nx; exact nx
      refine br_f (nI_ge (b := 24) (by omega) (by omega)) ⟨vp_in_nI (by omega) (by omega), ?_⟩
      rw [nI_clamp (by omega)]
      refine br_c (fun g => nm_r (nI_1 i) (no fun z => z.1 g)) (fun g => ⟨vp_in_nI (by omega) (by omega), ?_⟩)
      rw [hn i (by omega)]
      refine pk_eq (num i) 0 (fun q => ⟨vp_in_nI (by omega) (by omega), nm_e (nm_r (nI_1 i) ?_)⟩) (fun q => nm_r (nI_1 i) (no fun z => q z.2))
      rw [if_pos ⟨g, q⟩] at nx; exact nx
theorem x_lk15 {post : Int32 → SX → Prop} {num : Nat → Nat} {m : Nat} {L : Nat → Bool} (hn : rp_a nU num 24) (hm : ∀ x, x < 24 → num x < m) (hm5 : m ≤ 25) (hb : rb_a iL L 24) (K : post (nI (nn_c (fun x => L x && decide (num x = 0)) 24)) (fM, fO, fC, fX, fP, tH, kD, sZ, rF, rT, nU, oB, pA, pI, pF, sE, aN, lA, dM, bF, bN, rE, cH, dE, qU, lO, oR, oP, nF, cO, iL, rP)) :
    ∀ (n i : Nat), 24 < n + i → i ≤ 24 → wX_leaked_15 post fM fO fC fX fP tH kD sZ rF rT nU oB pA pI pF sE aN lA dM bF bN rE cH dE qU lO oR oP nF cO iL rP n (nI (nn_c (fun x => L x && decide (num x = 0)) i)) (nI i) := by
  intro n
  induction n with
  | zero => intro i h1 h2; omega
  | succ n ih =>
    intro i h1 h2
    rw [wX_leaked_15]
    by_cases c : i = 24
    · subst c
      exact br_t (nI_le (a := 24) (b := 24) (by omega) (by omega)) K
    · have hmi := hm i (by omega)
      have st : nn_c (fun x => L x && decide (num x = 0)) (i + 1) = nn_c (fun x => L x && decide (num x = 0)) i + if (L i && decide (num i = 0)) = true then 1 else 0 := rfl
      have nx := ih (i + 1) (by omega) (by omega)
      rw [st] at nx
      have no : ¬ (L i && decide (num i = 0)) = true → wX_leaked_15 post fM fO fC fX fP tH kD sZ rF rT nU oB pA pI pF sE aN lA dM bF bN rE cH dE qU lO oR oP nF cO iL rP n (nI (nn_c (fun x => L x && decide (num x = 0)) i)) (nI (i + 1)) := fun g => by
        rw [if_neg g, Nat.add_zero] at nx; exact nx
      have vi : vp_in (nI i) 24 := vp_in_nI (by omega) (by omega)
      refine br_f (nI_ge (b := 24) (by omega) (by omega)) ⟨vi, ?_⟩
      rw [nI_clamp (by omega)]
      refine br_c (fun g => nm_r (nI_1 i) (no fun z => ?_)) (fun g => ⟨vi, ?_⟩)
      · rw [(rb_0 (hb i (by omega))).1 g] at z; exact nomatch z
      · have hLi : L i = true := Classical.byContradiction fun y => g ((rb_0 (hb i (by omega))).2 (gx_f y))
        rw [hn i (by omega)]
        refine pk_eq (num i) 0 (fun q => nm_r (nI_1 _) (nm_r (nI_1 i) ?_)) (fun q => nm_r (nI_1 i) (no fun z => ?_))
        · rw [hLi, decide_eq_true q, Bool.and_self, if_pos rfl] at nx; exact nx
        · rw [decide_eq_false q, Bool.and_false] at z; exact nomatch z
theorem x_by11 {post : Int32 → SX → Prop} {w m : Nat} {k : Int32} {obj : Nat → Nat} (hw : w < 3) (hm5 : m ≤ 25) (hm1 : 1 ≤ m) (ho : ∀ k, 1 ≤ k → k < m → obj k < 24 ∧ oB k = nI (obj k))
    (K : post (si_s (fun j => (fun o => if k = -1 ∨ kD (24 * w + o) = k then sZ (24 * w + o) else 0) (obj (j + 1))) (m - 1)) ((nI m), fO, fC, fX, fP, tH, kD, sZ, rF, rT, nU, oB, pA, pI, pF, sE, aN, lA, dM, bF, bN, rE, cH, dE, qU, lO, oR, oP, nF, cO, iL, rP)) :
    ∀ (n j : Nat), m ≤ n + j → j + 1 ≤ m → wX_bytesOf_11 post (nI w) k (nI m) fO fC fX fP tH kD sZ rF rT nU oB pA pI pF sE aN lA dM bF bN rE cH dE qU lO oR oP nF cO iL rP n (si_s (fun j => (fun o => if k = -1 ∨ kD (24 * w + o) = k then sZ (24 * w + o) else 0) (obj (j + 1))) j) (nI (j + 1)) := by
  intro n
  induction n with
  | zero => intro j h1 h2; omega
  | succ n ih =>
    intro j h1 h2
    rw [wX_bytesOf_11]
    by_cases c : j + 1 = m
    · have : m - 1 = j := by omega
      rw [this] at K
      rw [c]
      exact br_t (nI_le (Nat.le_refl m) (by omega)) K
    · obtain ⟨o1, o2⟩ := ho (j + 1) (by omega) (by omega)
      have st : si_s (fun j => (fun o => if k = -1 ∨ kD (24 * w + o) = k then sZ (24 * w + o) else 0) (obj (j + 1))) (j + 1) = si_s (fun j => (fun o => if k = -1 ∨ kD (24 * w + o) = k then sZ (24 * w + o) else 0) (obj (j + 1))) j + if k = -1 ∨ kD (24 * w + obj (j + 1)) = k then sZ (24 * w + obj (j + 1)) else 0 := rfl
      have nx := ih (j + 1) (by omega) (by omega)
      rw [st] at nx
      have v72 : vp_in (nI (24 * w + obj (j + 1))) 72 := vp_in_nI (by omega) (by omega)
      have e72 : (nI (24 * w + obj (j + 1))).toNatClampNeg = 24 * w + obj (j + 1) := nI_clamp (by omega)
      have yes : (k = -1 ∨ kD (24 * w + obj (j + 1)) = k) → wX_bytesOf_50 post (wX_bytesOf_11 post (nI w) k (nI m) fO fC fX fP tH kD sZ rF rT nU oB pA pI pF sE aN lA dM bF bN rE cH dE qU lO oR oP nF cO iL rP n) (nI w) k (si_s (fun j => (fun o => if k = -1 ∨ kD (24 * w + o) = k then sZ (24 * w + o) else 0) (obj (j + 1))) j) (nI (j + 1)) (nI (24 * w + obj (j + 1))) (nI m) fO fC fX fP tH kD sZ rF rT nU oB pA pI pF sE aN lA dM bF bN rE cH dE qU lO oR oP nF cO iL rP := by
        intro g
        rw [if_pos g] at nx
        unfold wX_bytesOf_50
        refine ⟨v72, ?_⟩
        rw [e72]
        exact nm_e (nm_r (nI_1 (j + 1)) nx)
      refine br_f (nI_ge (by omega) (by omega)) ⟨vp_in_nI (by omega) (by omega), nm_r (e' := nI (24 * w + obj (j + 1))) (by rw [nI_clamp (by omega), o2, ix_o]) ?_⟩
      refine br_c (fun g => yes (Or.inl g)) (fun g => ⟨v72, ?_⟩)
      rw [e72]
      refine br_c (fun q => yes (Or.inr q)) (fun q => nm_r (nI_1 (j + 1)) ?_)
      rw [if_neg fun z => z.elim g q, Int32.add_zero] at nx
      exact nx
theorem x_bytesOf {post : Int32 → SX → Prop} {w : Nat} {k : Int32} (hw : w < 3) (ok : gOk tH rF rT w) (K : ∀ (fM : Int32) (nU oB pA pI pF : Nat → Int32), post (by_S tH kD sZ rF rT w k) (fM, fO, fC, fX, fP, tH, kD, sZ, rF, rT, nU, oB, pA, pI, pF, sE, aN, lA, dM, bF, bN, rE, cH, dE, qU, lO, oR, oP, nF, cO, iL, rP)) : wpX_bytesOf post (fM, fO, fC, fX, fP, tH, kD, sZ, rF, rT, nU, oB, pA, pI, pF, sE, aN, lA, dM, bF, bN, rE, cH, dE, qU, lO, oR, oP, nF, cO, iL, rP) (nI w) k := by
  unfold wpX_bytesOf
  refine xs_search hw ok fun m nU oB pA pI pF num obj par hr hd => ⟨m, ?_⟩
  refine x_by11 hw (df_m25 hd.1) hd.1.1 (fun k a b => ⟨(hd.1.2.1 k a b).1, hr.2.1 k a b⟩) ?_ m 0 (by omega) hd.1.1
  rw [df_sum hd.1 (fun o => if k = -1 ∨ kD (24 * w + o) = k then sZ (24 * w + o) else 0)]
  have e : si_s (fun o => if num o ≠ 0 then (fun o => if k = -1 ∨ kD (24 * w + o) = k then sZ (24 * w + o) else 0) o else 0) 24 = by_S tH kD sZ rF rT w k := by
    unfold by_S
    refine si_congr fun o ho => ?_
    by_cases c : num o ≠ 0
    · rw [if_pos c]
      by_cases q : k = -1 ∨ kD (24 * w + o) = k
      · rw [pc_t ⟨(df_A hd ho).1 c, q⟩]; exact if_pos q
      · rw [pc_n fun z => q z.2]; exact if_neg q
    · rw [if_neg c, pc_n fun z => c ((df_A hd ho).2 z.1)]
  rw [e]
  exact K _ nU oB pA pI pF
theorem y_bytes {post : Int32 → Prop} {w : Nat} {k : Int32} (hw : w < 3) (C : Rl_c tH rF rT fD) (K : post (by_S tH kD sZ rF rT w k)) : wpY_live (fun r_19 => wpY_ofKind (fun r_27 => wpY_sumOf (fun r_35 => post r_35) (tH, kD, sZ, fD, rT, fA, lI) (nI w) (r_19 &&& r_27)) (tH, kD, sZ, fD, rT, fA, lI) (nI w) k) (tH, kD, sZ, fD, rT, fA, lI) (nI w) 0 := by
  refine y_live0 hw (rl_okY C hw) fun s hs => y_kind hw fun t ht => y_sum hw ?_
  rw [rl_A C hw] at hs
  rw [ys_sumP (ys_and hs ht)]
  exact K
theorem x_rk38 {post : Int32 → SX → Prop} {w m : Nat} {all : Int32} {obj : Nat → Nat} (hw : w < 3) (hm5 : m ≤ 25) (hm1 : 1 ≤ m) (ho : ∀ k, 1 ≤ k → k < m → obj k < 24 ∧ oB k = nI (obj k))
    (K : post (all - si_s (fun j => (fun o => sZ (24 * w + o)) (obj (j + 1))) (m - 1)) ((nI m), fO, fC, fX, fP, tH, kD, sZ, rF, rT, nU, oB, pA, pI, pF, sE, aN, lA, dM, bF, bN, rE, cH, dE, qU, lO, oR, oP, nF, cO, iL, rP)) :
    ∀ (n j : Nat), m ≤ n + j → j + 1 ≤ m → wX_retainedByKind_38 post (nI w) all (nI m) fO fC fX fP tH kD sZ rF rT nU oB pA pI pF sE aN lA dM bF bN rE cH dE qU lO oR oP nF cO iL rP n (si_s (fun j => (fun o => sZ (24 * w + o)) (obj (j + 1))) j) (nI (j + 1)) := by
  intro n
  induction n with
  | zero => intro j h1 h2; omega
  | succ n ih =>
    intro j h1 h2
    rw [wX_retainedByKind_38]
    by_cases c : j + 1 = m
    · have : m - 1 = j := by omega
      rw [this] at K
      rw [c]
      exact br_t (nI_le (Nat.le_refl m) (by omega)) K
    · obtain ⟨o1, o2⟩ := ho (j + 1) (by omega) (by omega)
      have nx := ih (j + 1) (by omega) (by omega)
      refine br_f (nI_ge (by omega) (by omega)) ⟨vp_in_nI (by omega) (by omega), ?_⟩
      rw [nI_clamp (show j + 1 < 2 ^ 31 by omega), o2, ix_o, nI_clamp (by omega)]
      exact ⟨vp_in_nI (by omega) (by omega), nm_e (nm_r (nI_1 (j + 1)) nx)⟩
theorem x_fresh4 {post : Int32 → Prop} (K : post (nI (nn_c (fun x => decide (tH (48 + x) ≠ 0 ∧ tH (24 + x) = 0)) 24))) : ∀ (n i : Nat), 24 < n + i → i ≤ 24 → wX_fresh_4 post fM fO fC fX fP tH kD sZ rF rT nU oB pA pI pF sE aN lA dM bF bN rE cH dE qU lO oR oP nF cO iL rP n (nI (nn_c (fun x => decide (tH (48 + x) ≠ 0 ∧ tH (24 + x) = 0)) i)) (nI i) := by
  intro n
  induction n with
  | zero => intro i h1 h2; omega
  | succ n ih =>
    intro i h1 h2
    rw [wX_fresh_4]
    by_cases c : i = 24
    · subst c
      exact br_t (nI_le (a := 24) (b := 24) (by omega) (by omega)) K
    · have st : nn_c (fun x => decide (tH (48 + x) ≠ 0 ∧ tH (24 + x) = 0)) (i + 1) = nn_c (fun x => decide (tH (48 + x) ≠ 0 ∧ tH (24 + x) = 0)) i + if decide (tH (48 + i) ≠ 0 ∧ tH (24 + i) = 0) = true then 1 else 0 := rfl
      have nx := ih (i + 1) (by omega) (by omega)
      rw [st] at nx
      have e1 : (48 : Int32) + nI i = nI (48 + i) := nI_add 48 i
      have e2 : (24 : Int32) + nI i = nI (24 + i) := nI_add 24 i
      have no : ¬ (tH (48 + i) ≠ 0 ∧ tH (24 + i) = 0) → wX_fresh_4 post fM fO fC fX fP tH kD sZ rF rT nU oB pA pI pF sE aN lA dM bF bN rE cH dE qU lO oR oP nF cO iL rP n (nI (nn_c (fun x => decide (tH (48 + x) ≠ 0 ∧ tH (24 + x) = 0)) i)) (nI (i + 1)) := fun g => by
        rw [decide_eq_false g, if_neg (by decide), Nat.add_zero] at nx; exact nx
      refine br_f (nI_ge (b := 24) (by omega) (by omega)) ?_
      rw [e1, e2, nI_clamp (show 48 + i < 2 ^ 31 by omega), nI_clamp (show 24 + i < 2 ^ 31 by omega)]
      refine ⟨vp_in_nI (by omega) (by omega), br_c (fun g => nm_r (nI_1 i) (no fun z => z.1 g)) (fun g => ⟨vp_in_nI (by omega) (by omega), br_c (fun q => ?_) (fun q => nm_r (nI_1 i) (no fun z => q z.2))⟩)⟩
      refine nm_r (nI_1 _) (nm_r (nI_1 i) ?_)
      rw [decide_eq_true ⟨g, q⟩, if_pos rfl] at nx
      exact nx
end
theorem i_vc_objects {k : Nat} {u : SX} {v : SY} (I : i_Rel k u v) (hk : k + 4 ≤ 2048) : wpX_objects (fun r => wpY_objects (fun r' => r' = r ∧ i_Rel (k + 4) u v) v) u := by
  refine rl_el (P := fun u v => wpX_objects (fun r => wpY_objects (fun r' => r' = r ∧ i_Rel (k + 4) u v) v) u) ?_ I
  intro fM fO fC fX fP tH kD sZ rF rT nU oB pA pI pF sE aN lA dM bF bN rE cH dE qU lO oR oP nF cO iL rP fD fA lI C
  unfold wpX_objects
  refine ⟨25, x_obj4 ?_ 25 0 (by omega) (by omega)⟩
  unfold wpY_objects
  refine y_all fun s hs => y_bits ⟨congrArg nI (ys_cnt hs fun x hx => ?_), rl_in C⟩
  rw [decide_eq_true_iff]
theorem i_vc_garbage {k : Nat} {u : SX} {v : SY} (I : i_Rel k u v) (hk : k + 4 ≤ 2048) : wpX_garbage (fun r u' => wpY_garbage (fun r' => r' = r ∧ i_Rel (k + 4) u' v) v) u := by
  refine rl_el (P := fun u v => wpX_garbage (fun r u' => wpY_garbage (fun r' => r' = r ∧ i_Rel (k + 4) u' v) v) u) ?_ I
  intro fM fO fC fX fP tH kD sZ rF rT nU oB pA pI pF sE aN lA dM bF bN rE cH dE qU lO oR oP nF cO iL rP fD fA lI C
  unfold wpX_garbage
  refine xs_search (w := 0) (by omega) (C.2.1 0 (by omega)) fun m nU oB pA pI pF num obj par hr hd => ⟨25, ?_⟩
  refine x_gar10 hr.1 (fun x hx => (hd.1.2.2 x hx).1) (df_m25 hd.1) ?_ 25 0 (by omega) (by omega)
  unfold wpY_garbage
  refine y_all fun s hs => y_live0 (w := 0) (by omega) (rl_okY C (by omega)) fun t ht => y_sum (w := 0) (by omega) ⟨?_, rl_in C⟩
  rw [rl_A C (by omega)] at ht
  rw [ys_sumP (ys_diff hs ht)]
  refine si_congr fun x hx => ?_
  rw [Nat.mul_zero, Nat.zero_add]
  have hA := df_A hd hx
  by_cases c : tH x ≠ 0 ∧ num x = 0
  · rw [if_pos c, pc_t ⟨c.1, fun z => hA.2 z c.2⟩]
  · rw [if_neg c, pc_n fun z => c ⟨z.1, Classical.byContradiction fun q => z.2 (hA.1 q)⟩]
theorem i_vc_leaked {k : Nat} {u : SX} {v : SY} (I : i_Rel k u v) (hk : k + 4 ≤ 2048) : wpX_leaked (fun r u' => wpY_leaked (fun r' => r' = r ∧ i_Rel (k + 4) u' v) v) u := by
  refine rl_el (P := fun u v => wpX_leaked (fun r u' => wpY_leaked (fun r' => r' = r ∧ i_Rel (k + 4) u' v) v) u) ?_ I
  intro fM fO fC fX fP tH kD sZ rF rT nU oB pA pI pF sE aN lA dM bF bN rE cH dE qU lO oR oP nF cO iL rP fD fA lI C
  unfold wpX_leaked
  refine xs_search (w := 0) (by omega) (C.2.1 0 (by omega)) fun m nU oB pA pI pF num obj par hr hd => ?_
  refine x_findLeft (C.2.1 0 (by omega)) C.1 fun n L iL cO hb hL hn => ⟨25, ?_⟩
  refine x_lk15 hr.1 (fun x hx => (hd.1.2.2 x hx).1) (df_m25 hd.1) hb ?_ 25 0 (by omega) (by omega)
  unfold wpY_leaked
  refine y_all fun s hs => y_live0 (w := 0) (by omega) (rl_okY C (by omega)) fun t ht => y_loose (rl_okY C (by omega)) fun l hl => y_bits ⟨?_, rl_in C⟩
  rw [rl_A C (by omega)] at ht
  rw [rl_G C] at hl
  refine congrArg nI (ys_cnt (ys_diff (ys_diff hs ht) hl) fun x hx => ?_)
  have hA := df_A hd hx
  rw [Bool.and_eq_true, decide_eq_true_iff, hL x hx]
  constructor
  · rintro ⟨a, b⟩
    exact ⟨⟨(g0_T tH x).1 (gl_su tH rF rT x a).2.1, fun z => hA.2 z b⟩, fun z => z.2 a⟩
  · rintro ⟨⟨a, b⟩, c⟩
    exact ⟨Classical.byContradiction fun z => c ⟨a, z⟩, Classical.byContradiction fun z => b (hA.1 z)⟩
theorem i_vc_alive {k : Nat} {u : SX} {v : SY} (I : i_Rel k u v) (hk : k + 4 ≤ 2048) (v1 : Int32) : wpX_alive (fun r u' => wpY_alive (fun r' => r' = r ∧ i_Rel (k + 4) u' v) v v1) u v1 := by
  refine rl_el (P := fun u v => wpX_alive (fun r u' => wpY_alive (fun r' => r' = r ∧ i_Rel (k + 4) u' v) v v1) u v1) ?_ I
  intro fM fO fC fX fP tH kD sZ rF rT nU oB pA pI pF sE aN lA dM bF bN rE cH dE qU lO oR oP nF cO iL rP fD fA lI C
  unfold wpX_alive
  rcases pk_ix v1 (n := 3) (by omega) with h | h | ⟨w, hw, rfl⟩
  · refine x_badPlace1 (Or.inl h) (br_f (by decide) ?_)
    unfold wpY_alive
    exact y_place0 (Or.inl h) (br_t rfl ⟨rfl, rl_in C⟩)
  · refine x_badPlace1 (Or.inr h) (br_f (by decide) ?_)
    unfold wpY_alive
    exact y_place0 (Or.inr h) (br_t rfl ⟨rfl, rl_in C⟩)
  · refine x_badPlace0 hw (br_t rfl (xs_search hw (C.2.1 w hw) fun m nU oB pA pI pF num obj par hr hd => ?_))
    unfold wpY_alive
    refine y_place1 hw (br_f (by decide) (y_live0 hw (rl_okY C hw) fun s hs => y_bits ⟨?_, rl_in C⟩))
    rw [rl_A C hw] at hs
    exact cnt_eq hd hs
theorem i_vc_bytes {k : Nat} {u : SX} {v : SY} (I : i_Rel k u v) (hk : k + 4 ≤ 2048) (v1 : Int32) (v2 : Int32) : wpX_bytes (fun r u' => wpY_bytes (fun r' => r' = r ∧ i_Rel (k + 4) u' v) v v1 v2) u v1 v2 := by
  refine rl_el (P := fun u v => wpX_bytes (fun r u' => wpY_bytes (fun r' => r' = r ∧ i_Rel (k + 4) u' v) v v1 v2) u v1 v2) ?_ I
  intro fM fO fC fX fP tH kD sZ rF rT nU oB pA pI pF sE aN lA dM bF bN rE cH dE qU lO oR oP nF cO iL rP fD fA lI C
  unfold wpX_bytes
  rcases pk_ix v1 (n := 3) (by omega) with h | h | ⟨w, hw, rfl⟩
  · refine x_badPlace1 (Or.inl h) (br_f (by decide) ?_)
    unfold wpY_bytes
    exact y_place0 (Or.inl h) (br_t rfl ⟨rfl, rl_in C⟩)
  · refine x_badPlace1 (Or.inr h) (br_f (by decide) ?_)
    unfold wpY_bytes
    exact y_place0 (Or.inr h) (br_t rfl ⟨rfl, rl_in C⟩)
  · refine x_badPlace0 hw (br_t rfl ?_)
    by_cases h1 : v2 < -1
    · refine br_t h1 ?_
      unfold wpY_bytes
      exact y_place1 hw (br_f (by decide) (yi_0 (Or.inl h1) (br_t rfl ⟨rfl, rl_in C⟩)))
    · refine br_f h1 ?_
      by_cases h2 : v2 < 4
      · refine br_t h2 (x_bytesOf hw (C.2.1 w hw) fun fM nU oB pA pI pF => ?_)
        unfold wpY_bytes
        refine y_place1 hw (br_f (by decide) (yi_1 h1 (fun z => ?_) (br_f (by decide) ?_)))
        · have a := Int32.lt_iff_toInt_lt.mp z
          have b := Int32.lt_iff_toInt_lt.mp h2
          have e3 : (3 : Int32).toInt = 3 := by decide
          have e4 : (4 : Int32).toInt = 4 := by decide
          omega
        · exact y_bytes (post := fun r' => r' = by_S tH kD sZ rF rT w v2 ∧ i_Rel (k + 4) (fM, fO, fC, fX, fP, tH, kD, sZ, rF, rT, nU, oB, pA, pI, pF, sE, aN, lA, dM, bF, bN, rE, cH, dE, qU, lO, oR, oP, nF, cO, iL, rP) (tH, kD, sZ, fD, rT, fA, lI)) hw C ⟨rfl, rl_in C⟩
      · refine br_f h2 ?_
        unfold wpY_bytes
        refine y_place1 hw (br_f (by decide) (yi_0 (Or.inr ?_) (br_t rfl ⟨rfl, rl_in C⟩)))
        exact ix_gt (b := 3) (by omega) (Int32.not_lt.mp h2)
theorem i_vc_retainedByKind {k : Nat} {u : SX} {v : SY} (I : i_Rel k u v) (hk : k + 4 ≤ 2048) (v1 : Int32) (v2 : Int32) : wpX_retainedByKind (fun r u' => wpY_retainedByKind (fun r' => r' = r ∧ i_Rel (k + 4) u' v) v v1 v2) u v1 v2 := by
  refine rl_el (P := fun u v => wpX_retainedByKind (fun r u' => wpY_retainedByKind (fun r' => r' = r ∧ i_Rel (k + 4) u' v) v v1 v2) u v1 v2) ?_ I
  intro fM fO fC fX fP tH kD sZ rF rT nU oB pA pI pF sE aN lA dM bF bN rE cH dE qU lO oR oP nF cO iL rP fD fA lI C
  unfold wpX_retainedByKind
  rcases pk_ix v1 (n := 3) (by omega) with h | h | ⟨w, hw, rfl⟩
  · refine x_badPlace1 (Or.inl h) (br_f (by decide) ?_)
    unfold wpY_retainedByKind
    exact y_place0 (Or.inl h) (br_t rfl ⟨rfl, rl_in C⟩)
  · refine x_badPlace1 (Or.inr h) (br_f (by decide) ?_)
    unfold wpY_retainedByKind
    exact y_place0 (Or.inr h) (br_t rfl ⟨rfl, rl_in C⟩)
  · refine x_badPlace0 hw (br_t rfl ?_)
    rcases pk_ix v2 (n := 4) (by omega) with h | h | ⟨kd, hkd, rfl⟩
    · refine br_t h ?_
      unfold wpY_retainedByKind
      exact y_place1 hw (br_f (by decide) (yi_0 (Or.inl h) (br_t rfl ⟨rfl, rl_in C⟩)))
    · have fin : wpY_retainedByKind (fun r' => r' = -1 ∧ i_Rel (k + 4) (fM, fO, fC, fX, fP, tH, kD, sZ, rF, rT, nU, oB, pA, pI, pF, sE, aN, lA, dM, bF, bN, rE, cH, dE, qU, lO, oR, oP, nF, cO, iL, rP) (tH, kD, sZ, fD, rT, fA, lI)) (tH, kD, sZ, fD, rT, fA, lI) (nI w) v2 := by
        unfold wpY_retainedByKind
        exact y_place1 hw (br_f (by decide) (yi_0 (Or.inr (ix_gt (b := 3) (by omega) h)) (br_t rfl ⟨rfl, rl_in C⟩)))
      exact br_c (fun _ => fin) (fun _ => br_f (Int32.not_lt.mpr h) fin)
    · refine br_f (nI_pos (by omega)) (br_t (nI_lt (b := 4) hkd (by omega)) ?_)
      refine x_bytesOf hw (C.2.1 w hw) fun fM nU oB pA pI pF => ?_
      refine xs_search hw (C.2.1 w hw) fun m nU oB pA pI pF num obj par hr hd => ⟨m, ?_⟩
      refine x_rk38 hw (df_m25 hd.1) hd.1.1 (fun k a b => ⟨(hd.1.2.1 k a b).1, hr.2.1 k a b⟩) ?_ m 0 (by omega) hd.1.1
      rw [df_sum hd.1 (fun o => sZ (24 * w + o))]
      unfold wpY_retainedByKind
      refine y_place1 hw (br_f (by decide) (yi_in (b := 3) (by omega) (by omega) (br_f (by decide) ?_)))
      refine y_live0 hw (rl_okY C hw) fun s hs => y_kind hw fun t ht => y_live hw (rl_okY C hw) fun l hl => y_sum hw ⟨?_, rl_in C⟩
      rw [rl_A C hw] at hs
      rw [rl_E C hw] at hl
      rw [ys_sumP (ys_diff hs hl)]
      unfold by_S
      rw [← si_sub]
      refine si_congr fun o ho => ?_
      have hne : ¬ nI kd = -1 := ix_m1 (by omega)
      have eW : Rc_h (gR rT w) (gE tH rF w) (fun q => bt t q = true) o ↔ Rc_h (gR rT w) (gE tH rF w) (gW kD w (nI kd)) o := by
        have key : ∀ q, q < 24 → (bt t q = true ↔ gW kD w (nI kd) q) := fun q hq => by
          rw [ht q]
          exact ⟨fun z => ⟨hne, z.2.elim (fun y => absurd y hne) id⟩, fun z => ⟨hq, Or.inr z.2⟩⟩
        constructor
        · intro h
          refine (rc_ind (S := fun x => Rc_h (gR rT w) (gE tH rF w) (gW kD w (nI kd)) x) h (fun b hb hw' => rc_root hb fun z => hw' ((key b hb.1).2 z)) (fun a b _ ha he hw' => rc_step ha he fun z => hw' ((key b he.2.2.1).2 z)))
        · intro h
          refine (rc_ind (S := fun x => Rc_h (gR rT w) (gE tH rF w) (fun q => bt t q = true) x) h (fun b hb hw' => rc_root hb fun z => hw' ((key b hb.1).1 z)) (fun a b _ ha he hw' => rc_step ha he fun z => hw' ((key b he.2.2.1).1 z)))
      have hn := df_rch hd ho
      rw [pc_c (p := gA tH rF rT w o ∧ (-1 = -1 ∨ kD (24 * w + o) = -1)) (q := gA tH rF rT w o) ⟨fun z => z.1, fun z => ⟨z, Or.inl rfl⟩⟩]
      by_cases c : num o ≠ 0
      · have r1 := hn.1 c
        have r2 : gA tH rF rT w o := rc_sub r1 fun _ z => z.elim
        rw [if_pos c, pc_n fun z => z.2 (eW.2 r1), pc_t r2, Int32.sub_self]
      · rw [if_neg c, Int32.sub_zero]
        exact pc_c ⟨fun z => z.1, fun z => ⟨z, fun y => c (hn.2 (eW.1 y))⟩⟩
theorem i_vc_fresh {k : Nat} {u : SX} {v : SY} (I : i_Rel k u v) (hk : k + 4 ≤ 2048) : wpX_fresh (fun r => wpY_fresh (fun r' => r' = r ∧ i_Rel (k + 4) u v) v) u := by
  refine rl_el (P := fun u v => wpX_fresh (fun r => wpY_fresh (fun r' => r' = r ∧ i_Rel (k + 4) u v) v) u) ?_ I
  intro fM fO fC fX fP tH kD sZ rF rT nU oB pA pI pF sE aN lA dM bF bN rE cH dE qU lO oR oP nF cO iL rP fD fA lI C
  unfold wpX_fresh
  refine ⟨25, x_fresh4 ?_ 25 0 (by omega) (by omega)⟩
  unfold wpY_fresh
  refine y_live0 (w := 2) (by omega) (rl_okY C (by omega)) fun s hs => y_live0 (w := 1) (by omega) (rl_okY C (by omega)) fun t ht => y_bits ⟨?_, rl_in C⟩
  rw [rl_A C (by omega)] at hs ht
  refine congrArg nI (ys_cnt (ys_diff hs ht) fun x hx => ?_)
  rw [decide_eq_true_iff]
  have a2 : tH (48 + x) ≠ 0 ↔ gA tH rF rT 2 x := ⟨fun z => C.2.2.2 2 x (by omega) (by omega) hx z, fun z => (gA_T (C.2.1 2 (by omega)) z).2⟩
  have a1 : tH (24 + x) ≠ 0 ↔ gA tH rF rT 1 x := ⟨fun z => C.2.2.2 1 x (by omega) (by omega) hx z, fun z => (gA_T (C.2.1 1 (by omega)) z).2⟩
  rw [a2]
  refine and_congr_right fun _ => ⟨fun z y => a1.2 y z, fun z => Classical.byContradiction fun y => z (a1.1 y)⟩
/-- the best kind so far -/
noncomputable def gr_W (D : Nat → Int32) : Nat → Int32 × Int32
  | 0 => (0, 0)
  | i + 1 => @ite _ (i = 0 ∨ ¬ D i ≤ (gr_W D i).2) (Classical.propDecidable _) (nI i, D i) (gr_W D i)
theorem gr_t {D : Nat → Int32} {i : Nat} (h : i = 0 ∨ ¬ D i ≤ (gr_W D i).2) : gr_W D (i + 1) = (nI i, D i) := by
  rw [gr_W]; exact if_pos h
theorem gr_n {D : Nat → Int32} {i : Nat} (h : ¬ (i = 0 ∨ ¬ D i ≤ (gr_W D i).2)) : gr_W D (i + 1) = gr_W D i := by
  rw [gr_W]; exact if_neg h
section
variable {fM fO fC fX fP : Int32} {tH kD sZ rF rT nU oB pA pI pF sE aN lA dM bF bN rE cH dE qU lO oR oP nF cO iL rP : Nat → Int32} {fD fA lI : Nat → Int32}
theorem x_gr6 {post : Int32 → SX → Prop} {D : Nat → Int32} (C : Rl_c tH rF rT fD) (hD : D = fun i => by_S tH kD sZ rF rT 2 (nI i) - by_S tH kD sZ rF rT 1 (nI i)) (K : ∀ (fM : Int32) (nU oB pA pI pF : Nat → Int32), post (gr_W D 4).1 (fM, fO, fC, fX, fP, tH, kD, sZ, rF, rT, nU, oB, pA, pI, pF, sE, aN, lA, dM, bF, bN, rE, cH, dE, qU, lO, oR, oP, nF, cO, iL, rP)) :
    ∀ (n i : Nat) (fM : Int32) (nU oB pA pI pF : Nat → Int32), 4 < n + i → i ≤ 4 → wX_grown_6 post n (gr_W D i).1 (gr_W D i).2 (nI i) fM fO fC fX fP tH kD sZ rF rT nU oB pA pI pF sE aN lA dM bF bN rE cH dE qU lO oR oP nF cO iL rP := by
  intro n
  induction n with
  | zero => intro i fM nU oB pA pI pF h1 h2; omega
  | succ n ih =>
    intro i fM nU oB pA pI pF h1 h2
    rw [wX_grown_6]
    by_cases c : i = 4
    · subst c
      exact br_t (nI_le (a := 4) (b := 4) (by omega) (by omega)) (K fM nU oB pA pI pF)
    · refine br_f (nI_ge (b := 4) (by omega) (by omega)) ?_
      refine x_bytesOf (w := 2) (by omega) (C.2.1 2 (by omega)) fun fM nU oB pA pI pF => ?_
      refine x_bytesOf (w := 1) (by omega) (C.2.1 1 (by omega)) fun fM nU oB pA pI pF => ?_
      have eD : by_S tH kD sZ rF rT 2 (nI i) - by_S tH kD sZ rF rT 1 (nI i) = D i := by rw [hD]
      have nx := ih (i + 1) fM nU oB pA pI pF (by omega) (by omega)
      have yes : (i = 0 ∨ ¬ D i ≤ (gr_W D i).2) → wX_grown_40 post (wX_grown_6 post n) (gr_W D i).1 (gr_W D i).2 (nI i) (by_S tH kD sZ rF rT 2 (nI i)) (by_S tH kD sZ rF rT 1 (nI i)) fM fO fC fX fP tH kD sZ rF rT nU oB pA pI pF sE aN lA dM bF bN rE cH dE qU lO oR oP nF cO iL rP := by
        intro g
        rw [gr_t g] at nx
        unfold wX_grown_40 wX_grown_45
        refine br_f (by decide) ?_
        unfold wX_grown_57
        exact br_f (by decide) (nm_r eD (nm_r (nI_1 i) nx))
      refine pk_eq i 0 (fun g => yes (Or.inl g)) (fun g => ?_)
      rw [eD]
      refine br_c (fun q => ?_) (fun q => yes (Or.inr q))
      rw [gr_n fun z => z.elim g fun y => y q] at nx
      unfold wX_grown_45
      refine br_t rfl ?_
      unfold wX_grown_57
      exact br_t rfl (nm_r (nI_1 i) nx)
theorem y_gr6 {post : Int32 → Prop} {D : Nat → Int32} (C : Rl_c tH rF rT fD) (hD : D = fun i => by_S tH kD sZ rF rT 2 (nI i) - by_S tH kD sZ rF rT 1 (nI i)) (K : post (gr_W D 4).1) :
    ∀ (n i : Nat), 4 < n + i → i ≤ 4 → wY_grown_6 post tH kD sZ fD rT fA lI n (gr_W D i).1 (gr_W D i).2 (nI i) := by
  intro n
  induction n with
  | zero => intro i h1 h2; omega
  | succ n ih =>
    intro i h1 h2
    rw [wY_grown_6]
    by_cases c : i = 4
    · subst c
      exact br_t (nI_le (a := 4) (b := 4) (by omega) (by omega)) K
    · refine br_f (nI_ge (b := 4) (by omega) (by omega)) ?_
      have eD : by_S tH kD sZ rF rT 2 (nI i) - by_S tH kD sZ rF rT 1 (nI i) = D i := by rw [hD]
      have nx := ih (i + 1) (by omega) (by omega)
      refine y_bytes (w := 2) (by omega) C ?_
      refine y_bytes (w := 1) (by omega) C ?_
      refine nm_r eD (pk_eq i 0 (fun g => nm_r (nI_1 i) ?_) (fun g => br_c (fun q => nm_r (nI_1 i) ?_) (fun q => nm_r (nI_1 i) ?_)))
      · rw [gr_t (Or.inl g)] at nx; exact nx
      · rw [gr_n fun z => z.elim g fun y => y q] at nx; exact nx
      · rw [gr_t (Or.inr q)] at nx; exact nx
end
theorem i_vc_grown {k : Nat} {u : SX} {v : SY} (I : i_Rel k u v) (hk : k + 4 ≤ 2048) : wpX_grown (fun r u' => wpY_grown (fun r' => r' = r ∧ i_Rel (k + 4) u' v) v) u := by
  refine rl_el (P := fun u v => wpX_grown (fun r u' => wpY_grown (fun r' => r' = r ∧ i_Rel (k + 4) u' v) v) u) ?_ I
  intro fM fO fC fX fP tH kD sZ rF rT nU oB pA pI pF sE aN lA dM bF bN rE cH dE qU lO oR oP nF cO iL rP fD fA lI C
  unfold wpX_grown
  refine ⟨5, x_gr6 (fD := fD) C rfl (fun fM nU oB pA pI pF => ?_) 5 0 fM nU oB pA pI pF (by omega) (by omega)⟩
  unfold wpY_grown
  exact ⟨5, y_gr6 C rfl ⟨rfl, rl_in C⟩ 5 0 (by omega) (by omega)⟩
end
section
/-! rings, greatestRing, depth, way, holders -/
theorem i_vc_rings {k : Nat} {u : SX} {v : SY} (I : i_Rel k u v) (hk : k + 4 ≤ 2048) (v1 : Int32) : wpX_rings (fun r u' => wpY_rings (fun r' => r' = r ∧ i_Rel (k + 4) u' v) v v1) u v1 := by
  refine rl_el (P := fun u v => wpX_rings (fun r u' => wpY_rings (fun r' => r' = r ∧ i_Rel (k + 4) u' v) v v1) u v1) ?_ I
  intro fM fO fC fX fP tH kD sZ rF rT nU oB pA pI pF sE aN lA dM bF bN rE cH dE qU lO oR oP nF cO iL rP fD fA lI C
  unfold wpX_rings
  rcases pk_ix v1 (n := 3) (by omega) with h | h | ⟨w, hw, rfl⟩
  · refine x_badPlace1 (Or.inl h) (br_f (by decide) ?_)
    unfold wpY_rings
    exact y_place0 (Or.inl h) (br_t rfl ⟨rfl, rl_in C⟩)
  · refine x_badPlace1 (Or.inr h) (br_f (by decide) ?_)
    unfold wpY_rings
    exact y_place0 (Or.inr h) (br_t rfl ⟨rfl, rl_in C⟩)
  · refine x_badPlace0 hw (br_t rfl (x_findRings hw (C.2.1 w hw) fun f1 f2 L most oR lO nF oP rP qU hR => ?_))
    unfold wpY_rings
    refine y_place1 hw (br_f (by decide) (y_countRings hw (rl_okY C hw) fun L' most' hR' => br_t rfl ⟨?_, rl_in C⟩))
    rw [rl_E C hw, rl_A C hw] at hR'
    rw [(rg_uniq hR' hR).1]
theorem i_vc_greatestRing {k : Nat} {u : SX} {v : SY} (I : i_Rel k u v) (hk : k + 4 ≤ 2048) (v1 : Int32) : wpX_greatestRing (fun r u' => wpY_greatestRing (fun r' => r' = r ∧ i_Rel (k + 4) u' v) v v1) u v1 := by
  refine rl_el (P := fun u v => wpX_greatestRing (fun r u' => wpY_greatestRing (fun r' => r' = r ∧ i_Rel (k + 4) u' v) v v1) u v1) ?_ I
  intro fM fO fC fX fP tH kD sZ rF rT nU oB pA pI pF sE aN lA dM bF bN rE cH dE qU lO oR oP nF cO iL rP fD fA lI C
  unfold wpX_greatestRing
  rcases pk_ix v1 (n := 3) (by omega) with h | h | ⟨w, hw, rfl⟩
  · refine x_badPlace1 (Or.inl h) (br_f (by decide) ?_)
    unfold wpY_greatestRing
    exact y_place0 (Or.inl h) (br_t rfl ⟨rfl, rl_in C⟩)
  · refine x_badPlace1 (Or.inr h) (br_f (by decide) ?_)
    unfold wpY_greatestRing
    exact y_place0 (Or.inr h) (br_t rfl ⟨rfl, rl_in C⟩)
  · refine x_badPlace0 hw (br_t rfl (x_findRings hw (C.2.1 w hw) fun f1 f2 L most oR lO nF oP rP qU hR => ?_))
    unfold wpY_greatestRing
    refine y_place1 hw (br_f (by decide) (y_countRings hw (rl_okY C hw) fun L' most' hR' => br_f (by decide) ⟨?_, rl_in C⟩))
    rw [rl_E C hw, rl_A C hw] at hR'
    rw [(rg_uniq hR' hR).2]
/-- the facts that findWay wants -/
theorem dp_D {tH rF rT : Nat → Int32} {w o : Nat} {dp : Nat → Nat} (h : Dp_d tH rF rT w dp) (ho : o < 24) (hz : dp o ≠ 0) : dp o - 1 ≤ 23 ∧ (∃ p, gR rT w p ∧ Bk_d (gE tH rF w) o (dp o - 1) p) ∧ ∀ k p, gR rT w p → Bk_d (gE tH rF w) o k p → dp o - 1 ≤ k := by
  have h1 := (h.1 o ho).1
  have h2 := (h.1 o ho).2 hz
  refine ⟨by omega, ?_, fun k p hp hb => ?_⟩
  · obtain ⟨p, p1, p2⟩ := rk_bk (o := o) (k := 0) h2 rfl
    exact ⟨p, p1, p2⟩
  · have := rk_to (R := gR rT w) (j := 0) (k := k) hp hb
    rw [Nat.zero_add] at this
    have := (h.2 k o this).2.2
    omega
theorem i_vc_depth {k : Nat} {u : SX} {v : SY} (I : i_Rel k u v) (hk : k + 4 ≤ 2048) (v1 : Int32) (v2 : Int32) : wpX_depth (fun r u' => wpY_depth (fun r' v' => r' = r ∧ i_Rel (k + 4) u' v') v v1 v2) u v1 v2 := by
  refine rl_el (P := fun u v => wpX_depth (fun r u' => wpY_depth (fun r' v' => r' = r ∧ i_Rel (k + 4) u' v') v v1 v2) u v1 v2) ?_ I
  intro fM fO fC fX fP tH kD sZ rF rT nU oB pA pI pF sE aN lA dM bF bN rE cH dE qU lO oR oP nF cO iL rP fD fA lI C
  unfold wpX_depth
  rcases pk_ix v1 (n := 3) (by omega) with h | h | ⟨w, hw, rfl⟩
  · refine x_badPlace1 (Or.inl h) (br_f (by decide) ?_)
    unfold wpY_depth
    exact y_place0 (Or.inl h) (br_t rfl ⟨rfl, rl_in C⟩)
  · refine x_badPlace1 (Or.inr h) (br_f (by decide) ?_)
    unfold wpY_depth
    exact y_place0 (Or.inr h) (br_t rfl ⟨rfl, rl_in C⟩)
  · refine x_badPlace0 hw (br_t rfl (x_findDepths hw (C.2.1 w hw) fun dp dE qU hd hD => ?_))
    rcases pk_ix v2 (n := 24) (by omega) with h | h | ⟨o, ho, rfl⟩
    · refine x_isDeep0 (Or.inl h) (br_t rfl ?_)
      unfold wpY_depth
      exact y_place1 hw (br_f (by decide) (y_isAlive0 (Or.inl h) (br_t rfl ⟨rfl, rl_in C⟩)))
    · refine x_isDeep0 (Or.inr h) (br_t rfl ?_)
      unfold wpY_depth
      exact y_place1 hw (br_f (by decide) (y_isAlive0 (Or.inr h) (br_t rfl ⟨rfl, rl_in C⟩)))
    · have hA := dp_A hD ho
      have eA := rl_A C hw
      refine x_isDeep ho hd (hD.1 o ho).1 (fun hz => br_f (by decide) ⟨vp_in_nI ho (by omega), ?_⟩) (fun hz => br_t rfl ?_)
      · rw [nI_clamp (by omega), hd o ho]
        unfold wpY_depth
        refine y_place1 hw (br_f (by decide) (y_isAlive hw ho (rl_okY C hw) (fun _ => br_f (by decide) ?_) (fun z => absurd (hA.1 hz) (by rw [← eA]; exact z))))
        obtain ⟨d1, d2, d3⟩ := dp_D hD ho hz
        rw [← rl_E C hw] at d2 d3
        refine y_findWay hw ho (rl_okY C hw) C.1 d1 d2 d3 fun fA lI _ => ⟨?_, rl_in C⟩
        rw [Nat.sub_add_cancel (by omega)]
      · unfold wpY_depth
        refine y_place1 hw (br_f (by decide) (y_isAlive hw ho (rl_okY C hw) (fun z => ?_) (fun _ => br_t rfl ⟨rfl, rl_in C⟩)))
        rw [eA] at z
        exact absurd hz (hA.2 z)
theorem i_vc_way {k : Nat} {u : SX} {v : SY} (I : i_Rel k u v) (hk : k + 4 ≤ 2048) (v1 : Int32) (v2 : Int32) (v3 : Int32) : wpX_way (fun r u' => wpY_way (fun r' v' => r' = r ∧ i_Rel (k + 4) u' v') v v1 v2 v3) u v1 v2 v3 := by
  refine rl_el (P := fun u v => wpX_way (fun r u' => wpY_way (fun r' v' => r' = r ∧ i_Rel (k + 4) u' v') v v1 v2 v3) u v1 v2 v3) ?_ I
  intro fM fO fC fX fP tH kD sZ rF rT nU oB pA pI pF sE aN lA dM bF bN rE cH dE qU lO oR oP nF cO iL rP fD fA lI C
  unfold wpX_way
  have none : ∀ (Q : Int32 → SY → Prop), Q (-3) (tH, kD, sZ, fD, rT, fA, lI) → wY_way_29 Q v3 0 tH kD sZ fD rT fA lI := by
    intro Q hQ
    unfold wY_way_29
    exact br_c (fun _ => hQ) (fun g => br_t (Int32.not_lt.mp g) hQ)
  rcases pk_ix v1 (n := 3) (by omega) with h | h | ⟨w, hw, rfl⟩
  · refine x_badPlace1 (Or.inl h) (br_f (by decide) ?_)
    unfold wpY_way
    exact y_place0 (Or.inl h) (br_t rfl ⟨rfl, rl_in C⟩)
  · refine x_badPlace1 (Or.inr h) (br_f (by decide) ?_)
    unfold wpY_way
    exact y_place0 (Or.inr h) (br_t rfl ⟨rfl, rl_in C⟩)
  · refine x_badPlace0 hw (br_t rfl (x_findDepths hw (C.2.1 w hw) fun dp dE qU hd hD => ?_))
    rcases pk_ix v2 (n := 24) (by omega) with h | h | ⟨o, ho, rfl⟩
    · refine x_isDeep0 (Or.inl h) (br_t rfl ?_)
      unfold wpY_way
      exact y_place1 hw (br_f (by decide) (y_isAlive0 (Or.inl h) (br_t rfl (none _ ⟨rfl, rl_in C⟩))))
    · refine x_isDeep0 (Or.inr h) (br_t rfl ?_)
      unfold wpY_way
      exact y_place1 hw (br_f (by decide) (y_isAlive0 (Or.inr h) (br_t rfl (none _ ⟨rfl, rl_in C⟩))))
    · have hA := dp_A hD ho
      have eA := rl_A C hw
      have hdo := (hD.1 o ho).1
      refine x_isDeep ho hd hdo (fun hz => br_f (by decide) ?_) (fun hz => br_t rfl ?_)
      · obtain ⟨d1, d2, d3⟩ := dp_D hD ho hz
        rw [← rl_E C hw] at d2 d3
        -- the reference's walk, whatever is asked
        have toY : ∀ (Q : Int32 → SY → Prop), (∀ fA lI : Nat → Int32, (∀ j, j ≤ dp o - 1 → ∃ x, lI j = nI x ∧ Wy_d (gR rT w) (gE tH rF w) o (dp o - 1) j x) → wY_way_29 Q v3 (nI (dp o)) tH kD sZ fD rT fA lI) → wpY_way Q (tH, kD, sZ, fD, rT, fA, lI) (nI w) (nI o) v3 := by
          intro Q hQ
          unfold wpY_way
          refine y_place1 hw (br_f (by decide) (y_isAlive hw ho (rl_okY C hw) (fun _ => br_f (by decide) ?_) (fun z => absurd (hA.1 hz) (by rw [← eA]; exact z))))
          refine y_findWay hw ho (rl_okY C hw) C.1 d1 d2 d3 fun fA lI hl => ?_
          rw [Nat.sub_add_cancel (by omega)]
          rw [rl_E C hw] at hl
          exact hQ fA lI hl
        rcases pk_ix v3 (n := dp o) (by omega) with h | h | ⟨i, hi, rfl⟩
        · refine br_t h (toY _ fun fA lI hl => ?_)
          unfold wY_way_29
          exact br_t h ⟨rfl, rl_in C⟩
        · have fin : wpY_way (fun r' v' => r' = -3 ∧ i_Rel (k + 4) (fM, fO, fC, fX, fP, tH, kD, sZ, rF, rT, nU, oB, pA, pI, pF, sE, aN, lA, dM, bF, bN, rE, cH, dE, qU, lO, oR, oP, nF, cO, iL, rP) v') (tH, kD, sZ, fD, rT, fA, lI) (nI w) (nI o) v3 := by
            refine toY _ fun fA lI hl => ?_
            unfold wY_way_29
            exact br_c (fun _ => ⟨rfl, rl_in C⟩) (fun _ => br_t h ⟨rfl, rl_in C⟩)
          refine br_c (fun _ => fin) (fun _ => ⟨vp_in_nI ho (by omega), ?_⟩)
          rw [nI_clamp (by omega), hd o ho]
          exact br_f (Int32.not_lt.mpr h) fin
        · refine br_f (nI_pos (by omega)) ⟨vp_in_nI ho (by omega), ?_⟩
          rw [nI_clamp (by omega), hd o ho]
          refine br_t (nI_lt hi (by omega)) (x_markWays hw (C.2.1 w hw) hD hd ho hz fun mk oP hm hmk => ⟨25, ?_⟩)
          refine x_w53 (D := dp o - 1) hw (C.2.1 w hw) hD hd ho (by omega) (by omega) hm hmk (fun x hx => ?_) 24 25 (-1) (by omega) (by omega) (Or.inl ⟨rfl, fun p a b => by omega⟩)
          refine toY _ fun fA lI hl => ?_
          unfold wY_way_29
          refine br_f (nI_pos (by omega)) (br_f (nI_ge hi (by omega)) ⟨vp_in_nI (by omega) (by omega), ?_, rl_in C⟩)
          rw [nI_clamp (by omega)]
          obtain ⟨y, y1, y2⟩ := hl i (by omega)
          rw [y1, wy_uniq y2 hx]
      · unfold wpY_way
        refine y_place1 hw (br_f (by decide) (y_isAlive hw ho (rl_okY C hw) (fun z => ?_) (fun _ => br_t rfl (none _ ⟨rfl, rl_in C⟩))))
        rw [eA] at z
        exact absurd hz (hA.2 z)
section
variable {fM fO fC fX fP : Int32} {tH kD sZ rF rT nU oB pA pI pF sE aN lA dM bF bN rE cH dE qU lO oR oP nF cO iL rP : Nat → Int32} {fD fA lI : Nat → Int32}
theorem x_ho33 {post : Int32 → SX → Prop} {w m o : Nat} {obj : Nat → Nat} {g : Nat → Int32} (hw : w < 3) (ho24 : o < 24) (hm5 : m ≤ 25) (hm1 : 1 ≤ m) (ho : ∀ k, 1 ≤ k → k < m → obj k < 24 ∧ oB k = nI (obj k))
    (g1 : ∀ a, a ≠ o ∧ (∃ i, i < 4 ∧ gf_f rF w a i = nI o) → g a = 1) (g0 : ∀ a, ¬ (a ≠ o ∧ (∃ i, i < 4 ∧ gf_f rF w a i = nI o)) → g a = 0)
    (K : post (si_s (fun j => g (obj (j + 1))) (m - 1)) ((nI m), fO, fC, fX, fP, tH, kD, sZ, rF, rT, nU, oB, pA, pI, pF, sE, aN, lA, dM, bF, bN, rE, cH, dE, qU, lO, oR, oP, nF, cO, iL, rP)) :
    ∀ (n j : Nat), m ≤ n + j → j + 1 ≤ m → wX_holders_33 post (nI w) (nI o) (nI m) fO fC fX fP tH kD sZ rF rT nU oB pA pI pF sE aN lA dM bF bN rE cH dE qU lO oR oP nF cO iL rP n (si_s (fun j => g (obj (j + 1))) j) (nI (j + 1)) := by
  intro n
  induction n with
  | zero => intro j h1 h2; omega
  | succ n ih =>
    intro j h1 h2
    rw [wX_holders_33]
    by_cases c : j + 1 = m
    · have : m - 1 = j := by omega
      rw [this] at K
      rw [c]
      exact br_t (nI_le (Nat.le_refl m) (by omega)) K
    · obtain ⟨o1, o2⟩ := ho (j + 1) (by omega) (by omega)
      have st : si_s (fun j => g (obj (j + 1))) (j + 1) = si_s (fun j => g (obj (j + 1))) j + g (obj (j + 1)) := rfl
      have nx := ih (j + 1) (by omega) (by omega)
      rw [st] at nx
      have no : ¬ (obj (j + 1) ≠ o ∧ (∃ i, i < 4 ∧ gf_f rF w (obj (j + 1)) i = nI o)) → wX_holders_73 post (wX_holders_33 post (nI w) (nI o) (nI m) fO fC fX fP tH kD sZ rF rT nU oB pA pI pF sE aN lA dM bF bN rE cH dE qU lO oR oP nF cO iL rP n) (nI w) (nI o) (si_s (fun j => g (obj (j + 1))) j) (nI (j + 1)) (nI m) fO fC fX fP tH kD sZ rF rT nU oB pA pI pF sE aN lA dM bF bN rE cH dE qU lO oR oP nF cO iL rP := by
        intro z
        rw [g0 _ z, Int32.add_zero] at nx
        unfold wX_holders_73 wX_holders_74
        exact br_t rfl (nm_r (nI_1 (j + 1)) nx)
      have vj : vp_in (nI (j + 1)) 25 := vp_in_nI (by omega) (by omega)
      refine br_f (nI_ge (by omega) (by omega)) ⟨vj, ?_⟩
      rw [nI_clamp (show j + 1 < 2 ^ 31 by omega), o2]
      refine pk_eq (obj (j + 1)) o (fun q => no fun z => z.1 q) (fun q => ⟨vj, x_refersTo hw o1 (fun z => br_f (by decide) ?_) (fun z => br_t rfl (no fun y => z y.2))⟩)
      rw [g1 _ ⟨q, z⟩] at nx
      unfold wX_holders_74
      exact br_f (by decide) (nm_e (nm_r (nI_1 (j + 1)) nx))
theorem y_hold3 {post : Int32 → Prop} {w a : Nat} {x : Int32} (hw : w < 3) (ha : a < 24) (k1 : (∃ i, i < 4 ∧ gf_f fD w a i = x) → post 1) (k0 : ¬ (∃ i, i < 4 ∧ gf_f fD w a i = x) → post 0) :
    ∀ (n i : Nat), 4 < n + i → i ≤ 4 → (∀ j, j < i → ¬ gf_f fD w a j = x) → wY_holds_3 post (nI w) (nI a) x tH kD sZ fD rT fA lI n (nI i) := by
  intro n
  induction n with
  | zero => intro i h1 h2; omega
  | succ n ih =>
    intro i h1 h2 h3
    rw [wY_holds_3]
    by_cases c : i = 4
    · subst c
      exact br_t (nI_le (a := 4) (b := 4) (by omega) (by omega)) (k0 fun ⟨j, j1, j2⟩ => h3 j j1 j2)
    · refine br_f (nI_ge (b := 4) (by omega) (by omega)) ?_
      rw [ix_3, nI_clamp (by omega)]
      refine ⟨vp_in_nI (by omega) (by omega), br_c (fun g => k1 ⟨i, by omega, g⟩) (fun g => nm_r (nI_1 i) (ih (i + 1) (by omega) (by omega) fun j hj => ?_))⟩
      by_cases d : j = i
      · subst d; exact g
      · exact h3 j (by omega)
theorem y_ho27 {post : Int32 → Prop} {w o : Nat} {g : Nat → Int32} (hw : w < 3) (ho24 : o < 24) (C : Rl_c tH rF rT fD)
    (g1 : ∀ a, a ≠ o ∧ (∃ i, i < 4 ∧ gf_f rF w a i = nI o) → g a = 1) (g0 : ∀ a, ¬ (a ≠ o ∧ (∃ i, i < 4 ∧ gf_f rF w a i = nI o)) → g a = 0) (K : post (si_s (fun a => pc_v (gA tH rF rT w a) (g a)) 24)) :
    ∀ (n i : Nat), 24 < n + i → i ≤ 24 → wY_holders_27 post (nI w) (nI o) tH kD sZ fD rT fA lI n (si_s (fun a => pc_v (gA tH rF rT w a) (g a)) i) (nI i) := by
  intro n
  induction n with
  | zero => intro i h1 h2; omega
  | succ n ih =>
    intro i h1 h2
    rw [wY_holders_27]
    by_cases c : i = 24
    · subst c
      exact br_t (nI_le (a := 24) (b := 24) (by omega) (by omega)) K
    · have st : si_s (fun a => pc_v (gA tH rF rT w a) (g a)) (i + 1) = si_s (fun a => pc_v (gA tH rF rT w a) (g a)) i + pc_v (gA tH rF rT w i) (g i) := rfl
      have nx := ih (i + 1) (by omega) (by omega)
      rw [st] at nx
      have no : pc_v (gA tH rF rT w i) (g i) = 0 → wY_holders_27 post (nI w) (nI o) tH kD sZ fD rT fA lI n (si_s (fun a => pc_v (gA tH rF rT w a) (g a)) i) (nI (i + 1)) := fun e => by
        rw [e, Int32.add_zero] at nx; exact nx
      have z0 : g i = 0 → pc_v (gA tH rF rT w i) (g i) = 0 := fun e => by
        by_cases q : gA tH rF rT w i
        · rw [pc_t q, e]
        · rw [pc_n q]
      refine br_f (nI_ge (b := 24) (by omega) (by omega)) (pk_eq i o (fun q => nm_r (nI_1 i) (no (z0 (g0 i fun z => z.1 q)))) (fun q => ?_))
      refine y_isAlive hw (by omega) (rl_okY C hw) (fun hA => br_f (by decide) ?_) (fun hA => br_t rfl (nm_r (nI_1 i) (no (pc_n (by rw [← rl_A C hw]; exact hA)))))
      rw [rl_A C hw] at hA
      have hT := (gA_T (C.2.1 w hw) hA).2
      have ef : (∃ j, j < 4 ∧ gf_f fD w i j = nI o) ↔ (∃ j, j < 4 ∧ gf_f rF w i j = nI o) :=
        ⟨fun ⟨j, a, b⟩ => ⟨j, a, by rw [← C.2.2.1 w i j hw (by omega) hT a]; exact b⟩, fun ⟨j, a, b⟩ => ⟨j, a, by rw [C.2.2.1 w i j hw (by omega) hT a]; exact b⟩⟩
      unfold wpY_holds
      refine ⟨5, y_hold3 hw (by omega) (fun z => br_f (by decide) ?_) (fun z => br_t rfl (nm_r (nI_1 i) (no (z0 (g0 i fun y => z (ef.2 y.2)))))) 5 0 (by omega) (by omega) (fun j hj => by omega)⟩
      rw [pc_t hA, g1 i ⟨q, ef.1 z⟩] at nx
      exact nm_e (nm_r (nI_1 i) nx)
end
theorem i_vc_holders {k : Nat} {u : SX} {v : SY} (I : i_Rel k u v) (hk : k + 4 ≤ 2048) (v1 : Int32) (v2 : Int32) : wpX_holders (fun r u' => wpY_holders (fun r' => r' = r ∧ i_Rel (k + 4) u' v) v v1 v2) u v1 v2 := by
  refine rl_el (P := fun u v => wpX_holders (fun r u' => wpY_holders (fun r' => r' = r ∧ i_Rel (k + 4) u' v) v v1 v2) u v1 v2) ?_ I
  intro fM fO fC fX fP tH kD sZ rF rT nU oB pA pI pF sE aN lA dM bF bN rE cH dE qU lO oR oP nF cO iL rP fD fA lI C
  unfold wpX_holders
  rcases pk_ix v1 (n := 3) (by omega) with h | h | ⟨w, hw, rfl⟩
  · refine x_badPlace1 (Or.inl h) (br_f (by decide) ?_)
    unfold wpY_holders
    exact y_place0 (Or.inl h) (br_t rfl ⟨rfl, rl_in C⟩)
  · refine x_badPlace1 (Or.inr h) (br_f (by decide) ?_)
    unfold wpY_holders
    exact y_place0 (Or.inr h) (br_t rfl ⟨rfl, rl_in C⟩)
  · refine x_badPlace0 hw (br_t rfl (xs_search hw (C.2.1 w hw) fun m nU oB pA pI pF num obj par hr hd => ?_))
    rcases pk_ix v2 (n := 24) (by omega) with h | h | ⟨o, ho, rfl⟩
    · refine x_isAlive0 (Or.inl h) (br_t rfl ?_)
      unfold wpY_holders
      exact y_place1 hw (br_f (by decide) (y_isAlive0 (Or.inl h) (br_t rfl ⟨rfl, rl_in C⟩)))
    · refine x_isAlive0 (Or.inr h) (br_t rfl ?_)
      unfold wpY_holders
      exact y_place1 hw (br_f (by decide) (y_isAlive0 (Or.inr h) (br_t rfl ⟨rfl, rl_in C⟩)))
    · have hA := df_A hd ho
      have eA := rl_A C hw
      refine x_isAlive ho hr.1 (hd.1.2.2 o ho).1 (df_m25 hd.1) (fun hz => br_f (by decide) ⟨m, ?_⟩) (fun hz => br_t rfl ?_)
      · have g1 : ∀ a, a ≠ o ∧ (∃ i, i < 4 ∧ gf_f rF w a i = nI o) → pc_v (a ≠ o ∧ (∃ i, i < 4 ∧ gf_f rF w a i = nI o)) 1 = 1 := fun a h => pc_t h
        have g0 : ∀ a, ¬ (a ≠ o ∧ (∃ i, i < 4 ∧ gf_f rF w a i = nI o)) → pc_v (a ≠ o ∧ (∃ i, i < 4 ∧ gf_f rF w a i = nI o)) 1 = 0 := fun a h => pc_n h
        refine x_ho33 (g := fun a => pc_v (a ≠ o ∧ (∃ i, i < 4 ∧ gf_f rF w a i = nI o)) 1) hw ho (df_m25 hd.1) hd.1.1 (fun k a b => ⟨(hd.1.2.1 k a b).1, hr.2.1 k a b⟩) g1 g0 ?_ m 0 (by omega) hd.1.1
        rw [df_sum hd.1 (fun a => pc_v (a ≠ o ∧ (∃ i, i < 4 ∧ gf_f rF w a i = nI o)) 1)]
        unfold wpY_holders
        refine y_place1 hw (br_f (by decide) (y_isAlive hw ho (rl_okY C hw) (fun _ => br_f (by decide) ⟨25, ?_⟩) (fun z => absurd (hA.1 hz) (by rw [← eA]; exact z))))
        refine y_ho27 (rF := rF) (g := fun a => pc_v (a ≠ o ∧ (∃ i, i < 4 ∧ gf_f rF w a i = nI o)) 1) hw ho C g1 g0 ⟨?_, rl_in C⟩ 25 0 (by omega) (by omega)
        refine si_congr fun a ha => ?_
        by_cases c : num a ≠ 0
        · rw [if_pos c, pc_t ((df_A hd ha).1 c)]
        · rw [if_neg c, pc_n fun z => c ((df_A hd ha).2 z)]
      · unfold wpY_holders
        refine y_place1 hw (br_f (by decide) (y_isAlive hw ho (rl_okY C hw) (fun z => ?_) (fun _ => br_t rfl ⟨rfl, rl_in C⟩)))
        rw [eA] at z
        exact absurd hz (hA.2 z)
end
section
/-! dominator, retained, heaviest -/
/-- how many an object keeps -/
noncomputable def kc_C (tH rF rT : Nat → Int32) (w a : Nat) : Nat := nn_c (fun x => pc_b (gK tH rF rT w a x)) 24
theorem kc_s {tH rF rT : Nat → Int32} {w a : Nat} {s : Int32} (hs : ys_S s (gK tH rF rT w a)) : nn_c (bt s) 24 = kc_C tH rF rT w a := ys_cnt hs fun _ _ => pb_iff
/-- what dominates o properly -/
def Qd_d (tH rF rT : Nat → Int32) (w o a : Nat) : Prop := a < 24 ∧ a ≠ o ∧ gA tH rF rT w a ∧ gK tH rF rT w a o
section
variable {fM fO fC fX fP : Int32} {tH kD sZ rF rT nU oB pA pI pF sE aN lA dM bF bN rE cH dE qU lO oR oP nF cO iL rP : Nat → Int32} {fD fA lI : Nat → Int32}
theorem y_dom31 {post : Int32 → Prop} {w o : Nat} (hw : w < 3) (ho : o < 24) (C : Rl_c tH rF rT fD) (K0 : (∀ a, ¬ Qd_d tH rF rT w o a) → post (-1)) (K1 : ∀ b, Qd_d tH rF rT w o b → (∀ a, Qd_d tH rF rT w o a → kc_C tH rF rT w b ≤ kc_C tH rF rT w a) → post (nI b)) :
    ∀ (n i y : Nat) (x : Int32), 24 < n + i → i ≤ 24 → ((x = -1 ∧ y = 25 ∧ ∀ a, a < i → ¬ Qd_d tH rF rT w o a) ∨ ∃ b, x = nI b ∧ y = kc_C tH rF rT w b ∧ Qd_d tH rF rT w o b ∧ ∀ a, a < i → Qd_d tH rF rT w o a → kc_C tH rF rT w b ≤ kc_C tH rF rT w a) →
      wY_dominator_31 post (nI w) (nI o) tH kD sZ fD rT fA lI n x (nI y) (nI i) := by
  intro n
  induction n with
  | zero => intro i y x h1 h2; omega
  | succ n ih =>
    intro i y x h1 h2 hx
    have hy : y ≤ 25 := by
      rcases hx with ⟨_, h, _⟩ | ⟨b, _, h, _⟩
      · omega
      · rw [h]; have := nn_c_le (fun x => pc_b (gK tH rF rT w b x)) 24; unfold kc_C; omega
    rw [wY_dominator_31]
    by_cases c : i = 24
    · subst c
      refine br_t (nI_le (a := 24) (b := 24) (by omega) (by omega)) ?_
      rcases hx with ⟨rfl, _, h⟩ | ⟨b, rfl, _, h, h'⟩
      · exact K0 fun a ha => h a ha.1 ha
      · exact K1 b h fun a ha => h' a ha.1 ha
    · refine br_f (nI_ge (b := 24) (by omega) (by omega)) ?_
      have skip : (Qd_d tH rF rT w o i → y ≤ kc_C tH rF rT w i) → wY_dominator_31 post (nI w) (nI o) tH kD sZ fD rT fA lI n x (nI y) (nI (i + 1)) := by
        intro g
        refine ih (i + 1) y x (by omega) (by omega) ?_
        rcases hx with ⟨e1, e2, h⟩ | ⟨b, e1, e2, h, h'⟩
        · refine Or.inl ⟨e1, e2, fun a ha hq => ?_⟩
          by_cases d : a = i
          · subst d
            have := g hq
            have := nn_c_le (fun x => pc_b (gK tH rF rT w a x)) 24
            unfold kc_C at *
            omega
          · exact h a (by omega) hq
        · refine Or.inr ⟨b, e1, e2, h, fun a ha hq => ?_⟩
          by_cases d : a = i
          · subst d; rw [← e2]; exact g hq
          · exact h' a (by omega) hq
      have take : Qd_d tH rF rT w o i → kc_C tH rF rT w i < y → wY_dominator_31 post (nI w) (nI o) tH kD sZ fD rT fA lI n (nI i) (nI (kc_C tH rF rT w i)) (nI (i + 1)) := by
        intro g g'
        refine ih (i + 1) _ _ (by omega) (by omega) (Or.inr ⟨i, rfl, rfl, g, fun a ha hq => ?_⟩)
        by_cases d : a = i
        · subst d; exact Nat.le_refl _
        · rcases hx with ⟨_, _, h⟩ | ⟨b, _, e2, h, h'⟩
          · exact absurd hq (h a (by omega))
          · have := h' a (by omega) hq; omega
      refine y_isAlive hw (by omega) (rl_okY C hw) (fun hA => br_f (by decide) ?_) (fun hA => br_t rfl ?_)
      · rw [rl_A C hw] at hA
        refine y_kept hw (by omega) (rl_okY C hw) fun s hs => ?_
        rw [rl_K C hw] at hs
        unfold wY_dominator_59
        refine y_bits ?_
        rw [kc_s hs]
        have hk : kc_C tH rF rT w i ≤ 24 := nn_c_le _ 24
        refine pk_eq i o (fun q => nm_r (nI_1 i) (skip fun z => absurd q z.2.1)) (fun q => br_c (fun z => ?_) (fun z => nm_r (nI_1 i) (skip fun y' => ?_)))
        · rw [yb_is (by omega)] at z
          have hq : Qd_d tH rF rT w o i := ⟨by omega, q, hA, ((hs o).1 z).2⟩
          exact pk_le y (kc_C tH rF rT w i) (fun g => nm_r (nI_1 i) (skip fun _ => g)) (fun g => nm_r (nI_1 i) (take hq g))
        · rw [yb_is (by omega)] at z
          exact absurd ((hs o).2 ⟨ho, y'.2.2.2⟩) z
      · rw [rl_A C hw] at hA
        unfold wY_dominator_59
        refine y_bits (pk_eq i o (fun q => nm_r (nI_1 i) (skip fun z => absurd q z.2.1)) (fun q => br_f (fun z => ?_) (nm_r (nI_1 i) (skip fun z => absurd z.2.2.1 hA))))
        rw [yb_is (by omega), b_0] at z
        exact nomatch z
end
/-- the immediate dominator is the proper dominator that keeps least -/
theorem id_uniq {tH kD rF rT : Nat → Int32} {w m o : Nat} {num obj par dd : Nat → Nat} (hd : df_out (gt_r rT w) (gf_f rF w) (gT tH w) (gW kD w (-1)) m num obj par) (ho : o < 24) (hz : num o ≠ 0)
    (hI : ∀ x, 1 ≤ x → x < m → Id_m (ne_e (gt_r rT w) (gf_f rF w) m obj) x (dd x)) :
    (dd (num o) = 0 → ∀ a, ¬ Qd_d tH rF rT w o a) ∧ (dd (num o) ≠ 0 → ∀ b, Qd_d tH rF rT w o b → (∀ a, Qd_d tH rF rT w o a → kc_C tH rF rT w b ≤ kc_C tH rF rT w a) → b = obj (dd (num o))) := by
  obtain ⟨v1, v2⟩ := hd.1.2.2 o ho
  have hvo := v2 hz
  obtain ⟨i1, i2, i3⟩ := hI (num o) (by omega) v1
  have t := df_tr hd.2.1
  -- by numbers
  have qn : ∀ a, Qd_d tH rF rT w o a → 1 ≤ num a ∧ num a < m ∧ obj (num a) = a ∧ num a ≠ num o ∧ ¬ Ra_z (ne_e (gt_r rT w) (gf_f rF w) m obj) (num a) (num o) := by
    rintro a ⟨a1, a2, a3, a4⟩
    have an := (df_A hd a1).2 a3
    obtain ⟨k1, k2⟩ := hd.1.2.2 a a1
    refine ⟨by omega, k1, k2 an, fun e => a2 ?_, fun h => a4.2 ?_⟩
    · rw [← k2 an, e, hvo]
    · have := (nb_iff gW_m1 hd (by omega) k1 (by omega) v1).1 h
      rw [hvo, k2 an] at this
      exact this
  refine ⟨fun e a ha => ?_, fun e b hb hmin => ?_⟩
  · obtain ⟨q1, q2, q3, q4, q5⟩ := qn a ha
    have := (i3 (num a) q1 q4 q5).1
    omega
  · have hd1 : 1 ≤ dd (num o) := by omega
    have hdm : dd (num o) < m := by omega
    obtain ⟨o1, o2, o3, o4⟩ := hd.1.2.1 (dd (num o)) hd1 hdm
    have nr := i2 hd1
    have hQ : Qd_d tH rF rT w o (obj (dd (num o))) := by
      have gAo : gA tH rF rT w o := (df_A hd ho).1 hz
      refine ⟨o1, fun z => ?_, (df_A hd o1).1 (by omega), gAo, fun h => nr ?_⟩
      · rw [z] at o2; omega
      · refine (nb_iff gW_m1 hd hd1 hdm (by omega) v1).2 ?_
        rw [hvo]
        exact h
    refine Classical.byContradiction fun hne => ?_
    obtain ⟨q1, q2, q3, q4, q5⟩ := qn b hb
    have hnd : num b ≠ dd (num o) := fun z => hne (by rw [← z, q3])
    have hbd := (i3 (num b) q1 q4 q5).2
    have hlt : kc_C tH rF rT w (obj (dd (num o))) < kc_C tH rF rT w b := by
      refine nn_c_lt (j := b) (pb_f fun h => ?_) (pb_iff.2 ⟨hb.2.2.1, fun h => rc_notW h rfl⟩) (fun x hx h => ?_) hb.1
      · have : ¬ Ra_z (ne_e (gt_r rT w) (gf_f rF w) m obj) (dd (num o)) (num b) := fun g => h.2 (by
          have := (nb_iff gW_m1 hd hd1 hdm q1 q2).1 g
          rw [q3] at this
          exact this)
        have a1 := an_le t.1 q2 (sd_an t q1 q2 this)
        have a2 := an_le t.1 hdm (sd_an t hd1 hdm hbd)
        omega
      · obtain ⟨x1, x2⟩ := pb_iff.1 h
        refine pb_iff.2 ⟨x1, fun g => ?_⟩
        have xn := (df_A hd hx).2 x1
        obtain ⟨k1, k2⟩ := hd.1.2.2 x hx
        have c1 : ¬ Ra_z (ne_e (gt_r rT w) (gf_f rF w) m obj) (dd (num o)) (num x) := fun g => x2 (by
          have := (nb_iff gW_m1 hd hd1 hdm (by omega) k1).1 g
          rw [k2 xn] at this
          exact this)
        refine sd_trans c1 hbd ((nb_iff gW_m1 hd q1 q2 (by omega) k1).2 ?_)
        rw [k2 xn, q3]
        exact g
    have := hmin _ hQ
    omega
theorem i_vc_dominator {k : Nat} {u : SX} {v : SY} (I : i_Rel k u v) (hk : k + 4 ≤ 2048) (v1 : Int32) (v2 : Int32) : wpX_dominator (fun r u' => wpY_dominator (fun r' => r' = r ∧ i_Rel (k + 4) u' v) v v1 v2) u v1 v2 := by
  refine rl_el (P := fun u v => wpX_dominator (fun r u' => wpY_dominator (fun r' => r' = r ∧ i_Rel (k + 4) u' v) v v1 v2) u v1 v2) ?_ I
  intro fM fO fC fX fP tH kD sZ rF rT nU oB pA pI pF sE aN lA dM bF bN rE cH dE qU lO oR oP nF cO iL rP fD fA lI C
  unfold wpX_dominator
  rcases pk_ix v1 (n := 3) (by omega) with h | h | ⟨w, hw, rfl⟩
  · refine x_badPlace1 (Or.inl h) (br_f (by decide) ?_)
    unfold wpY_dominator
    exact y_place0 (Or.inl h) (br_t rfl ⟨rfl, rl_in C⟩)
  · refine x_badPlace1 (Or.inr h) (br_f (by decide) ?_)
    unfold wpY_dominator
    exact y_place0 (Or.inr h) (br_t rfl ⟨rfl, rl_in C⟩)
  · refine x_badPlace0 hw (br_t rfl (x_findDom hw (C.2.1 w hw) fun m nU oB pA pI pF sE aN lA cH bF bN dM num obj par dd hr hd h0 h1 h2 => ?_))
    have hm := df_m25 hd.1
    rcases pk_ix v2 (n := 24) (by omega) with h | h | ⟨o, ho, rfl⟩
    · refine x_isAlive0 (Or.inl h) (br_t rfl ?_)
      unfold wpY_dominator
      exact y_place1 hw (br_f (by decide) (y_isAlive0 (Or.inl h) (br_t rfl ⟨rfl, rl_in C⟩)))
    · refine x_isAlive0 (Or.inr h) (br_t rfl ?_)
      unfold wpY_dominator
      exact y_place1 hw (br_f (by decide) (y_isAlive0 (Or.inr h) (br_t rfl ⟨rfl, rl_in C⟩)))
    · have hA := df_A hd ho
      have eA := rl_A C hw
      obtain ⟨n1, n2⟩ := hd.1.2.2 o ho
      refine x_isAlive ho hr.1 n1 hm (fun hz => br_f (by decide) ⟨vp_in_nI ho (by omega), ?_⟩) (fun hz => br_t rfl ?_)
      · rw [nI_clamp (show o < 2 ^ 31 by omega), hr.1 o ho, nI_clamp (show num o < 2 ^ 31 by omega), h1 (num o) n1]
        have hlt := (h2 (num o) (by omega) n1).1
        obtain ⟨u1, u2⟩ := id_uniq (dd := dd) hd ho hz h2
        have toY : ∀ (Q : Int32 → Prop), ((∀ a, ¬ Qd_d tH rF rT w o a) → Q (-1)) → (∀ b, Qd_d tH rF rT w o b → (∀ a, Qd_d tH rF rT w o a → kc_C tH rF rT w b ≤ kc_C tH rF rT w a) → Q (nI b)) → wpY_dominator Q (tH, kD, sZ, fD, rT, fA, lI) (nI w) (nI o) := by
          intro Q q0 q1
          unfold wpY_dominator
          refine y_place1 hw (br_f (by decide) (y_isAlive hw ho (rl_okY C hw) (fun _ => br_f (by decide) ⟨25, ?_⟩) (fun z => absurd (hA.1 hz) (by rw [← eA]; exact z))))
          exact y_dom31 hw ho C q0 q1 25 0 25 (-1) (by omega) (by omega) (Or.inl ⟨rfl, rfl, fun a ha => by omega⟩)
        refine ⟨vp_in_nI (by omega) (by omega), nm_e (pk_eq (dd (num o)) 0 (fun e => ?_) (fun e => ⟨vp_in_nI (by omega) (by omega), ?_⟩))⟩
        · exact toY _ (fun _ => ⟨rfl, rl_in C⟩) (fun b hb _ => absurd hb (u1 e b))
        · rw [nI_clamp (show dd (num o) < 2 ^ 31 by omega), hr.2.1 (dd (num o)) (by omega) (by omega)]
          refine toY _ (fun hno => ?_) (fun b hb hmin => ⟨by rw [u2 e b hb hmin], rl_in C⟩)
          exfalso
          -- the immediate dominator is one
          obtain ⟨o1, o2, o3, o4⟩ := hd.1.2.1 (dd (num o)) (by omega) (by omega)
          refine hno (obj (dd (num o))) ⟨o1, fun z => ?_, (df_A hd o1).1 (by omega), hA.1 hz, fun h => (h2 (num o) (by omega) n1).2.1 (by omega) ?_⟩
          · rw [z] at o2; omega
          · refine (nb_iff gW_m1 hd (by omega) (by omega) (by omega) n1).2 ?_
            rw [n2 hz]
            exact h
      · unfold wpY_dominator
        refine y_place1 hw (br_f (by decide) (y_isAlive hw ho (rl_okY C hw) (fun z => ?_) (fun _ => br_t rfl ⟨rfl, rl_in C⟩)))
        rw [eA] at z
        exact absurd hz (hA.2 z)
theorem i_vc_retained {k : Nat} {u : SX} {v : SY} (I : i_Rel k u v) (hk : k + 4 ≤ 2048) (v1 : Int32) (v2 : Int32) : wpX_retained (fun r u' => wpY_retained (fun r' => r' = r ∧ i_Rel (k + 4) u' v) v v1 v2) u v1 v2 := by
  refine rl_el (P := fun u v => wpX_retained (fun r u' => wpY_retained (fun r' => r' = r ∧ i_Rel (k + 4) u' v) v v1 v2) u v1 v2) ?_ I
  intro fM fO fC fX fP tH kD sZ rF rT nU oB pA pI pF sE aN lA dM bF bN rE cH dE qU lO oR oP nF cO iL rP fD fA lI C
  unfold wpX_retained
  rcases pk_ix v1 (n := 3) (by omega) with h | h | ⟨w, hw, rfl⟩
  · refine x_badPlace1 (Or.inl h) (br_f (by decide) ?_)
    unfold wpY_retained
    exact y_place0 (Or.inl h) (br_t rfl ⟨rfl, rl_in C⟩)
  · refine x_badPlace1 (Or.inr h) (br_f (by decide) ?_)
    unfold wpY_retained
    exact y_place0 (Or.inr h) (br_t rfl ⟨rfl, rl_in C⟩)
  · refine x_badPlace0 hw (br_t rfl (x_findRet hw (C.2.1 w hw) fun m nU oB pA pI pF sE aN lA cH bF bN dM rE num obj par hr hd hR => ?_))
    have hm := df_m25 hd.1
    rcases pk_ix v2 (n := 24) (by omega) with h | h | ⟨o, ho, rfl⟩
    · refine x_isAlive0 (Or.inl h) (br_t rfl ?_)
      unfold wpY_retained
      exact y_place1 hw (br_f (by decide) (y_isAlive0 (Or.inl h) (br_t rfl ⟨rfl, rl_in C⟩)))
    · refine x_isAlive0 (Or.inr h) (br_t rfl ?_)
      unfold wpY_retained
      exact y_place1 hw (br_f (by decide) (y_isAlive0 (Or.inr h) (br_t rfl ⟨rfl, rl_in C⟩)))
    · have hA := df_A hd ho
      have eA := rl_A C hw
      obtain ⟨n1, n2⟩ := hd.1.2.2 o ho
      refine x_isAlive ho hr.1 n1 hm (fun hz => br_f (by decide) ⟨vp_in_nI ho (by omega), ?_⟩) (fun hz => br_t rfl ?_)
      · rw [nI_clamp (show o < 2 ^ 31 by omega), hr.1 o ho, nI_clamp (show num o < 2 ^ 31 by omega), hR o ho hz]
        refine ⟨vp_in_nI (by omega) (by omega), ?_⟩
        unfold wpY_retained
        refine y_place1 hw (br_f (by decide) (y_isAlive hw ho (rl_okY C hw) (fun _ => br_f (by decide) (y_kept hw ho (rl_okY C hw) fun s hs => y_sum hw ⟨?_, rl_in C⟩)) (fun z => absurd (hA.1 hz) (by rw [← eA]; exact z))))
        rw [rl_K C hw] at hs
        exact ys_sumP hs
      · unfold wpY_retained
        refine y_place1 hw (br_f (by decide) (y_isAlive hw ho (rl_okY C hw) (fun z => ?_) (fun _ => br_t rfl ⟨rfl, rl_in C⟩)))
        rw [eA] at z
        exact absurd hz (hA.2 z)
/-- the heaviest so far -/
noncomputable def he_W (H : Nat → Int32) : Nat → Int32 × Int32
  | 0 => (-3, 0)
  | i + 1 => @ite _ (H i ≤ (he_W H i).2) (Classical.propDecidable _) (he_W H i) (nI i, H i)
theorem he_t {H : Nat → Int32} {i : Nat} (h : H i ≤ (he_W H i).2) : he_W H (i + 1) = he_W H i := by
  rw [he_W]; exact if_pos h
theorem he_n {H : Nat → Int32} {i : Nat} (h : ¬ H i ≤ (he_W H i).2) : he_W H (i + 1) = (nI i, H i) := by
  rw [he_W]; exact if_neg h
section
variable {fM fO fC fX fP : Int32} {tH kD sZ rF rT nU oB pA pI pF sE aN lA dM bF bN rE cH dE qU lO oR oP nF cO iL rP : Nat → Int32} {fD fA lI : Nat → Int32}
theorem x_he23 {post : Int32 → SX → Prop} {m : Nat} {num : Nat → Nat} {H : Nat → Int32} (hn : rp_a nU num 24) (hm : ∀ x, x < 24 → num x < m) (hm5 : m ≤ 25) (h1 : ∀ o, o < 24 → num o ≠ 0 → rE (num o) = H o) (h0 : ∀ o, o < 24 → num o = 0 → H o = 0) (K : post (he_W H 24).1 (fM, fO, fC, fX, fP, tH, kD, sZ, rF, rT, nU, oB, pA, pI, pF, sE, aN, lA, dM, bF, bN, rE, cH, dE, qU, lO, oR, oP, nF, cO, iL, rP)) :
    ∀ (n i : Nat), 24 < n + i → i ≤ 24 → wX_heaviest_23 post fM fO fC fX fP tH kD sZ rF rT nU oB pA pI pF sE aN lA dM bF bN rE cH dE qU lO oR oP nF cO iL rP n (he_W H i).1 (he_W H i).2 (nI i) := by
  intro n
  induction n with
  | zero => intro i a b; omega
  | succ n ih =>
    intro i a b
    rw [wX_heaviest_23]
    by_cases c : i = 24
    · subst c
      exact br_t (nI_le (a := 24) (b := 24) (by omega) (by omega)) K
    · have hmi := hm i (by omega)
      have nx := ih (i + 1) (by omega) (by omega)
      have go : wX_heaviest_56 post (wX_heaviest_23 post fM fO fC fX fP tH kD sZ rF rT nU oB pA pI pF sE aN lA dM bF bN rE cH dE qU lO oR oP nF cO iL rP n) (he_W H i).1 (he_W H i).2 (nI i) (H i) fM fO fC fX fP tH kD sZ rF rT nU oB pA pI pF sE aN lA dM bF bN rE cH dE qU lO oR oP nF cO iL rP := by
        unfold wX_heaviest_56
        refine br_c (fun g => ?_) (fun g => ?_)
        · rw [he_t g] at nx
          unfold wX_heaviest_70
          exact br_t g (nm_r (nI_1 i) nx)
        · rw [he_n g] at nx
          unfold wX_heaviest_70
          exact br_f g (nm_r (nI_1 i) nx)
      refine br_f (nI_ge (b := 24) (by omega) (by omega)) ⟨vp_in_nI (by omega) (by omega), ?_⟩
      rw [nI_clamp (show i < 2 ^ 31 by omega), hn i (by omega)]
      refine pk_le (num i) 0 (fun g => ?_) (fun g => ⟨vp_in_nI (by omega) (by omega), vp_in_nI (by omega) (by omega), ?_⟩)
      · rw [h0 i (by omega) (by omega)] at go; exact go
      · rw [nI_clamp (show num i < 2 ^ 31 by omega), h1 i (by omega) (by omega)]; exact go
theorem y_he18 {post : Int32 → Prop} {w : Nat} {H : Nat → Int32} (hw : w < 3) (C : Rl_c tH rF rT fD) (hH : H = fun o => pc_v (gA tH rF rT w o) (si_s (fun x => pc_v (gK tH rF rT w o x) (sZ (24 * w + x))) 24)) (K : post (he_W H 24).1) :
    ∀ (n i : Nat), 24 < n + i → i ≤ 24 → wY_heaviest_18 post (nI w) tH kD sZ fD rT fA lI n (he_W H i).1 (he_W H i).2 (nI i) := by
  intro n
  induction n with
  | zero => intro i a b; omega
  | succ n ih =>
    intro i a b
    rw [wY_heaviest_18]
    by_cases c : i = 24
    · subst c
      exact br_t (nI_le (a := 24) (b := 24) (by omega) (by omega)) K
    · have nx := ih (i + 1) (by omega) (by omega)
      have go : wY_heaviest_51 post (wY_heaviest_18 post (nI w) tH kD sZ fD rT fA lI n) (nI w) (he_W H i).1 (he_W H i).2 (nI i) (H i) tH kD sZ fD rT fA lI := by
        unfold wY_heaviest_51
        refine br_c (fun g => ?_) (fun g => ?_)
        · rw [he_t g] at nx
          exact nm_r (nI_1 i) nx
        · rw [he_n g] at nx
          exact nm_r (nI_1 i) nx
      have eH : H i = pc_v (gA tH rF rT w i) (si_s (fun x => pc_v (gK tH rF rT w i x) (sZ (24 * w + x))) 24) := by rw [hH]
      refine br_f (nI_ge (b := 24) (by omega) (by omega)) ?_
      refine y_isAlive hw (by omega) (rl_okY C hw) (fun hA => br_f (by decide) ?_) (fun hA => br_t rfl ?_)
      · rw [rl_A C hw] at hA
        refine y_kept hw (by omega) (rl_okY C hw) fun s hs => y_sum hw ?_
        rw [rl_K C hw] at hs
        rw [ys_sumP hs]
        rw [eH, pc_t hA] at go
        exact go
      · rw [rl_A C hw] at hA
        rw [eH, pc_n hA] at go
        exact go
end
theorem i_vc_heaviest {k : Nat} {u : SX} {v : SY} (I : i_Rel k u v) (hk : k + 4 ≤ 2048) (v1 : Int32) : wpX_heaviest (fun r u' => wpY_heaviest (fun r' => r' = r ∧ i_Rel (k + 4) u' v) v v1) u v1 := by
  refine rl_el (P := fun u v => wpX_heaviest (fun r u' => wpY_heaviest (fun r' => r' = r ∧ i_Rel (k + 4) u' v) v v1) u v1) ?_ I
  intro fM fO fC fX fP tH kD sZ rF rT nU oB pA pI pF sE aN lA dM bF bN rE cH dE qU lO oR oP nF cO iL rP fD fA lI C
  unfold wpX_heaviest
  rcases pk_ix v1 (n := 3) (by omega) with h | h | ⟨w, hw, rfl⟩
  · refine x_badPlace1 (Or.inl h) (br_f (by decide) ?_)
    unfold wpY_heaviest
    exact y_place0 (Or.inl h) (br_t rfl ⟨rfl, rl_in C⟩)
  · refine x_badPlace1 (Or.inr h) (br_f (by decide) ?_)
    unfold wpY_heaviest
    exact y_place0 (Or.inr h) (br_t rfl ⟨rfl, rl_in C⟩)
  · refine x_badPlace0 hw (br_t rfl (x_findRet hw (C.2.1 w hw) fun m nU oB pA pI pF sE aN lA cH bF bN dM rE num obj par hr hd hR => ⟨25, ?_⟩))
    refine x_he23 (H := fun o => pc_v (gA tH rF rT w o) (si_s (fun x => pc_v (gK tH rF rT w o x) (sZ (24 * w + x))) 24)) hr.1 (fun x hx => (hd.1.2.2 x hx).1) (df_m25 hd.1) (fun o ho hz => ?_) (fun o ho hz => ?_) ?_ 25 0 (by omega) (by omega)
    · rw [hR o ho hz, pc_t ((df_A hd ho).1 hz)]
    · exact pc_n fun z => (df_A hd ho).2 z hz
    · unfold wpY_heaviest
      exact y_place1 hw (br_f (by decide) ⟨25, y_he18 (rF := rF) hw C rfl ⟨rfl, rl_in C⟩ 25 0 (by omega) (by omega)⟩)
end
