section
/-! rows pasted from kit/rows (starting text) -/
theorem pk_us {f : Nat → Int32} {k : Nat} {x : Int32} : upd f k x k = x := if_pos rfl
theorem pk_un {f : Nat → Int32} {k j : Nat} {x : Int32} (h : j ≠ k) : upd f k x j = f j := if_neg h
theorem pk_sub {a b : Nat} (h : b ≤ a) : nI a - nI b = nI (a - b) := by
  obtain ⟨c, rfl⟩ : ∃ c, a = c + b := ⟨a - b, by omega⟩
  rw [← nI_add, Int32.add_sub_cancel, Nat.add_sub_cancel]
theorem pk_m1 (n : Nat) : nI (n + 1) + (-1) = nI n := by
  rw [← nI_1, Int32.add_assoc, show (1 : Int32) + (-1) = 0 from rfl, Int32.add_zero]
theorem pk_mul (a b : Nat) : nI a * nI b = nI (a * b) := (Int32.ofNat_mul a b).symm
theorem pk_ix (x : Int32) {n : Nat} (hn : n < 2 ^ 31) : x < 0 ∨ nI n ≤ x ∨ ∃ j : Nat, j < n ∧ x = nI j := by
  by_cases h : x < 0
  · exact Or.inl h
  · obtain ⟨j, hj, rfl⟩ := nI_of h
    by_cases h2 : j < n
    · exact Or.inr (Or.inr ⟨j, h2, rfl⟩)
    · exact Or.inr (Or.inl (nI_le (by omega) hj))
theorem pk_le {x y : Int32} {A B : Prop} (a b : Nat) (f : a ≤ b → A) (g : b < a → B) (hx : x = nI a := by rfl) (hy : y = nI b := by rfl) (ha : a < 2 ^ 31 := by omega) (hb : b < 2 ^ 31 := by omega) : (x ≤ y → A) ∧ (¬ x ≤ y → B) := by
  subst hx hy
  rw [nI_leI ha hb]
  exact ⟨f, fun z => g (by omega)⟩
theorem pk_lt {x y : Int32} {A B : Prop} (a b : Nat) (f : a < b → A) (g : b ≤ a → B) (hx : x = nI a := by rfl) (hy : y = nI b := by rfl) (ha : a < 2 ^ 31 := by omega) (hb : b < 2 ^ 31 := by omega) : (x < y → A) ∧ (¬ x < y → B) := by
  subst hx hy
  rw [nI_ltI ha hb]
  exact ⟨f, fun z => g (by omega)⟩
theorem pk_eq {x y : Int32} {A B : Prop} (a b : Nat) (f : a = b → A) (g : a ≠ b → B) (hx : x = nI a := by rfl) (hy : y = nI b := by rfl) (ha : a < 2 ^ 31 := by omega) (hb : b < 2 ^ 31 := by omega) : (x = y → A) ∧ (¬ x = y → B) := by
  subst hx hy
  rw [nI_eq ha hb]
  exact ⟨f, g⟩
theorem pk_in {x : Int32} (n N : Nat) (h : n < N) (hx : x = nI n := by rfl) (hN : N < 2 ^ 31 := by omega) : vp_in x N := by
  subst hx
  exact vp_in_nI h hN
theorem pk_cl {x : Int32} (n : Nat) (hx : x = nI n := by rfl) (h : n < 2 ^ 31 := by omega) : x.toNatClampNeg = n := by
  subst hx
  exact nI_clamp h
theorem pk_tn {n : Nat} (h : n < 2 ^ 32) : (nI n).toBitVec.toNat = n := Nat.mod_eq_of_lt h
theorem pk_and (x : Int32) {m : Int32} (k : Nat) (hm : m.toBitVec.toNat = 2 ^ k - 1) : x &&& m = nI (x.toBitVec.toNat % 2 ^ k) := by
  apply Int32.toBitVec_inj.mp
  apply BitVec.eq_of_toNat_eq
  rw [Int32.toBitVec_and, BitVec.toNat_and, hm, Nat.and_two_pow_sub_one_eq_mod]
  show _ = (BitVec.ofNat 32 _).toNat
  rw [BitVec.toNat_ofNat]
  exact (Nat.mod_eq_of_lt (Nat.lt_of_le_of_lt (Nat.mod_le _ _) x.toBitVec.isLt)).symm
theorem pk_andN {n : Nat} (h : n < 2 ^ 32) {m : Int32} (k : Nat) (hm : m.toBitVec.toNat = 2 ^ k - 1) : nI n &&& m = nI (n % 2 ^ k) := by
  rw [pk_and _ k hm, pk_tn h]
theorem pk_andE (x : Int32) {m : Int32} (k : Nat) (hm : m.toBitVec.toNat = 2 ^ k - 1) : ∃ j : Nat, j < 2 ^ k ∧ x &&& m = nI j := ⟨_, Nat.mod_lt _ (Nat.two_pow_pos k), pk_and x k hm⟩
theorem pk_andIn (x : Int32) {m : Int32} (k : Nat) (hm : m.toBitVec.toNat = 2 ^ k - 1) (hk : k ≤ 30) : vp_in (x &&& m) (2 ^ k) := by
  obtain ⟨j, hj, e⟩ := pk_andE x k hm
  rw [e]
  exact vp_in_nI hj (Nat.lt_of_le_of_lt (Nat.pow_le_pow_right (by decide) hk) (by decide))
theorem pk_shl (a s : Int32) (k : Nat) (hs : (s.toBitVec.smod 32).toNat = k) : (a <<< s).toBitVec.toNat = a.toBitVec.toNat * 2 ^ k % 2 ^ 32 := by
  show (a.toBitVec <<< (s.toBitVec.smod 32).toNat).toNat = _
  rw [hs, BitVec.toNat_shiftLeft, Nat.shiftLeft_eq]
theorem pk_shlN {n : Nat} (s : Int32) (k : Nat) (hs : (s.toBitVec.smod 32).toNat = k) (h : n * 2 ^ k < 2 ^ 32) : nI n <<< s = nI (n * 2 ^ k) := by
  apply Int32.toBitVec_inj.mp
  apply BitVec.eq_of_toNat_eq
  have hn : n < 2 ^ 32 := Nat.lt_of_le_of_lt (Nat.le_mul_of_pos_right n (Nat.two_pow_pos k)) h
  rw [pk_shl _ _ k hs, pk_tn hn, pk_tn h, Nat.mod_eq_of_lt h]
theorem pk_shr (a s : Int32) (k : Nat) (hs : (s.toBitVec.smod 32).toNat = k) : (a >>> s).toInt = a.toInt >>> k := by
  show (a.toBitVec.sshiftRight (s.toBitVec.smod 32).toNat).toInt = _
  rw [hs, BitVec.toInt_sshiftRight]
  rfl
theorem pk_shrN {n : Nat} (h : n < 2 ^ 31) (s : Int32) (k : Nat) (hs : (s.toBitVec.smod 32).toNat = k) : nI n >>> s = nI (n / 2 ^ k) := by
  apply Int32.toInt_inj.mp
  have h2 : n / 2 ^ k ≤ n := Nat.div_le_self _ _
  rw [pk_shr _ _ k hs, nI_toInt h, nI_toInt (by omega), Int.shiftRight_eq_div_pow]
  rfl
theorem s_l : ∀ n, n < 32 → ((nI n &&& 31).toBitVec.smod 32).toNat = n := by decide +kernel
theorem nx_and (a b : Nat) : nI a &&& nI b = nI (a &&& b) := by
  apply Int32.toBitVec_inj.1
  show BitVec.ofNat 32 a &&& BitVec.ofNat 32 b = BitVec.ofNat 32 (a &&& b)
  apply BitVec.eq_of_getLsbD_eq
  intro i hi
  simp [hi]
theorem nx_xor (a b : Nat) : nI a ^^^ nI b = nI (a ^^^ b) := by
  apply Int32.toBitVec_inj.1
  show BitVec.ofNat 32 a ^^^ BitVec.ofNat 32 b = BitVec.ofNat 32 (a ^^^ b)
  apply BitVec.eq_of_getLsbD_eq
  intro i hi
  simp [hi]
theorem pk_least (P : Nat → Prop) (h : ∃ k, P k) : ∃ k, P k ∧ ∀ j, j < k → ¬ P j := by
  obtain ⟨k, hk⟩ := h
  induction k using Nat.strongRecOn with
  | ind k ih =>
    by_cases e : ∃ j, j < k ∧ P j
    · obtain ⟨j, hj, pj⟩ := e
      exact ih j hj pj
    · exact ⟨k, hk, fun j hj pj => e ⟨j, hj, pj⟩⟩
end
section
/-! masks as naturals -/
theorem zb_or (a b : Nat) : nI a ||| nI b = nI (a ||| b) := by
  apply Int32.toBitVec_inj.1
  show BitVec.ofNat 32 a ||| BitVec.ofNat 32 b = BitVec.ofNat 32 (a ||| b)
  apply BitVec.eq_of_getLsbD_eq
  intro i hi
  simp [hi]
theorem zb_or0 (a : Nat) : nI a ||| 0 = nI a := by
  show nI a ||| nI 0 = nI a
  rw [zb_or, Nat.or_zero]
theorem zb_shl : ∀ s, s < 31 → (1 : Int32) <<< (nI s &&& 31) = nI (2 ^ s) := by decide +kernel
theorem zb_bit {m s : Nat} (hm : m < 2 ^ 31) (hs : s < 31) : (nI m >>> (nI s &&& 31)) &&& 1 = nI (if m.testBit s = true then 1 else 0) := by
  rw [pk_shrN hm _ s (s_l s (by omega))]
  show nI (m / 2 ^ s) &&& nI 1 = _
  rw [nx_and, Nat.and_one_is_mod, Nat.testBit_eq_decide_div_mod_eq]
  generalize m / 2 ^ s = z
  rcases Nat.mod_two_eq_zero_or_one z with h | h <;> simp [h]
theorem zb_b0 {m s : Nat} (hm : m < 2 ^ 31) (hs : s < 31) : ((nI m >>> (nI s &&& 31)) &&& 1) = 0 ↔ m.testBit s = false := by
  rw [zb_bit hm hs]
  cases m.testBit s <;> decide
theorem zb_b1 {m s : Nat} (hm : m < 2 ^ 31) (hs : s < 31) : ((nI m >>> (nI s &&& 31)) &&& 1) = 1 ↔ m.testBit s = true := by
  rw [zb_bit hm hs]
  cases m.testBit s <;> decide
/-- a without b -/
def zb_df (a b : Nat) : Nat := a &&& (b ^^^ (2 ^ 32 - 1))
theorem zb_dfI (a b : Nat) : nI a &&& (nI b ^^^ (-1)) = nI (zb_df a b) := by
  show nI a &&& (nI b ^^^ nI (2 ^ 32 - 1)) = _
  rw [nx_xor, nx_and]
  rfl
theorem zb_df_le (a b : Nat) : zb_df a b ≤ a := Nat.and_le_left
theorem zb_df_bit {a b i : Nat} (ha : a < 2 ^ 31) : (zb_df a b).testBit i = (a.testBit i && !(b.testBit i)) := by
  unfold zb_df
  rw [Nat.testBit_and, Nat.testBit_xor, Nat.testBit_two_pow_sub_one]
  by_cases h : i < 32
  · simp [h]
  · have e : a.testBit i = false := Nat.testBit_lt_two_pow (Nat.lt_of_lt_of_le ha (Nat.pow_le_pow_right (by decide) (by omega)))
    simp [e]
theorem zb_z {x : Nat} (h : x < 2 ^ 31) : nI x = 0 ↔ x = 0 := by
  rw [← nI_0]
  exact nI_eq h (by decide)
theorem zb_zb {x : Nat} : x = 0 ↔ ∀ i, x.testBit i = false := by
  constructor
  · intro h i; rw [h]; exact Nat.zero_testBit i
  · intro h
    apply Nat.eq_of_testBit_eq
    intro i
    rw [h i, Nat.zero_testBit]
/-- a without b is empty: a lies in b -/
theorem zb_df0 {a b : Nat} (ha : a < 2 ^ 31) : (nI a &&& (nI b ^^^ (-1))) = 0 ↔ ∀ i, a.testBit i = true → b.testBit i = true := by
  rw [zb_dfI, zb_z (Nat.lt_of_le_of_lt (zb_df_le a b) ha), zb_zb]
  constructor
  · intro h i hi
    have := h i
    rw [zb_df_bit ha, hi] at this
    cases hb : b.testBit i
    · rw [hb] at this; exact absurd this (by decide)
    · rfl
  · intro h i
    rw [zb_df_bit ha]
    cases hi : a.testBit i
    · rfl
    · rw [h i hi]; rfl
theorem zb_big {m k i : Nat} (h : m < 2 ^ k) (hi : k ≤ i) : m.testBit i = false :=
  Nat.testBit_lt_two_pow (Nat.lt_of_lt_of_le h (Nat.pow_le_pow_right (by decide) hi))
theorem zb_in {m k i : Nat} (h : m < 2 ^ k) (hi : m.testBit i = true) : i < k := by
  rcases Nat.lt_or_ge i k with z | z
  · exact z
  · rw [zb_big h z] at hi; exact absurd hi (by decide)
theorem zb_orlt {a b k : Nat} (ha : a < 2 ^ k) (hb : b < 2 ^ k) : a ||| b < 2 ^ k := Nat.or_lt_two_pow ha hb
theorem zb_p2 {s k : Nat} (h : s < k) : 2 ^ s < 2 ^ k := Nat.pow_lt_pow_right (by decide) h
theorem zb_nf {x : Bool} (h : ¬ x = false) : x = true := by cases x <;> simp_all
theorem zb_nt {x : Bool} (h : ¬ x = true) : x = false := by cases x <;> simp_all
/-- the mask of a predicate -/
def zb_mk (p : Nat → Bool) : Nat → Nat
  | 0 => 0
  | n + 1 => if p n = true then zb_mk p n ||| 2 ^ n else zb_mk p n
theorem zb_mk_bit (p : Nat → Bool) (i : Nat) : ∀ n, (zb_mk p n).testBit i = (decide (i < n) && p i) := by
  intro n
  induction n with
  | zero => rw [zb_mk, Nat.zero_testBit]; simp
  | succ n ih =>
    rw [zb_mk]
    by_cases h : n = i
    · subst h
      by_cases hp : p n = true
      · rw [if_pos hp, Nat.testBit_or, Nat.testBit_two_pow_self, hp]; simp
      · rw [if_neg hp, ih, zb_nt hp]; simp
    · have e : (decide (i < n + 1)) = decide (i < n) := by
        rw [decide_eq_decide]; omega
      by_cases hp : p n = true
      · rw [if_pos hp, Nat.testBit_or, Nat.testBit_two_pow_of_ne h, ih, e]; simp
      · rw [if_neg hp, ih, e]
theorem zb_mk_lt (p : Nat → Bool) : ∀ n, zb_mk p n < 2 ^ n := by
  intro n
  induction n with
  | zero => exact (by decide : (0 : Nat) < 2 ^ 0)
  | succ n ih =>
    have h1 : (2 : Nat) ^ n < 2 ^ (n + 1) := zb_p2 (by omega)
    rw [zb_mk]
    by_cases hp : p n = true
    · rw [if_pos hp]; exact zb_orlt (by omega) h1
    · rw [if_neg hp]; omega
theorem zb_mk_lt31 (p : Nat → Bool) {n : Nat} (h : n ≤ 31) : zb_mk p n < 2 ^ 31 :=
  Nat.lt_of_lt_of_le (zb_mk_lt p n) (Nat.pow_le_pow_right (by decide) h)
theorem zb_mk_1 (p : Nat → Bool) {n : Nat} (hn : n < 31) (h : p n = true) : nI (zb_mk p n) ||| ((1 : Int32) <<< (nI n &&& 31)) = nI (zb_mk p (n + 1)) := by
  rw [zb_shl n hn, zb_or, zb_mk, if_pos h]
theorem zb_mk_0 (p : Nat → Bool) {n : Nat} (h : p n = false) : zb_mk p (n + 1) = zb_mk p n := by
  rw [zb_mk, if_neg (by rw [h]; decide)]
/-! narrowing -/
theorem zb_nb {c : Nat} (h : c < 128) : vp_nar .byte (nI c) = nI c := by
  rw [vp_nar_byte, lg_i2b_small (by rw [nI_toInt (by omega)]; omega) (by rw [nI_toInt (by omega)]; omega)]
theorem zb_cb {c : Nat} (h : c < 128) : (nI c).toInt8.toInt32 = nI c :=
  lg_i2b_small (by rw [nI_toInt (by omega)]; omega) (by rw [nI_toInt (by omega)]; omega)
theorem zb_nbb {c : Nat} (h : c < 128) : vp_nar .byte (nI c).toInt8.toInt32 = nI c := by
  rw [zb_cb h, zb_nb h]
theorem zb_nbm : vp_nar .byte (-1) = -1 := by rw [vp_nar_byte]; decide
theorem zb_nbbm : vp_nar .byte (-1 : Int32).toInt8.toInt32 = -1 := by rw [vp_nar_byte]; decide
theorem zb_cs {c : Nat} (h : c < 32768) : (nI c).toInt16.toInt32 = nI c :=
  lg_i2s_small (by rw [nI_toInt (by omega)]; omega) (by rw [nI_toInt (by omega)]; omega)
theorem zb_ns {c : Nat} (h : c < 32768) : vp_nar .short (nI c) = nI c := by
  rw [vp_nar_short, zb_cs h]
theorem zb_nss {c : Nat} (h : c < 32768) : vp_nar .short (nI c).toInt16.toInt32 = nI c := by
  rw [zb_cs h, zb_ns h]
/-! indices -/
theorem zb_ix (c s : Nat) : nI c * 8 + nI s = nI (8 * c + s) := by
  show nI c * nI 8 + nI s = _
  rw [pk_mul, nI_add, Nat.mul_comm]
theorem zb_ix' (c s : Nat) : 8 * nI c + nI s = nI (8 * c + s) := by
  show nI 8 * nI c + nI s = _
  rw [pk_mul, nI_add]
theorem zb_upd {f : Nat → Int32} {k : Nat} {x : Int32} (h : f k = x) : upd f k x = f := by
  funext j
  by_cases e : j = k
  · rw [e, pk_us, h]
  · rw [pk_un e]
theorem zb_m1lt : (-1 : Int32) < 0 := by decide
theorem zb_m1ne {p : Nat} (h : p < 2 ^ 31) : nI p ≠ -1 := by
  intro e
  have := congrArg Int32.toInt e
  rw [nI_toInt h, show (-1 : Int32).toInt = -1 from by decide] at this
  omega
/-! counting -/
def zb_cn (p : Nat → Bool) : Nat → Nat
  | 0 => 0
  | n + 1 => zb_cn p n + (if p n = true then 1 else 0)
theorem zb_cn_le (p : Nat → Bool) : ∀ n, zb_cn p n ≤ n := by
  intro n
  induction n with
  | zero => exact Nat.le_refl 0
  | succ n ih => rw [zb_cn]; split <;> omega
theorem zb_cn_mono {p q : Nat → Bool} : ∀ {n}, (∀ i, i < n → p i = true → q i = true) → zb_cn p n ≤ zb_cn q n := by
  intro n
  induction n with
  | zero => intro _; exact Nat.le_refl 0
  | succ n ih =>
    intro h
    have := ih (fun i hi => h i (by omega))
    rw [zb_cn, zb_cn]
    by_cases hp : p n = true
    · rw [if_pos hp, if_pos (h n (by omega) hp)]; omega
    · rw [if_neg hp]; omega
theorem zb_cn_lt {p q : Nat → Bool} {k : Nat} : ∀ {n}, (∀ i, i < n → p i = true → q i = true) → k < n → p k = false → q k = true → zb_cn p n < zb_cn q n := by
  intro n
  induction n with
  | zero => intro _ h; omega
  | succ n ih =>
    intro h hk pk qk
    rw [zb_cn, zb_cn]
    by_cases e : k = n
    · subst e
      have := zb_cn_mono (p := p) (q := q) (n := k) (fun i hi => h i (by omega))
      rw [if_neg (by rw [pk]; decide), if_pos qk]; omega
    · have := ih (fun i hi => h i (by omega)) (by omega) pk qk
      by_cases hp : p n = true
      · rw [if_pos hp, if_pos (h n (by omega) hp)]; omega
      · rw [if_neg hp]; omega
theorem zb_cn_all : ∀ (n : Nat), zb_cn (fun _ => true) n = n := by
  intro n
  induction n with
  | zero => rfl
  | succ n ih => rw [zb_cn, ih, if_pos rfl]
/-- not all are counted: fewer than n -/
theorem zb_cn_no {p : Nat → Bool} {n k : Nat} (hk : k < n) (h : p k = false) : zb_cn p n < n := by
  have := zb_cn_lt (p := p) (q := fun _ => true) (n := n) (fun _ _ _ => rfl) hk h rfl
  rwa [zb_cn_all] at this
theorem zb_cn_full {p : Nat → Bool} {n : Nat} (h : ∀ i, i < n → p i = true) : zb_cn p n = n := by
  have := zb_cn_mono (p := fun _ => true) (q := p) (n := n) (fun i hi _ => h i hi)
  rw [zb_cn_all] at this
  have := zb_cn_le p n
  omega
theorem zb_cn_up {p q : Nat → Bool} {k : Nat} : ∀ {n}, k < n → p k = false → q k = true → (∀ i, i ≠ k → q i = p i) → zb_cn q n = zb_cn p n + 1 := by
  intro n
  induction n with
  | zero => intro h; omega
  | succ n ih =>
    intro hk pk qk h
    rw [zb_cn, zb_cn]
    by_cases e : k = n
    · subst e
      rw [if_pos qk, if_neg (by rw [pk]; decide)]
      have e1 : zb_cn q k ≤ zb_cn p k := zb_cn_mono (fun i hi hq => by rw [← h i (by omega)]; exact hq)
      have e2 : zb_cn p k ≤ zb_cn q k := zb_cn_mono (fun i hi hp => by rw [h i (by omega)]; exact hp)
      omega
    · rw [ih (by omega) pk qk h, h n (fun z => e z.symm)]; omega
theorem zb_cn_zero : ∀ n, zb_cn (fun i => (0 : Nat).testBit i) n = 0 := by
  intro n
  induction n with
  | zero => rfl
  | succ n ih => rw [zb_cn, ih, Nat.zero_testBit]; rfl
end
section
/-! the forest: parents, ranks, the first one upwards that satisfies P -/
def zf_wk (P : Nat → Bool) (up : Nat → Int32) : Nat → Int32 → Int32
  | 0, _ => -1
  | k + 1, x => if x < 0 then -1 else if P x.toNatClampNeg = true then x else zf_wk P up k (up x.toNatClampNeg)
def zf_F (n : Nat) (up : Nat → Int32) : Prop := ∀ c, c < n → up c = -1 ∨ ∃ p, p < n ∧ up c = nI p
def zf_R (n : Nat) (up : Nat → Int32) (rk : Nat → Nat) : Prop := ∀ c, c < n → rk c < n ∧ ∀ p, p < n → up c = nI p → rk p < rk c
theorem zf_wk_neg (P : Nat → Bool) (up : Nat → Int32) (k : Nat) : zf_wk P up k (-1) = -1 := by
  cases k with
  | zero => rfl
  | succ k => rw [zf_wk, if_pos zb_m1lt]
theorem zf_wk_s (P : Nat → Bool) (up : Nat → Int32) (k : Nat) {c : Nat} (hc : c < 2 ^ 31) : zf_wk P up (k + 1) (nI c) = if P c = true then nI c else zf_wk P up k (up c) := by
  rw [zf_wk, if_neg (nI_pos hc), nI_clamp hc]
theorem zf_wk_eq {P : Nat → Bool} {up : Nat → Int32} {n : Nat} {rk : Nat → Nat} (hn : n ≤ 10) (hF : zf_F n up) (hR : zf_R n up rk) :
    ∀ k k' c, c < n → rk c < k → rk c < k' → zf_wk P up k (nI c) = zf_wk P up k' (nI c) := by
  intro k
  induction k with
  | zero => intro k' c _ h; omega
  | succ k ih =>
    intro k' c hc h h'
    cases k' with
    | zero => omega
    | succ k' =>
      rw [zf_wk_s P up k (by omega), zf_wk_s P up k' (by omega)]
      by_cases hp : P c = true
      · rw [if_pos hp, if_pos hp]
      · rw [if_neg hp, if_neg hp]
        rcases hF c hc with e | ⟨p, hp', e⟩
        · rw [e, zf_wk_neg, zf_wk_neg]
        · have := (hR c hc).2 p hp' e
          rw [e]
          exact ih k' p hp' (by omega) (by omega)
theorem zf_w1 {P : Nat → Bool} {up : Nat → Int32} {c : Nat} (hc : c < 2 ^ 31) (h : P c = true) : zf_wk P up 10 (nI c) = nI c := by
  rw [zf_wk_s P up 9 hc, if_pos h]
theorem zf_w2 {P : Nat → Bool} {up : Nat → Int32} {c : Nat} (hc : c < 2 ^ 31) (h : P c = false) (e : up c = -1) : zf_wk P up 10 (nI c) = -1 := by
  rw [zf_wk_s P up 9 hc, if_neg (by rw [h]; decide), e, zf_wk_neg]
theorem zf_w3 {P : Nat → Bool} {up : Nat → Int32} {n : Nat} {rk : Nat → Nat} (hn : n ≤ 10) (hF : zf_F n up) (hR : zf_R n up rk) {c p : Nat} (hc : c < n) (hp : p < n) (h : P c = false) (e : up c = nI p) :
    zf_wk P up 10 (nI c) = zf_wk P up 10 (nI p) := by
  have h1 := (hR c hc).1
  have h2 := (hR c hc).2 p hp e
  rw [zf_wk_s P up 9 (by omega), if_neg (by rw [h]; decide), e]
  exact zf_wk_eq hn hF hR 9 10 p hp (by omega) (by omega)
theorem zf_w4 {P : Nat → Bool} {up : Nat → Int32} {n : Nat} (hn : n ≤ 10) (hF : zf_F n up) :
    ∀ k c, c < n → zf_wk P up k (nI c) = -1 ∨ ∃ d, d < n ∧ zf_wk P up k (nI c) = nI d ∧ P d = true := by
  intro k
  induction k with
  | zero => intro c _; exact Or.inl rfl
  | succ k ih =>
    intro c hc
    rw [zf_wk_s P up k (by omega)]
    by_cases hp : P c = true
    · rw [if_pos hp]; exact Or.inr ⟨c, hc, rfl, hp⟩
    · rw [if_neg hp]
      rcases hF c hc with e | ⟨p, hp', e⟩
      · rw [e]; exact Or.inl (zf_wk_neg P up k)
      · rw [e]; exact ih p hp'
/-- any rank gives one below n -/
theorem zf_norm {n : Nat} {up : Nat → Int32} (r : Nat → Nat) (h : ∀ c, c < n → ∀ p, p < n → up c = nI p → r p < r c) : ∃ rk, zf_R n up rk := by
  refine ⟨fun c => zb_cn (fun d => decide (r d < r c)) n, fun c hc => ⟨?_, fun p hp e => ?_⟩⟩
  · exact zb_cn_no hc (decide_eq_false (Nat.lt_irrefl _))
  · have hpc := h c hc p hp e
    refine zb_cn_lt (k := p) (fun i hi z => ?_) hp (decide_eq_false (Nat.lt_irrefl _)) (decide_eq_true hpc)
    have z' := of_decide_eq_true z
    exact decide_eq_true (by omega)
/-- a new class -/
theorem zf_addF {n : Nat} {up : Nat → Int32} {x : Int32} (hF : zf_F n up) (hx : x = -1 ∨ ∃ p, p < n ∧ x = nI p) : zf_F (n + 1) (upd up n x) := by
  intro c hc
  by_cases e : c = n
  · rw [e, pk_us]
    rcases hx with h | ⟨p, hp, h⟩
    · exact Or.inl h
    · exact Or.inr ⟨p, by omega, h⟩
  · rw [pk_un e]
    rcases hF c (by omega) with h | ⟨p, hp, h⟩
    · exact Or.inl h
    · exact Or.inr ⟨p, by omega, h⟩
theorem zf_addR {n : Nat} {up : Nat → Int32} {x : Int32} {rk : Nat → Nat} (hn : n ≤ 10) (hF : zf_F n up) (hR : zf_R n up rk) (hx : x = -1 ∨ ∃ p, p < n ∧ x = nI p) : ∃ rk', zf_R (n + 1) (upd up n x) rk' := by
  refine zf_norm (fun c => if c = n then n else rk c) (fun c hc p hp e => ?_)
  by_cases ec : c = n
  · rw [ec, pk_us] at e
    rcases hx with h | ⟨q, hq, h⟩
    · rw [h] at e; exact absurd e.symm (zb_m1ne (by omega))
    · have : p = q := (nI_eq (by omega) (by omega)).mp (e.symm.trans h)
      have := (hR q hq).1
      try dsimp only
      rw [if_neg (by omega), if_pos ec]
      subst p
      exact this
  · rw [pk_un ec] at e
    have hc' : c < n := by omega
    rcases hF c hc' with h | ⟨q, hq, h⟩
    · rw [h] at e; exact absurd e.symm (zb_m1ne (by omega))
    · have epq : p = q := (nI_eq (by omega) (by omega)).mp (e.symm.trans h)
      have := (hR c hc').2 p (by omega) e
      try dsimp only
      rw [if_neg (by omega), if_neg ec]
      exact this
/-- a class moves -/
theorem zf_movF {n c : Nat} {up : Nat → Int32} {x : Int32} (hF : zf_F n up) (hx : x = -1 ∨ ∃ p, p < n ∧ x = nI p) : zf_F n (upd up c x) := by
  intro d hd
  by_cases e : d = c
  · rw [e, pk_us]; exact hx
  · rw [pk_un e]; exact hF d hd
theorem zf_movR {n c : Nat} {up : Nat → Int32} {x : Int32} {rk : Nat → Nat} (hn : n ≤ 10) (hF : zf_F n up) (hR : zf_R n up rk)
    (hx : x = -1 ∨ ∃ p, p < n ∧ x = nI p) (hu : zf_wk (fun d => decide (d = c)) up 10 x = -1) : ∃ rk', zf_R n (upd up c x) rk' := by
  refine zf_norm (fun d => rk d + (if zf_wk (fun d => decide (d = c)) up 10 (nI d) = -1 then 0 else rk x.toNatClampNeg + 1)) (fun d hd p hp e => ?_)
  try dsimp only
  by_cases ec : d = c
  · rw [ec, pk_us] at e
    have hpu : zf_wk (fun d => decide (d = c)) up 10 (nI p) = -1 := by rw [← e]; exact hu
    have hcu : zf_wk (fun d => decide (d = c)) up 10 (nI d) = nI d := zf_w1 (by omega) (decide_eq_true ec)
    rw [if_pos hpu, hcu, if_neg (zb_m1ne (by omega)), e, nI_clamp (by omega)]
    omega
  · rw [pk_un ec] at e
    have h1 := (hR d hd).2 p hp e
    have h2 : zf_wk (fun d => decide (d = c)) up 10 (nI d) = zf_wk (fun d => decide (d = c)) up 10 (nI p) := zf_w3 hn hF hR hd hp (decide_eq_false ec) e
    rw [h2]
    omega
/-! owners -/
def zf_P (own : Nat → Int32) (s c : Nat) : Bool := decide (own (8 * c + s) ≠ 0)
def zf_W (up own : Nat → Int32) (c s : Nat) : Int32 := zf_wk (zf_P own s) up 10 (nI c)
def zf_H (up own : Nat → Int32) (c s : Nat) : Bool := decide (zf_W up own c s ≠ -1)
def zf_O (n : Nat) (own : Nat → Int32) : Prop := (∀ j, ∃ m, m ≤ 1000 ∧ own j = nI m) ∧ ∀ j, 8 * n ≤ j → own j = 0
theorem zf_Ole {n : Nat} {own : Nat → Int32} (h : zf_O n own) (j : Nat) : own j ≤ 0 ↔ own j = 0 := by
  obtain ⟨m, hm, e⟩ := h.1 j
  rw [e, ← nI_0, nI_leI (by omega) (by omega), nI_eq (by omega) (by omega)]
  omega
theorem zf_Pt {own : Nat → Int32} {s c : Nat} (h : own (8 * c + s) ≠ 0) : zf_P own s c = true := decide_eq_true h
theorem zf_Pf {own : Nat → Int32} {s c : Nat} (h : own (8 * c + s) = 0) : zf_P own s c = false := decide_eq_false (fun z => z h)
/-- what is known of owners: all that the walks of X need -/
theorem zf_W1 {up own : Nat → Int32} {c s : Nat} (hc : c < 10) (h : own (8 * c + s) ≠ 0) : zf_W up own c s = nI c := zf_w1 (by omega) (zf_Pt h)
theorem zf_W2 {up own : Nat → Int32} {c s : Nat} (hc : c < 10) (h : own (8 * c + s) = 0) (e : up c = -1) : zf_W up own c s = -1 := zf_w2 (by omega) (zf_Pf h) e
theorem zf_W3 {up own : Nat → Int32} {n : Nat} {rk : Nat → Nat} (hn : n ≤ 10) (hF : zf_F n up) (hR : zf_R n up rk) {c p s : Nat} (hc : c < n) (hp : p < n) (h : own (8 * c + s) = 0) (e : up c = nI p) :
    zf_W up own c s = zf_W up own p s := zf_w3 hn hF hR hc hp (zf_Pf h) e
theorem zf_W4 {up own : Nat → Int32} {n : Nat} (hn : n ≤ 10) (hF : zf_F n up) {c : Nat} (hc : c < n) (s : Nat) :
    zf_W up own c s = -1 ∨ ∃ d, d < n ∧ zf_W up own c s = nI d ∧ own (8 * d + s) ≠ 0 := by
  rcases zf_w4 (P := zf_P own s) hn hF 10 c hc with h | ⟨d, hd, e, h⟩
  · exact Or.inl h
  · exact Or.inr ⟨d, hd, e, of_decide_eq_true h⟩
theorem zf_Ht {up own : Nat → Int32} {c s : Nat} (h : zf_W up own c s ≠ -1) : zf_H up own c s = true := decide_eq_true h
theorem zf_Hf {up own : Nat → Int32} {c s : Nat} (h : zf_W up own c s = -1) : zf_H up own c s = false := decide_eq_false (fun z => z h)
theorem zf_HW {up own : Nat → Int32} {n : Nat} (hn : n ≤ 10) (hF : zf_F n up) {c s : Nat} (hc : c < n) (h : zf_H up own c s = true) :
    ∃ d, d < n ∧ zf_W up own c s = nI d ∧ own (8 * d + s) ≠ 0 := by
  rcases zf_W4 (own := own) hn hF hc s with e | e
  · rw [zf_Hf e] at h; exact absurd h (by decide)
  · exact e
/-- the selectors that c defines; that it understands -/
def zf_D (own : Nat → Int32) (c : Nat) : Nat := zb_mk (fun s => zf_P own s c) 8
def zf_K (up own : Nat → Int32) (c : Nat) : Nat := zb_mk (zf_H up own c) 8
theorem zf_Klt (up own : Nat → Int32) (c : Nat) : zf_K up own c < 256 := zb_mk_lt _ 8
theorem zf_Dlt (own : Nat → Int32) (c : Nat) : zf_D own c < 256 := zb_mk_lt _ 8
theorem zf_Kb {up own : Nat → Int32} {c s : Nat} (hs : s < 8) : (zf_K up own c).testBit s = zf_H up own c s := by
  rw [zf_K, zb_mk_bit, decide_eq_true hs]; rfl
theorem zf_Db {own : Nat → Int32} {c s : Nat} (hs : s < 8) : (zf_D own c).testBit s = zf_P own s c := by
  rw [zf_D, zb_mk_bit, decide_eq_true hs]; rfl
theorem zf_mke {p q : Nat → Bool} : ∀ {n}, (∀ i, i < n → p i = q i) → zb_mk p n = zb_mk q n := by
  intro n
  induction n with
  | zero => intro _; rfl
  | succ n ih =>
    intro h
    rw [zb_mk, zb_mk, ih (fun i hi => h i (by omega)), h n (by omega)]
theorem zf_K1 {up own : Nat → Int32} {c : Nat} (hc : c < 10) (e : up c = -1) : zf_K up own c = zf_D own c := by
  refine zf_mke (fun s hs => ?_)
  by_cases h : own (8 * c + s) = 0
  · rw [zf_Hf (zf_W2 hc h e), zf_Pf h]
  · rw [zf_Pt h, zf_Ht]
    rw [zf_W1 hc h]
    exact zb_m1ne (by omega)
theorem zf_K2 {up own : Nat → Int32} {n : Nat} {rk : Nat → Nat} (hn : n ≤ 10) (hF : zf_F n up) (hR : zf_R n up rk) {c p : Nat} (hc : c < n) (hp : p < n) (e : up c = nI p) :
    zf_K up own c = zf_K up own p ||| zf_D own c := by
  apply Nat.eq_of_testBit_eq
  intro s
  rw [Nat.testBit_or]
  by_cases hs : s < 8
  · rw [zf_Kb hs, zf_Kb hs, zf_Db hs]
    by_cases h : own (8 * c + s) = 0
    · rw [zf_Pf h, Bool.or_false, zf_H, zf_H, zf_W3 hn hF hR hc hp h e]
    · rw [zf_Pt h, Bool.or_true, zf_Ht]
      rw [zf_W1 (by omega) h]
      exact zb_m1ne (by omega)
  · rw [zb_big (k := 8) (zf_Klt up own c) (by omega), zb_big (k := 8) (zf_Klt up own p) (by omega), zb_big (k := 8) (zf_Dlt own c) (by omega)]
    rfl
/-! who is understood together with s -/
def zg_mt (K : Nat → Nat) (s : Nat) : Nat → Nat
  | 0 => 0
  | n + 1 => if (K n).testBit s = true then zg_mt K s n ||| K n else zg_mt K s n
theorem zg_mt_lt {K : Nat → Nat} (h : ∀ c, K c < 256) (s : Nat) : ∀ n, zg_mt K s n < 256 := by
  intro n
  induction n with
  | zero => exact (by decide : (0 : Nat) < 256)
  | succ n ih =>
    rw [zg_mt]
    split
    · exact zb_orlt (k := 8) ih (h n)
    · exact ih
theorem zg_mt_bit (K : Nat → Nat) (s t : Nat) : ∀ n, (zg_mt K s n).testBit t = true ↔ ∃ c, c < n ∧ (K c).testBit s = true ∧ (K c).testBit t = true := by
  intro n
  induction n with
  | zero =>
    rw [zg_mt, Nat.zero_testBit]
    constructor
    · intro h; exact absurd h (by decide)
    · rintro ⟨c, hc, _⟩; omega
  | succ n ih =>
    rw [zg_mt]
    by_cases hs : (K n).testBit s = true
    · rw [if_pos hs, Nat.testBit_or, Bool.or_eq_true, ih]
      constructor
      · rintro (⟨c, hc, h⟩ | h)
        · exact ⟨c, by omega, h⟩
        · exact ⟨n, by omega, hs, h⟩
      · rintro ⟨c, hc, h⟩
        by_cases e : c = n
        · subst e; exact Or.inr h.2
        · exact Or.inl ⟨c, by omega, h⟩
    · rw [if_neg hs, ih]
      constructor
      · rintro ⟨c, hc, h⟩; exact ⟨c, by omega, h⟩
      · rintro ⟨c, hc, h⟩
        by_cases e : c = n
        · subst e; exact absurd h.1 hs
        · exact ⟨c, by omega, h⟩
def zg_G (M : Nat → Nat) : Prop := (∀ s, M s < 256) ∧ ∀ s t, (M s).testBit t = true → (M t).testBit s = true ∧ (M s).testBit s = true
theorem zg_mt_G {K : Nat → Nat} (h : ∀ c, K c < 256) (n : Nat) : zg_G (fun s => zg_mt K s n) := by
  refine ⟨fun s => zg_mt_lt h s n, fun s t hst => ?_⟩
  obtain ⟨c, hc, h1, h2⟩ := (zg_mt_bit K s t n).mp hst
  exact ⟨(zg_mt_bit K t s n).mpr ⟨c, hc, h2, h1⟩, (zg_mt_bit K s s n).mpr ⟨c, hc, h1, h1⟩⟩
def zg_M (n : Nat) (up own : Nat → Int32) (s : Nat) : Nat := zg_mt (zf_K up own) s n
theorem zg_MG (n : Nat) (up own : Nat → Int32) : zg_G (zg_M n up own) := zg_mt_G (zf_Klt up own) n
/-- all that is understood -/
def zg_or (M : Nat → Nat) : Nat → Nat
  | 0 => 0
  | n + 1 => zg_or M n ||| M n
theorem zg_or_bit (M : Nat → Nat) (s : Nat) : ∀ n, (zg_or M n).testBit s = true ↔ ∃ t, t < n ∧ (M t).testBit s = true := by
  intro n
  induction n with
  | zero =>
    rw [zg_or, Nat.zero_testBit]
    constructor
    · intro h; exact absurd h (by decide)
    · rintro ⟨c, hc, _⟩; omega
  | succ n ih =>
    rw [zg_or, Nat.testBit_or, Bool.or_eq_true, ih]
    constructor
    · rintro (⟨c, hc, h⟩ | h)
      · exact ⟨c, by omega, h⟩
      · exact ⟨n, by omega, h⟩
    · rintro ⟨c, hc, h⟩
      by_cases e : c = n
      · subst e; exact Or.inr h
      · exact Or.inl ⟨c, by omega, h⟩
theorem zg_or_lt {M : Nat → Nat} (h : ∀ s, M s < 256) : ∀ n, zg_or M n < 256 := by
  intro n
  induction n with
  | zero => exact (by decide : (0 : Nat) < 256)
  | succ n ih => rw [zg_or]; exact zb_orlt (k := 8) ih (h n)
def zg_U (M : Nat → Nat) : Nat := zg_or M 8
theorem zg_Ub {M : Nat → Nat} (hG : zg_G M) (s : Nat) : (zg_U M).testBit s = true ↔ (M s).testBit s = true := by
  rw [zg_U, zg_or_bit]
  constructor
  · rintro ⟨t, ht, h⟩
    have := (hG.2 t s h).1
    exact (hG.2 s t this).2
  · intro h
    exact ⟨s, zb_in (k := 8) (hG.1 s) h, h⟩
end
section
/-! colourings: the least number of colours of a set -/
def zc_Col (M : Nat → Nat) (S k : Nat) : Prop := ∃ col : Nat → Nat, (∀ s, S.testBit s = true → col s < k) ∧
  ∀ s t, S.testBit s = true → S.testBit t = true → s ≠ t → (M s).testBit t = true → col s ≠ col t
def zc_Chi (M : Nat → Nat) (S k : Nat) : Prop := zc_Col M S k ∧ ∀ j, j < k → ¬ zc_Col M S j
theorem zc_Chi_u {M : Nat → Nat} {S k k' : Nat} (h : zc_Chi M S k) (h' : zc_Chi M S k') : k = k' := by
  rcases Nat.lt_trichotomy k k' with l | l | l
  · exact absurd h.1 (h'.2 k l)
  · exact l
  · exact absurd h'.1 (h.2 k' l)
theorem zc_Chi_le {M : Nat → Nat} {S k j : Nat} (h : zc_Chi M S k) (c : zc_Col M S j) : k ≤ j := by
  rcases Nat.lt_or_ge j k with l | l
  · exact absurd c (h.2 j l)
  · exact l
theorem zc_Chi_0 (M : Nat → Nat) : zc_Chi M 0 0 := by
  refine ⟨⟨fun _ => 0, fun s h => ?_, fun s t h => ?_⟩, fun j hj => by omega⟩
  · rw [Nat.zero_testBit] at h; exact absurd h (by decide)
  · rw [Nat.zero_testBit] at h; exact absurd h (by decide)
theorem zc_Col_8 (M : Nat → Nat) {S : Nat} (hS : S < 256) : zc_Col M S 8 :=
  ⟨fun s => s, fun _ h => zb_in (k := 8) hS h, fun _ _ _ _ h _ => h⟩
theorem zc_Col_0 {M : Nat → Nat} {S : Nat} (h : zc_Col M S 0) : S = 0 := by
  obtain ⟨col, h1, _⟩ := h
  rw [zb_zb]
  intro i
  cases e : S.testBit i
  · rfl
  · exact absurd (h1 i e) (Nat.not_lt_zero _)
theorem zc_Chi_ex (M : Nat → Nat) {S : Nat} (hS : S < 256) : ∃ k, k ≤ 8 ∧ zc_Chi M S k := by
  obtain ⟨k, hk, h⟩ := pk_least (fun k => zc_Col M S k) ⟨8, zc_Col_8 M hS⟩
  refine ⟨k, ?_, hk, h⟩
  rcases Nat.lt_or_ge 8 k with l | l
  · exact absurd (zc_Col_8 M hS) (h 8 l)
  · exact l
/-- no two of the set are understood together -/
def zc_Al (M : Nat → Nat) (T : Nat) : Prop := ∀ s t, T.testBit s = true → T.testBit t = true → s ≠ t → (M s).testBit t = false
def zc_Sub (T S : Nat) : Prop := ∀ i, T.testBit i = true → S.testBit i = true
theorem zc_Sub_le {T S : Nat} (h : zc_Sub T S) : T ≤ S := Nat.le_of_testBit h
/-- a colour more for a part of strangers -/
theorem zc_Col_s {M : Nat → Nat} {S T k : Nat} (hG : zg_G M) (hS : S < 2 ^ 31) (hT : zc_Al M T) (h : zc_Col M (zb_df S T) k) : zc_Col M S (k + 1) := by
  obtain ⟨col, h1, h2⟩ := h
  have hin : ∀ s, S.testBit s = true → T.testBit s = false → (zb_df S T).testBit s = true := by
    intro s a b
    rw [zb_df_bit hS, a, b]; rfl
  refine ⟨fun s => if T.testBit s = true then k else col s, fun s hs => ?_, fun s t hs ht hst hm => ?_⟩
  · dsimp only
    by_cases e : T.testBit s = true
    · rw [if_pos e]; omega
    · rw [if_neg e]
      have := h1 s (hin s hs (zb_nt e))
      omega
  · dsimp only
    by_cases e : T.testBit s = true
    · by_cases e' : T.testBit t = true
      · rw [hT s t e e' hst] at hm
        exact absurd hm (by decide)
      · rw [if_pos e, if_neg e']
        have := h1 t (hin t ht (zb_nt e'))
        omega
    · by_cases e' : T.testBit t = true
      · rw [if_neg e, if_pos e']
        have := h1 s (hin s hs (zb_nt e))
        omega
      · rw [if_neg e, if_neg e']
        exact h2 s t (hin s hs (zb_nt e)) (hin t ht (zb_nt e')) hst hm
/-- a colouring of a set that isn't empty has a part of one colour -/
theorem zc_Col_p {M : Nat → Nat} {S k : Nat} (hS : S < 256) (h0 : S ≠ 0) (h : zc_Col M S (k + 1)) :
    ∃ T, T ≠ 0 ∧ T < 256 ∧ zc_Sub T S ∧ zc_Al M T ∧ zc_Col M (zb_df S T) k := by
  obtain ⟨col, h1, h2⟩ := h
  obtain ⟨s0, hs0⟩ := Nat.exists_testBit_of_ne_zero h0
  have hs0' : S.testBit s0 = true := hs0
  have hbit : ∀ i, (zb_mk (fun i => S.testBit i && decide (col i = col s0)) 8).testBit i = true ↔ S.testBit i = true ∧ col i = col s0 := by
    intro i
    rw [zb_mk_bit, Bool.and_eq_true, Bool.and_eq_true, decide_eq_true_iff, decide_eq_true_iff]
    constructor
    · rintro ⟨_, a, b⟩; exact ⟨a, b⟩
    · rintro ⟨a, b⟩; exact ⟨zb_in (k := 8) hS a, a, b⟩
  refine ⟨zb_mk (fun i => S.testBit i && decide (col i = col s0)) 8, ?_, zb_mk_lt _ 8, fun i hi => ((hbit i).mp hi).1, fun s t hs ht hst => ?_, ?_⟩
  · intro e
    have := (hbit s0).mpr ⟨hs0', rfl⟩
    rw [e, Nat.zero_testBit] at this
    exact absurd this (by decide)
  · obtain ⟨a, b⟩ := (hbit s).mp hs
    obtain ⟨c, d⟩ := (hbit t).mp ht
    cases e : (M s).testBit t
    · rfl
    · exact absurd (b.trans d.symm) (h2 s t a c hst e)
  · have hd : ∀ i, (zb_df S (zb_mk (fun i => S.testBit i && decide (col i = col s0)) 8)).testBit i = true → S.testBit i = true ∧ col i ≠ col s0 := by
      intro i hi
      rw [zb_df_bit (by omega), Bool.and_eq_true] at hi
      refine ⟨hi.1, fun e => ?_⟩
      rw [(hbit i).mpr ⟨hi.1, e⟩] at hi
      exact absurd hi.2 (by decide)
    refine ⟨fun i => if col i = k then col s0 else col i, fun s hs => ?_, fun s t hs ht hst hm => ?_⟩
    · obtain ⟨a, b⟩ := hd s hs
      have c := h1 s a
      have d := h1 s0 hs0'
      try dsimp only
      by_cases e : col s = k
      · rw [if_pos e]; omega
      · rw [if_neg e]; omega
    · obtain ⟨a, b⟩ := hd s hs
      obtain ⟨c, d⟩ := hd t ht
      have e := h2 s t a c hst hm
      try dsimp only
      by_cases es : col s = k
      · rw [if_pos es, if_neg (fun z => e (es.trans z.symm))]
        exact fun z => d z.symm
      · rw [if_neg es]
        by_cases et : col t = k
        · rw [if_pos et]; exact b
        · rw [if_neg et]; exact e
/-- the recurrence: the least over all parts -/
theorem zc_rec {M : Nat → Nat} {S m : Nat} (hS : S < 256) (h0 : S ≠ 0) (hc : zc_Col M S m)
    (hm : ∀ T k, 1 ≤ T → T ≤ S → zc_Sub T S → zc_Al M T → zc_Chi M (zb_df S T) k → m ≤ k + 1) : zc_Chi M S m := by
  refine ⟨hc, fun j hj h => ?_⟩
  cases j with
  | zero => exact h0 (zc_Col_0 h)
  | succ j =>
    obtain ⟨T, hT0, hT, hsub, hal, hcol⟩ := zc_Col_p hS h0 h
    obtain ⟨k, _, hk⟩ := zc_Chi_ex M (S := zb_df S T) (Nat.lt_of_le_of_lt (zb_df_le S T) hS)
    have h1 := hm T k (by omega) (zc_Sub_le hsub) hsub hal hk
    have h2 := zc_Chi_le hk hcol
    omega
theorem zc_df_lt {S T : Nat} (hS : S < 2 ^ 31) (h0 : T ≠ 0) (h : zc_Sub T S) : zb_df S T < S := by
  obtain ⟨i, hi⟩ := Nat.exists_testBit_of_ne_zero h0
  have hi' : T.testBit i = true := hi
  have h1 : zb_df S T ≠ S := by
    intro e
    have := zb_df_bit (b := T) (i := i) hS
    rw [e, h i hi', hi'] at this
    exact absurd this (by decide)
  have := zb_df_le S T
  omega
theorem zc_df_sub {S T U : Nat} (hS : S < 2 ^ 31) (h : zc_Sub S U) : zc_Sub (zb_df S T) U := by
  intro i hi
  rw [zb_df_bit hS, Bool.and_eq_true] at hi
  exact h i hi.1
/-! restricted growth -/
def zc_op (A : Nat → Nat) : Nat → Nat
  | 0 => 0
  | i + 1 => if A i < zc_op A i then zc_op A i else A i + 1
theorem zc_op_gt (A : Nat → Nat) : ∀ i j, j < i → A j < zc_op A i := by
  intro i
  induction i with
  | zero => intro j h; omega
  | succ i ih =>
    intro j hj
    rw [zc_op]
    by_cases e : j = i
    · subst e
      split <;> omega
    · have := ih j (by omega)
      split <;> omega
theorem zc_op_at (A : Nat → Nat) : ∀ i, zc_op A i = 0 ∨ ∃ j, j < i ∧ A j + 1 = zc_op A i := by
  intro i
  induction i with
  | zero => exact Or.inl rfl
  | succ i ih =>
    rw [zc_op]
    by_cases h : A i < zc_op A i
    · rw [if_pos h]
      rcases ih with e | ⟨j, hj, e⟩
      · exact Or.inl e
      · exact Or.inr ⟨j, by omega, e⟩
    · rw [if_neg h]
      exact Or.inr ⟨i, by omega, rfl⟩
theorem zc_op_cong {A B : Nat → Nat} : ∀ {i}, (∀ j, j < i → A j = B j) → zc_op A i = zc_op B i := by
  intro i
  induction i with
  | zero => intro _; rfl
  | succ i ih =>
    intro h
    rw [zc_op, zc_op, ih (fun j hj => h j (by omega)), h i (by omega)]
def zc_RG (A : Nat → Nat) (i : Nat) : Prop := ∀ j, j < i → A j ≤ zc_op A j
def zc_Pr (ad : Nat → Nat → Bool) (A : Nat → Nat) (i : Nat) : Prop := ∀ j k, j < i → k < j → ad j k = true → A j ≠ A k
theorem zc_op_le {A : Nat → Nat} : ∀ {i}, zc_RG A i → zc_op A i ≤ i := by
  intro i
  induction i with
  | zero => intro _; exact Nat.le_refl 0
  | succ i ih =>
    intro h
    have h1 := ih (fun j hj => h j (by omega))
    have h2 := h i (by omega)
    rw [zc_op]
    split <;> omega
/-- every colouring can be renamed so that colours open one by one -/
theorem zc_canon {ad : Nat → Nat → Bool} {c : Nat → Nat} {L q : Nat} (hp : zc_Pr ad c L) (hq : ∀ x, x < L → c x < q) :
    ∀ i, i ≤ L → ∃ b, zc_RG b i ∧ zc_Pr ad b L ∧ ∀ x, x < L → b x < q := by
  intro i
  induction i with
  | zero => intro _; exact ⟨c, fun j hj => by omega, hp, hq⟩
  | succ i ih =>
    intro hi
    obtain ⟨b, h1, h2, h3⟩ := ih (by omega)
    by_cases hb : b i ≤ zc_op b i
    · refine ⟨b, fun j hj => ?_, h2, h3⟩
      by_cases e : j = i
      · rw [e]; exact hb
      · exact h1 j (by omega)
    · have hlow : ∀ x, x < i → b x < zc_op b i := fun x hx => zc_op_gt b i x hx
      generalize hm : zc_op b i = m at hb hlow
      have hsame : ∀ x, x < i → (if b x = m then b i else if b x = b i then m else b x) = b x := by
        intro x hx
        have := hlow x hx
        rw [if_neg (by omega), if_neg (by omega)]
      have hop : ∀ y, y ≤ i → zc_op (fun x => if b x = m then b i else if b x = b i then m else b x) y = zc_op b y :=
        fun y hy => zc_op_cong (fun j hj => hsame j (by omega))
      refine ⟨fun x => if b x = m then b i else if b x = b i then m else b x, fun j hj => ?_, fun j k hj hk ha => ?_, fun x hx => ?_⟩
      · rw [hop j (by omega)]
        try dsimp only
        by_cases e : j = i
        · rw [e, if_neg (by omega), if_pos rfl, hm]; exact Nat.le_refl m
        · rw [hsame j (by omega)]; exact h1 j (by omega)
      · have hne := h2 j k hj hk ha
        try dsimp only
        by_cases a1 : b j = m
        · rw [if_pos a1, if_neg (fun z => hne (a1.trans z.symm))]
          by_cases a2 : b k = b i
          · rw [if_pos a2]; omega
          · rw [if_neg a2]; exact fun z => a2 z.symm
        · rw [if_neg a1]
          by_cases a2 : b j = b i
          · rw [if_pos a2]
            by_cases a3 : b k = m
            · rw [if_pos a3]; omega
            · rw [if_neg a3, if_neg (fun z => hne (a2.trans z.symm))]
              exact fun z => a3 z.symm
          · rw [if_neg a2]
            by_cases a3 : b k = m
            · rw [if_pos a3]; exact a2
            · rw [if_neg a3]
              by_cases a4 : b k = b i
              · rw [if_pos a4]; exact a1
              · rw [if_neg a4]; exact hne
      · have e1 := h3 i (by omega)
        have e2 := h3 x hx
        try dsimp only
        split
        · exact e1
        · split <;> omega
/-! the search -/
def zc_Lo (K L : Nat) (b : Nat → Nat) : Prop := ∀ i, i < L → b i + 1 < K
def zc_At (b A : Nat → Nat) (l v : Nat) : Prop := ∃ i, i ≤ l ∧ (∀ j, j < i → b j = A j) ∧ (i < l → A i < b i) ∧ (i = l → v ≤ b i)
def zc_Inv (ad : Nat → Nat → Bool) (L K l : Nat) (A : Nat → Nat) (v : Nat) : Prop :=
  l < L ∧ v ≤ l + 1 ∧ zc_RG A l ∧ zc_Pr ad A l ∧ ∀ b, zc_RG b L → zc_Pr ad b L → zc_Lo K L b → zc_At b A l v
def zc_Fin (ad : Nat → Nat → Bool) (L K : Nat) : Prop := ∀ b, zc_RG b L → zc_Pr ad b L → ¬ zc_Lo K L b
def zc_Back (ad : Nat → Nat → Bool) (L K l : Nat) (A : Nat → Nat) : Prop :=
  (l = 0 → zc_Fin ad L K) ∧ ∀ l', l = l' + 1 → zc_Inv ad L K l' A (A l' + 1)
theorem zc_start (ad : Nat → Nat → Bool) {L : Nat} (K : Nat) (A : Nat → Nat) (h : 0 < L) : zc_Inv ad L K 0 A 0 :=
  ⟨h, Nat.zero_le _, fun j hj => by omega, fun j k hj => by omega, fun b _ _ _ => ⟨0, Nat.le_refl 0, fun j hj => by omega, fun h => by omega, fun _ => Nat.zero_le _⟩⟩
theorem zc_pop {ad : Nat → Nat → Bool} {L K l : Nat} {A : Nat → Nat} (hl : l ≤ L) (h1 : zc_RG A l) (h2 : zc_Pr ad A l)
    (h : ∀ b, zc_RG b L → zc_Pr ad b L → zc_Lo K L b → ∃ i, i < l ∧ (∀ j, j < i → b j = A j) ∧ A i < b i) : zc_Back ad L K l A := by
  refine ⟨fun e b r p q => ?_, fun l' e => ?_⟩
  · obtain ⟨i, hi, _⟩ := h b r p q
    omega
  · have hr : zc_RG A l' := fun j hj => h1 j (by omega)
    have h3 := h1 l' (by omega)
    have h4 := zc_op_le hr
    refine ⟨by omega, by omega, hr, fun j k hj hk => h2 j k (by omega) hk, fun b r p q => ?_⟩
    obtain ⟨i, hi, ha, hb⟩ := h b r p q
    refine ⟨i, by omega, ha, fun _ => hb, fun e' => ?_⟩
    rw [e'] at hb
    rw [e']
    omega
theorem zc_fail {ad : Nat → Nat → Bool} {L K l v : Nat} {A : Nat → Nat} (I : zc_Inv ad L K l A v)
    (h : K ≤ zc_op A l ∨ ∀ e, v ≤ e → e ≤ zc_op A l → e + 1 < K → ∃ j, j < l ∧ ad l j = true ∧ A j = e) : zc_Back ad L K l A := by
  obtain ⟨hl, hv, hr, hp, hc⟩ := I
  refine zc_pop (by omega) hr hp (fun b r p q => ?_)
  obtain ⟨i, hi, ha, hb, hd⟩ := hc b r p q
  by_cases e : i < l
  · exact ⟨i, e, ha, hb e⟩
  · have e' : i = l := by omega
    subst e'
    exfalso
    have hop : zc_op b i = zc_op A i := zc_op_cong ha
    rcases h with h | h
    · rcases zc_op_at A i with z | ⟨j, hj, z⟩
      · have := q i hl
        omega
      · have := q j (by omega)
        rw [ha j hj] at this
        omega
    · have h1 := r i hl
      rw [hop] at h1
      obtain ⟨j, hj, had, hA⟩ := h (b i) (hd rfl) h1 (q i hl)
      exact p i j hl hj had (by rw [ha j hj, hA])
def zc_up (A : Nat → Nat) (l d : Nat) : Nat → Nat := fun j => if j = l then d else A j
theorem zc_up_s (A : Nat → Nat) (l d : Nat) : zc_up A l d l = d := if_pos rfl
theorem zc_up_n (A : Nat → Nat) {l d j : Nat} (h : j ≠ l) : zc_up A l d j = A j := if_neg h
/-- d is the least colour from v on that level l can have -/
def zc_Nx (ad : Nat → Nat → Bool) (K l : Nat) (A : Nat → Nat) (v d : Nat) : Prop :=
  v ≤ d ∧ d ≤ zc_op A l ∧ d + 1 < K ∧ (∀ j, j < l → ad l j = true → A j ≠ d) ∧ ∀ f, v ≤ f → f < d → ∃ j, j < l ∧ ad l j = true ∧ A j = f
theorem zc_ext {ad : Nat → Nat → Bool} {K l v d : Nat} {A : Nat → Nat} (hr : zc_RG A l) (hp : zc_Pr ad A l) (N : zc_Nx ad K l A v d) :
    zc_RG (zc_up A l d) (l + 1) ∧ zc_Pr ad (zc_up A l d) (l + 1) ∧ ∀ y, y ≤ l → zc_op (zc_up A l d) y = zc_op A y := by
  have hop : ∀ y, y ≤ l → zc_op (zc_up A l d) y = zc_op A y := fun y hy => zc_op_cong (fun j hj => zc_up_n A (by omega))
  refine ⟨fun j hj => ?_, fun j k hj hk ha => ?_, hop⟩
  · rw [hop j (by omega)]
    by_cases e : j = l
    · rw [e, zc_up_s]; exact N.2.1
    · rw [zc_up_n A e]; exact hr j (by omega)
  · rw [zc_up_n A (j := k) (by omega)]
    by_cases e : j = l
    · rw [e, zc_up_s]
      rw [e] at ha
      exact fun z => N.2.2.2.1 k (by omega) ha z.symm
    · rw [zc_up_n A e]; exact hp j k (by omega) hk ha
/-- a colouring ahead of the position has at level l a colour from d on -/
theorem zc_ge {ad : Nat → Nat → Bool} {L K l v d : Nat} {A b : Nat → Nat} (N : zc_Nx ad K l A v d) (hl : l < L) (p : zc_Pr ad b L)
    (ha : ∀ j, j < l → b j = A j) (hv : v ≤ b l) : d ≤ b l := by
  rcases Nat.lt_or_ge (b l) d with h | h
  · obtain ⟨j, hj, had, hA⟩ := N.2.2.2.2 (b l) hv h
    exact absurd (by rw [ha j hj, hA]) (p l j hl hj had)
  · exact h
theorem zc_down {ad : Nat → Nat → Bool} {L K l v d : Nat} {A : Nat → Nat} (I : zc_Inv ad L K l A v) (N : zc_Nx ad K l A v d) (hL : l + 1 < L) :
    zc_Inv ad L K (l + 1) (zc_up A l d) 0 := by
  obtain ⟨hl, hv, hr, hp, hc⟩ := I
  obtain ⟨e1, e2, e3⟩ := zc_ext hr hp N
  refine ⟨hL, Nat.zero_le _, e1, e2, fun b r p q => ?_⟩
  obtain ⟨i, hi, ha, hb, hd⟩ := hc b r p q
  by_cases e : i < l
  · refine ⟨i, by omega, fun j hj => ?_, fun _ => ?_, fun _ => Nat.zero_le _⟩
    · rw [zc_up_n A (by omega)]; exact ha j hj
    · rw [zc_up_n A (by omega)]; exact hb e
  · have e' : i = l := by omega
    subst e'
    have hge := zc_ge N hl p ha (hd rfl)
    by_cases eq : b i = d
    · refine ⟨i + 1, by omega, fun j hj => ?_, fun h => by omega, fun _ => Nat.zero_le _⟩
      by_cases ej : j = i
      · rw [ej, zc_up_s]; exact eq
      · rw [zc_up_n A ej]; exact ha j (by omega)
    · refine ⟨i, by omega, fun j hj => ?_, fun _ => ?_, fun _ => Nat.zero_le _⟩
      · rw [zc_up_n A (by omega)]; exact ha j hj
      · rw [zc_up_s]; omega
/-- the last level: a better colouring -/
theorem zc_last {ad : Nat → Nat → Bool} {L K l v d : Nat} {A : Nat → Nat} (I : zc_Inv ad L K l A v) (N : zc_Nx ad K l A v d) (hL : l + 1 = L) (hK : zc_op A l < K) :
    zc_op (zc_up A l d) L < K ∧ zc_Pr ad (zc_up A l d) L ∧ zc_RG (zc_up A l d) L ∧ zc_Back ad L (zc_op (zc_up A l d) L) l (zc_up A l d) := by
  obtain ⟨hl, hv, hr, hp, hc⟩ := I
  obtain ⟨e1, e2, e3⟩ := zc_ext hr hp N
  have hop : zc_op (zc_up A l d) L = if d < zc_op A l then zc_op A l else d + 1 := by
    rw [← hL, zc_op, zc_up_s, e3 l (Nat.le_refl l)]
  have hN := N.2.2.1
  have hlt : zc_op (zc_up A l d) L < K := by
    rw [hop]; split <;> omega
  rw [hL] at e1 e2
  refine ⟨hlt, e2, e1, zc_pop (by omega) (fun j hj => e1 j (by omega)) (fun j k hj hk => e2 j k (by omega) hk) (fun b r p q => ?_)⟩
  obtain ⟨i, hi, ha, hb, hd⟩ := hc b r p (fun i hi => by have := q i hi; omega)
  by_cases e : i < l
  · refine ⟨i, e, fun j hj => ?_, ?_⟩
    · rw [zc_up_n A (by omega)]; exact ha j hj
    · rw [zc_up_n A (by omega)]; exact hb e
  · exfalso
    have e' : i = l := by omega
    subst e'
    have hge := zc_ge N hl p ha (hd rfl)
    have q1 := q i hl
    rw [hop] at q1
    have hd2 := N.2.1
    by_cases z : d < zc_op A i
    · rw [if_pos z] at q1
      rcases zc_op_at A i with z0 | ⟨j, hj, z0⟩
      · omega
      · have q2 := q j (by omega)
        rw [hop, if_pos z, ha j hj] at q2
        omega
    · rw [if_neg z] at q1
      omega
/-- at the end the best is the least -/
theorem zc_done {M : Nat → Nat} {L K : Nat} {ln B : Nat → Nat} (hG : zg_G M) (hs : ∀ s, (zg_U M).testBit s = true ↔ ∃ i, i < L ∧ ln i = s)
    (hi : ∀ i j, i < L → j < L → ln i = ln j → i = j) (hb : ∀ i, i < L → B i < K) (hp : zc_Pr (fun i j => (M (ln i)).testBit (ln j)) B L)
    (hF : zc_Fin (fun i j => (M (ln i)).testBit (ln j)) L K) : zc_Chi M (zg_U M) K := by
  constructor
  · have hinv : ∃ g : Nat → Nat, ∀ i, i < L → g (ln i) = B i := by
      refine ⟨fun s => B (Classical.epsilon (fun i => i < L ∧ ln i = s)), fun i hi' => ?_⟩
      have h := Classical.epsilon_spec (p := fun j => j < L ∧ ln j = ln i) ⟨i, hi', rfl⟩
      try dsimp only
      rw [hi _ i h.1 hi' h.2]
    obtain ⟨g, hg⟩ := hinv
    refine ⟨g, fun s h => ?_, fun s t h h' hst hm => ?_⟩
    · obtain ⟨i, hi', rfl⟩ := (hs s).mp h
      rw [hg i hi']; exact hb i hi'
    · obtain ⟨i, hi', rfl⟩ := (hs s).mp h
      obtain ⟨j, hj', rfl⟩ := (hs t).mp h'
      rw [hg i hi', hg j hj']
      rcases Nat.lt_trichotomy i j with l | l | l
      · exact fun z => hp j i hj' l (hG.2 _ _ hm).1 z.symm
      · rw [l] at hst; exact absurd rfl hst
      · exact hp i j hi' l hm
  · rintro j hj ⟨col, h1, h2⟩
    have hpr : zc_Pr (fun i j => (M (ln i)).testBit (ln j)) (fun i => col (ln i)) L := by
      intro i k hi' hk ha
      refine h2 (ln i) (ln k) ((hs _).mpr ⟨i, hi', rfl⟩) ((hs _).mpr ⟨k, by omega, rfl⟩) (fun z => ?_) ha
      have := hi i k hi' (by omega) z
      omega
    obtain ⟨b, r, p, q⟩ := zc_canon hpr (q := j) (fun x hx => h1 _ ((hs _).mpr ⟨x, hx, rfl⟩)) L (Nat.le_refl L)
    exact hF b r p (fun i hi' => by have := q i hi'; omega)
/-! the count of rounds -/
def zc_V : Nat → Nat
  | 0 => 0
  | j + 1 => 1 + (8 - j) * (1 + zc_V j)
def zc_r (i v : Nat) : Nat := 1 + (i + 1 - v) * (1 + zc_V (7 - i))
def zc_s (A : Nat → Nat) : Nat → Nat
  | 0 => 0
  | i + 1 => zc_s A i + zc_r i (A i + 1)
theorem zc_s_cong {A B : Nat → Nat} : ∀ {i}, (∀ j, j < i → A j = B j) → zc_s A i = zc_s B i := by
  intro i
  induction i with
  | zero => intro _; rfl
  | succ i ih =>
    intro h
    rw [zc_s, zc_s, ih (fun j hj => h j (by omega)), h i (by omega)]
theorem zc_r0 : zc_r 0 0 = 52147 := by decide +kernel
theorem zc_r_pos (i v : Nat) : 1 ≤ zc_r i v := by unfold zc_r; omega
theorem zc_r_s : ∀ l, l ≤ 6 → zc_r (l + 1) 0 = zc_V (7 - l) := by
  intro l h
  have e : 7 - l = (6 - l) + 1 := by omega
  have e2 : 7 - (l + 1) = 6 - l := by omega
  have e3 : 8 - (6 - l) = l + 1 + 1 - 0 := by omega
  unfold zc_r
  rw [e, e2, zc_V, e3]
theorem zc_pd {l v d : Nat} {A : Nat → Nat} (h : l ≤ 6) (h1 : v ≤ d) (h2 : d ≤ l) : zc_s (zc_up A l d) (l + 1) + zc_r (l + 1) 0 + 1 ≤ zc_s A l + zc_r l v := by
  rw [zc_r_s l h, zc_s, zc_up_s, zc_s_cong (A := zc_up A l d) (B := A) (fun j hj => zc_up_n A (by omega))]
  unfold zc_r
  generalize zc_V (7 - l) = q
  have h3 : (l + 1 - (d + 1) + 1) * (1 + q) ≤ (l + 1 - v) * (1 + q) := Nat.mul_le_mul_right _ (by omega)
  rw [Nat.add_mul, Nat.one_mul] at h3
  omega
end
section
/-! the walks of the reference -/
theorem zy_fu {f k : Nat} (h : k < f) : ∃ g, f = g + 1 ∧ k ≤ g := ⟨f - 1, by omega, by omega⟩
section
variable {a_up a_own a_mates a_alone a_least : Nat → Int32} {n : Nat}
theorem zy_isT {post : Int32 → Prop} {c : Nat} (hn : n ≤ 10) (hc : c < n) (h : post 1) : wpY_is post (nI n, a_up, a_own, a_mates, a_alone, a_least) (nI c) :=
  br_f (nI_pos (by omega)) (br_f (nI_ge hc (by omega)) h)
theorem zy_isF {post : Int32 → Prop} {x : Int32} (hx : x < 0 ∨ nI n ≤ x) (h : post 0) : wpY_is post (nI n, a_up, a_own, a_mates, a_alone, a_least) x :=
  br_c (fun _ => h) (fun h1 => br_c (fun _ => h) (fun h2 => absurd hx (fun z => z.elim h1 h2)))
theorem zy_ow25 {post : Int32 → Prop} {s : Nat} (hs : s < 8) (hn : n ≤ 10) (hF : zf_F n a_up) (hO : zf_O n a_own) :
    ∀ k i f x, i + k = 10 → k < f → (x = -1 ∨ ∃ c, c < n ∧ x = nI c) → post (zf_wk (zf_P a_own s) a_up k x) → wY_owner_25 post (nI s) (nI n) a_up a_own a_mates a_alone a_least f x (nI i) := by
  intro k
  induction k with
  | zero =>
    intro i f x hi hf hx hp
    obtain ⟨f, rfl, _⟩ := zy_fu hf
    have e : i = 10 := by omega
    subst e
    exact br_t (nI_le (a := 10) (b := 10) (by omega) (by omega)) hp
  | succ k ih =>
    intro i f x hi hf hx hp
    obtain ⟨f, rfl, hf'⟩ := zy_fu hf
    refine br_f (nI_ge (a := i) (b := 10) (by omega) (by omega)) ?_
    rcases hx with rfl | ⟨c, hc, rfl⟩
    · rw [zf_wk_neg] at hp
      exact br_t zb_m1lt hp
    · have e : ((8 : Int32) * nI c + nI s).toNatClampNeg = 8 * c + s := by rw [zb_ix', nI_clamp (by omega)]
      have hin : vp_in ((8 : Int32) * nI c + nI s) 80 := by rw [zb_ix']; exact vp_in_nI (by omega) (by omega)
      refine br_f (nI_pos (by omega)) ⟨hin, ?_⟩
      rw [zf_wk_s _ _ _ (by omega)] at hp
      rw [e]
      by_cases hz : a_own (8 * c + s) = 0
      · rw [if_neg (by rw [zf_Pf hz]; decide)] at hp
        refine br_t ((zf_Ole hO _).mpr hz) ⟨vp_in_nI (by omega) (by omega), nm_r (e' := a_up c) (by rw [nI_clamp (by omega)]) (nm_r (nI_1 i) ?_)⟩
        exact ih (i + 1) f _ (by omega) (by omega) (hF c hc) hp
      · rw [if_pos (zf_Pt hz)] at hp
        exact br_f (fun z => hz ((zf_Ole hO _).mp z)) hp
theorem zy_owner {post : Int32 → Prop} {c s : Nat} (hn : n ≤ 10) (hF : zf_F n a_up) (hO : zf_O n a_own) (hc : c < n) (hs : s < 8) (hp : post (zf_W a_up a_own c s)) :
    wpY_owner post (nI n, a_up, a_own, a_mates, a_alone, a_least) (nI c) (nI s) := by
  unfold wpY_owner
  dsimp only
  refine zy_isT hn hc (br_f (by decide) (br_f (nI_pos (by omega)) (br_t (nI_le (a := s) (b := 7) (by omega) (by omega)) ⟨11, ?_⟩)))
  exact zy_ow25 hs hn hF hO 10 0 11 (nI c) rfl (by omega) (Or.inr ⟨c, hc, rfl⟩) hp
theorem zy_ownerN {post : Int32 → Prop} {x : Int32} (s : Int32) (hx : x < 0 ∨ nI n ≤ x) (hp : post (-1)) : wpY_owner post (nI n, a_up, a_own, a_mates, a_alone, a_least) x s := by
  unfold wpY_owner
  dsimp only
  exact zy_isF hx (br_t rfl hp)
theorem zy_ownerS {post : Int32 → Prop} {c : Nat} {s : Int32} (hn : n ≤ 10) (hc : c < n) (hs : s < 0 ∨ nI 8 ≤ s) (hp : post (-1)) : wpY_owner post (nI n, a_up, a_own, a_mates, a_alone, a_least) (nI c) s := by
  unfold wpY_owner
  dsimp only
  refine zy_isT hn hc (br_f (by decide) (br_c (fun _ => hp) (fun h0 => br_c (fun h7 => ?_) (fun _ => hp))))
  rcases hs with h | h
  · exact absurd h h0
  · have h8 : (8 : Int32) ≤ 7 := Int32.le_trans h h7
    exact absurd h8 (by decide)
theorem zy_un4 {post : Int32 → Prop} {c : Nat} (hn : n ≤ 10) (hF : zf_F n a_up) (hO : zf_O n a_own) (hc : c < n) (hp : post (nI (zf_K a_up a_own c))) :
    ∀ k i f, i + k = 8 → k < f → wY_understands_4 post (nI c) (nI n) a_up a_own a_mates a_alone a_least f (nI (zb_mk (zf_H a_up a_own c) i)) (nI i) := by
  intro k
  induction k with
  | zero =>
    intro i f hi hf
    obtain ⟨f, rfl, _⟩ := zy_fu hf
    have e : i = 8 := by omega
    subst e
    exact br_t (nI_le (a := 8) (b := 8) (by omega) (by omega)) hp
  | succ k ih =>
    intro i f hi hf
    obtain ⟨f, rfl, hf'⟩ := zy_fu hf
    refine br_f (nI_ge (a := i) (b := 8) (by omega) (by omega)) ?_
    refine zy_owner hn hF hO hc (by omega) ?_
    have hK := ih (i + 1) f (by omega) (by omega)
    by_cases hz : zf_W a_up a_own c i = -1
    · rw [hz]
      rw [zb_mk_0 _ (zf_Hf hz)] at hK
      exact br_t zb_m1lt (nm_r (zb_or0 _) (nm_r (nI_1 i) hK))
    · have h1 : ¬ zf_W a_up a_own c i < 0 := by
        obtain ⟨d, hd, e, _⟩ := zf_HW hn hF hc (zf_Ht hz)
        rw [e]; exact nI_pos (by omega)
      exact br_f h1 (nm_r (zb_mk_1 _ (by omega) (zf_Ht hz)) (nm_r (nI_1 i) hK))
theorem zy_un {post : Int32 → Prop} {c : Nat} (hn : n ≤ 10) (hF : zf_F n a_up) (hO : zf_O n a_own) (hc : c < n) (hp : post (nI (zf_K a_up a_own c))) :
    wpY_understands post (nI n, a_up, a_own, a_mates, a_alone, a_least) (nI c) := ⟨9, zy_un4 hn hF hO hc hp 8 0 9 rfl (by omega)⟩
theorem zy_unN4 {post : Int32 → Prop} {x : Int32} (hx : x < 0 ∨ nI n ≤ x) (hp : post 0) :
    ∀ k i f, i + k = 8 → k < f → wY_understands_4 post x (nI n) a_up a_own a_mates a_alone a_least f 0 (nI i) := by
  intro k
  induction k with
  | zero =>
    intro i f hi hf
    obtain ⟨f, rfl, _⟩ := zy_fu hf
    have e : i = 8 := by omega
    subst e
    exact br_t (nI_le (a := 8) (b := 8) (by omega) (by omega)) hp
  | succ k ih =>
    intro i f hi hf
    obtain ⟨f, rfl, hf'⟩ := zy_fu hf
    refine br_f (nI_ge (a := i) (b := 8) (by omega) (by omega)) ?_
    refine zy_ownerN _ hx ?_
    exact br_t zb_m1lt (nm_r (zb_or0 0) (nm_r (nI_1 i) (ih (i + 1) f (by omega) (by omega))))
theorem zy_unN {post : Int32 → Prop} {x : Int32} (hx : x < 0 ∨ nI n ≤ x) (hp : post 0) : wpY_understands post (nI n, a_up, a_own, a_mates, a_alone, a_least) x :=
  ⟨9, zy_unN4 hx hp 8 0 9 rfl (by omega)⟩
theorem zy_with4 {post : Int32 → Prop} {s : Nat} (hs : s < 8) (hn : n ≤ 10) (hF : zf_F n a_up) (hO : zf_O n a_own) (hp : post (nI (zg_M n a_up a_own s))) :
    ∀ k i f, i + k = n → k < f → wY_with_4 post (nI s) (nI n) a_up a_own a_mates a_alone a_least f (nI (zg_mt (zf_K a_up a_own) s i)) (nI i) := by
  intro k
  induction k with
  | zero =>
    intro i f hi hf
    obtain ⟨f, rfl, _⟩ := zy_fu hf
    have e : i = n := by omega
    subst e
    exact br_t (nI_le (by omega) (by omega)) hp
  | succ k ih =>
    intro i f hi hf
    obtain ⟨f, rfl, hf'⟩ := zy_fu hf
    refine br_f (nI_ge (a := i) (b := n) (by omega) (by omega)) ?_
    refine zy_un hn hF hO (by omega) ?_
    have hK := ih (i + 1) f (by omega) (by omega)
    have hlt := zf_Klt a_up a_own i
    rw [zg_mt] at hK
    by_cases hz : (zf_K a_up a_own i).testBit s = true
    · rw [if_pos hz] at hK
      exact br_t ((zb_b1 (by omega) (by omega)).mpr hz) (nm_r (zb_or _ _) (nm_r (nI_1 i) hK))
    · rw [if_neg hz] at hK
      exact br_f (fun z => hz ((zb_b1 (by omega) (by omega)).mp z)) (nm_r (nI_1 i) hK)
theorem zy_with {post : Int32 → Prop} {s : Nat} (hs : s < 8) (hn : n ≤ 10) (hF : zf_F n a_up) (hO : zf_O n a_own) (hp : post (nI (zg_M n a_up a_own s))) :
    wpY_with post (nI n, a_up, a_own, a_mates, a_alone, a_least) (nI s) := ⟨n + 1, zy_with4 hs hn hF hO hp n 0 (n + 1) (by omega) (by omega)⟩
theorem zy_size4 {post : Int32 → Prop} {m : Nat} (hm : m < 2 ^ 31) (hp : post (nI (zb_cn (fun j => m.testBit j) 8))) :
    ∀ k i f, i + k = 8 → k < f → wY_sizeOf_4 post (nI m) (nI n) a_up a_own a_mates a_alone a_least f (nI (zb_cn (fun j => m.testBit j) i)) (nI i) := by
  intro k
  induction k with
  | zero =>
    intro i f hi hf
    obtain ⟨f, rfl, _⟩ := zy_fu hf
    have e : i = 8 := by omega
    subst e
    exact br_t (nI_le (a := 8) (b := 8) (by omega) (by omega)) hp
  | succ k ih =>
    intro i f hi hf
    obtain ⟨f, rfl, hf'⟩ := zy_fu hf
    have hK := ih (i + 1) f (by omega) (by omega)
    rw [zb_cn] at hK
    refine br_f (nI_ge (a := i) (b := 8) (by omega) (by omega)) ?_
    refine nm_r (by rw [zb_bit hm (by omega), nI_add]) (nm_r (nI_1 i) hK)
theorem zy_size {post : Int32 → Prop} {m : Nat} (hm : m < 2 ^ 31) (hp : post (nI (zb_cn (fun j => m.testBit j) 8))) : wpY_sizeOf post (nI n, a_up, a_own, a_mates, a_alone, a_least) (nI m) :=
  ⟨9, zy_size4 hm hp 8 0 9 rfl (by omega)⟩
theorem zy_find2 {post : SY → Prop} (hn : n ≤ 10) (hF : zf_F n a_up) (hO : zf_O n a_own)
    (hp : ∀ mt, (∀ s, s < 8 → mt s = nI (zg_M n a_up a_own s)) → post (nI n, a_up, a_own, mt, a_alone, a_least)) :
    ∀ k i f mt, i + k = 8 → k < f → (∀ s, s < i → mt s = nI (zg_M n a_up a_own s)) → wY_findMates_2 post (nI n) f (nI i) a_up a_own mt a_alone a_least := by
  intro k
  induction k with
  | zero =>
    intro i f mt hi hf hm
    obtain ⟨f, rfl, _⟩ := zy_fu hf
    have e : i = 8 := by omega
    subst e
    exact br_t (nI_le (a := 8) (b := 8) (by omega) (by omega)) (hp mt hm)
  | succ k ih =>
    intro i f mt hi hf hm
    obtain ⟨f, rfl, hf'⟩ := zy_fu hf
    refine br_f (nI_ge (a := i) (b := 8) (by omega) (by omega)) ?_
    refine zy_with (by omega) hn hF hO ⟨vp_in_nI (by omega) (by omega), nm_r (e' := upd mt i (nI (zg_M n a_up a_own i))) (by rw [nI_clamp (by omega)]) (nm_r (nI_1 i) ?_)⟩
    refine ih (i + 1) f _ (by omega) (by omega) (fun s hs => ?_)
    by_cases e : s = i
    · rw [e, pk_us]
    · rw [pk_un e]; exact hm s (by omega)
theorem zy_find {post : SY → Prop} (hn : n ≤ 10) (hF : zf_F n a_up) (hO : zf_O n a_own)
    (hp : ∀ mt, (∀ s, s < 8 → mt s = nI (zg_M n a_up a_own s)) → post (nI n, a_up, a_own, mt, a_alone, a_least)) : wpY_findMates post (nI n, a_up, a_own, a_mates, a_alone, a_least) :=
  ⟨9, zy_find2 hn hF hO hp 8 0 9 a_mates rfl (by omega) (fun s hs => by omega)⟩
end
/-- every two of the set are understood together -/
def zc_all (m : Nat) (q : Nat → Nat) : Nat → Bool
  | 0 => true
  | n + 1 => zc_all m q n && (!(m.testBit n) || decide (q n = 0))
theorem zc_all_iff (m : Nat) (q : Nat → Nat) : ∀ n, zc_all m q n = true ↔ ∀ i, i < n → m.testBit i = true → q i = 0 := by
  intro n
  induction n with
  | zero => exact ⟨fun _ i hi => by omega, fun _ => rfl⟩
  | succ n ih =>
    rw [zc_all, Bool.and_eq_true, ih, Bool.or_eq_true, decide_eq_true_iff]
    constructor
    · rintro ⟨h1, h2⟩ i hi hb
      by_cases e : i = n
      · subst e
        rcases h2 with h2 | h2
        · rw [hb] at h2; exact absurd h2 (by decide)
        · exact h2
      · exact h1 i (by omega) hb
    · intro h
      refine ⟨fun i hi => h i (by omega), ?_⟩
      cases hb : m.testBit n
      · exact Or.inl rfl
      · exact Or.inr (h n (by omega) hb)
def zc_tg (M : Nat → Nat) (m : Nat) : Bool := zc_all m (fun i => zb_df m (M i)) 8
def zc_b (b : Bool) : Int32 := if b = true then 1 else 0
def zc_cr (M : Nat → Nat) : Nat → Nat
  | 0 => 0
  | i + 1 => if zc_cr M i < zb_cn (fun j => (i + 1).testBit j) 8 ∧ zc_tg M (i + 1) = true then zb_cn (fun j => (i + 1).testBit j) 8 else zc_cr M i
theorem zc_cr_le (M : Nat → Nat) : ∀ i, zc_cr M i ≤ 8 := by
  intro i
  induction i with
  | zero => exact Nat.zero_le 8
  | succ i ih =>
    rw [zc_cr]
    split
    · exact zb_cn_le _ 8
    · exact ih
theorem zc_tgf {M : Nat → Nat} {m i : Nat} (hi : i < 8) (h1 : m.testBit i = true) (h2 : ¬ zb_df m (M i) = 0) : zc_tg M m = false :=
  zb_nt (fun z => h2 ((zc_all_iff m (fun i => zb_df m (M i)) 8).mp z i hi h1))
theorem zc_tgt {M : Nat → Nat} {m : Nat} (h : ∀ i, i < 8 → m.testBit i = true → zb_df m (M i) = 0) : zc_tg M m = true :=
  (zc_all_iff m (fun i => zb_df m (M i)) 8).mpr h
theorem zc_dfz {m k : Nat} (hm : m < 2 ^ 31) : (nI m &&& (nI k ^^^ (-1))) = 0 ↔ zb_df m k = 0 := by
  rw [zb_dfI, zb_z (Nat.lt_of_le_of_lt (zb_df_le m k) hm)]
section
variable {a_up a_own a_mates a_alone a_least : Nat → Int32} {n : Nat} {M : Nat → Nat}
theorem zy_tg4 {post : Int32 → Prop} {m : Nat} (hm : m < 2 ^ 31) (hM : ∀ s, s < 8 → a_mates s = nI (M s)) (hp : post (zc_b (zc_tg M m))) :
    ∀ k i f b, i + k = 8 → k < f → (b = 1 ∧ (∀ j, j < i → m.testBit j = true → zb_df m (M j) = 0) ∨ b = 0 ∧ zc_tg M m = false) → wY_together_4 post (nI m) (nI n) a_up a_own a_mates a_alone a_least f b (nI i) := by
  intro k
  induction k with
  | zero =>
    intro i f b hi hf hb
    obtain ⟨f, rfl, _⟩ := zy_fu hf
    have e : i = 8 := by omega
    subst e
    refine br_t (nI_le (a := 8) (b := 8) (by omega) (by omega)) ?_
    rcases hb with ⟨rfl, h⟩ | ⟨rfl, h⟩
    · rw [zc_tgt h] at hp
      exact ⟨rfl, hp⟩
    · rw [h] at hp
      exact ⟨rfl, hp⟩
  | succ k ih =>
    intro i f b hi hf hb
    obtain ⟨f, rfl, hf'⟩ := zy_fu hf
    have hK := fun b => ih (i + 1) f b (by omega) (by omega)
    refine br_f (nI_ge (a := i) (b := 8) (by omega) (by omega)) ?_
    by_cases hz : m.testBit i = true
    · refine br_t ((zb_b1 hm (by omega)).mpr hz) ?_
      rcases hb with ⟨rfl, h⟩ | ⟨rfl, h⟩
      · refine br_f (by decide) ⟨vp_in_nI (by omega) (by omega), ?_⟩
        rw [nI_clamp (by omega), hM i (by omega)]
        by_cases hd : zb_df m (M i) = 0
        · refine br_t ((zc_dfz hm).mpr hd) (nm_r (nI_1 i) (hK 1 (Or.inl ⟨rfl, fun j hj hb => ?_⟩)))
          by_cases e : j = i
          · rw [e]; exact hd
          · exact h j (by omega) hb
        · exact br_f (fun z => hd ((zc_dfz hm).mp z)) (nm_r (nI_1 i) (hK 0 (Or.inr ⟨rfl, zc_tgf (by omega) hz hd⟩)))
      · exact br_t rfl (nm_r (nI_1 i) (hK 0 (Or.inr ⟨rfl, h⟩)))
    · refine br_f (fun z => hz ((zb_b1 hm (by omega)).mp z)) (nm_r (nI_1 i) (hK b ?_))
      rcases hb with ⟨rfl, h⟩ | ⟨rfl, h⟩
      · refine Or.inl ⟨rfl, fun j hj hb => ?_⟩
        by_cases e : j = i
        · rw [e] at hb; exact absurd hb hz
        · exact h j (by omega) hb
      · exact Or.inr ⟨rfl, h⟩
theorem zy_tg {post : Int32 → Prop} {m : Nat} (hm : m < 2 ^ 31) (hM : ∀ s, s < 8 → a_mates s = nI (M s)) (hp : post (zc_b (zc_tg M m))) :
    wpY_together post (nI n, a_up, a_own, a_mates, a_alone, a_least) (nI m) :=
  ⟨9, zy_tg4 hm hM hp 8 0 9 1 rfl (by omega) (Or.inl ⟨rfl, fun j hj => by omega⟩)⟩
theorem zy_crowd8 {post : Int32 → SY → Prop} (hM : ∀ s, s < 8 → a_mates s = nI (M s)) (hp : post (nI (zc_cr M 255)) (nI n, a_up, a_own, a_mates, a_alone, a_least)) :
    ∀ k i f, i + k = 255 → k < f → wY_crowd_8 post (nI n) a_up a_own a_mates a_alone a_least f (nI (zc_cr M i)) (nI (i + 1)) := by
  intro k
  induction k with
  | zero =>
    intro i f hi hf
    obtain ⟨f, rfl, _⟩ := zy_fu hf
    have e : i = 255 := by omega
    subst e
    exact br_t (nI_le (a := 256) (b := 256) (by omega) (by omega)) hp
  | succ k ih =>
    intro i f hi hf
    obtain ⟨f, rfl, hf'⟩ := zy_fu hf
    have hK := ih (i + 1) f (by omega) (by omega)
    have hc1 := zc_cr_le M i
    have hc2 := zb_cn_le (fun j => (i + 1).testBit j) 8
    rw [zc_cr] at hK
    refine br_f (nI_ge (a := i + 1) (b := 256) (by omega) (by omega)) (zy_size (by omega) ?_)
    by_cases h1 : zc_cr M i < zb_cn (fun j => (i + 1).testBit j) 8
    · refine br_f (nI_ge h1 (by omega)) (zy_tg (by omega) hM ?_)
      cases ht : zc_tg M (i + 1)
      · rw [if_neg (by rw [ht]; exact fun z => absurd z.2 (by decide))] at hK
        exact br_t rfl (nm_r (nI_1 (i + 1)) hK)
      · rw [if_pos ⟨h1, ht⟩] at hK
        exact br_f (by decide) (nm_r (nI_1 (i + 1)) hK)
    · rw [if_neg (fun z => h1 z.1)] at hK
      exact br_t (nI_le (by omega) (by omega)) (nm_r (nI_1 (i + 1)) hK)
end
section
variable {a_up a_own a_mates a_alone a_least : Nat → Int32} {n : Nat}
theorem zy_crowd {post : Int32 → SY → Prop} (hn : n ≤ 10) (hF : zf_F n a_up) (hO : zf_O n a_own)
    (hp : ∀ mt, post (nI (zc_cr (zg_M n a_up a_own) 255)) (nI n, a_up, a_own, mt, a_alone, a_least)) : wpY_crowd post (nI n, a_up, a_own, a_mates, a_alone, a_least) := by
  unfold wpY_crowd
  dsimp only
  refine zy_find hn hF hO (fun mt hm => ?_)
  exact ⟨256, zy_crowd8 (M := zg_M n a_up a_own) hm (hp mt) 255 0 256 rfl (by omega)⟩
end
end
section
/-! the reference's colours -/
def zc_al (M : Nat → Nat) (m : Nat) : Bool := zc_all m (fun i => zb_df (m &&& M i) (2 ^ i)) 8
theorem zc_alz (M : Nat → Nat) {m i : Nat} (hm : m < 256) : zb_df (m &&& M i) (2 ^ i) = 0 ↔ ∀ t, m.testBit t = true → (M i).testBit t = true → i = t := by
  have hlt : m &&& M i < 2 ^ 31 := Nat.lt_of_le_of_lt Nat.and_le_left (by omega)
  rw [zb_zb]
  constructor
  · intro h t h1 h2
    have := h t
    rw [zb_df_bit hlt, Nat.testBit_and, h1, h2, Nat.testBit_two_pow] at this
    by_cases e : i = t
    · exact e
    · rw [decide_eq_false e] at this; exact absurd this (by decide)
  · intro h t
    rw [zb_df_bit hlt, Nat.testBit_and, Nat.testBit_two_pow]
    cases h1 : m.testBit t
    · rfl
    · cases h2 : (M i).testBit t
      · rfl
      · rw [decide_eq_true (h t h1 h2)]; rfl
theorem zc_alA {M : Nat → Nat} {m : Nat} (hm : m < 256) : zc_al M m = true ↔ zc_Al M m := by
  rw [zc_al, zc_all_iff]
  constructor
  · intro h s t hs ht hst
    cases e : (M s).testBit t
    · rfl
    · exact absurd ((zc_alz M hm).mp (h s (zb_in (k := 8) hm hs) hs) t ht e) hst
  · intro h i hi hb
    rw [zc_alz M hm]
    intro t ht h2
    by_cases e : i = t
    · exact e
    · rw [h i t hb ht e] at h2; exact absurd h2 (by decide)
theorem zc_alf {M : Nat → Nat} {m i : Nat} (hi : i < 8) (h1 : m.testBit i = true) (h2 : ¬ zb_df (m &&& M i) (2 ^ i) = 0) : zc_al M m = false :=
  zb_nt (fun z => h2 ((zc_all_iff m (fun i => zb_df (m &&& M i) (2 ^ i)) 8).mp z i hi h1))
theorem zc_alt {M : Nat → Nat} {m : Nat} (h : ∀ i, i < 8 → m.testBit i = true → zb_df (m &&& M i) (2 ^ i) = 0) : zc_al M m = true :=
  (zc_all_iff m (fun i => zb_df (m &&& M i) (2 ^ i)) 8).mpr h
theorem zc_aleq (M : Nat → Nat) {m i : Nat} (hm : m < 256) (hi : i < 8) : ((nI m &&& nI (M i)) &&& (((1 : Int32) <<< (nI i &&& 31)) ^^^ (-1))) = 0 ↔ zb_df (m &&& M i) (2 ^ i) = 0 := by
  rw [nx_and, zb_shl i (by omega), zc_dfz (Nat.lt_of_le_of_lt Nat.and_le_left (by omega))]
def zc_L (M : Nat → Nat) (le : Nat → Int32) (T : Nat) : Prop := ∃ k, k ≤ 8 ∧ le T = nI k ∧ zc_Chi M T k
def zc_DI (M : Nat → Nat) (le : Nat → Int32) (S : Nat) : Prop := (∀ T, T < S → zc_Sub T (zg_U M) → zc_L M le T) ∧ ∀ T, S ≤ T → T < 256 → le T = nI 8
section
variable {a_up a_own a_mates a_alone a_least : Nat → Int32} {n : Nat} {M : Nat → Nat}
theorem zy_st4 {post : Int32 → Prop} {m : Nat} (hm : m < 256) (hM : ∀ s, s < 8 → a_mates s = nI (M s)) (hp : post (zc_b (zc_al M m))) :
    ∀ k i f b, i + k = 8 → k < f → (b = 1 ∧ (∀ j, j < i → m.testBit j = true → zb_df (m &&& M j) (2 ^ j) = 0) ∨ b = 0 ∧ zc_al M m = false) → wY_strangers_4 post (nI m) (nI n) a_up a_own a_mates a_alone a_least f b (nI i) := by
  intro k
  induction k with
  | zero =>
    intro i f b hi hf hb
    obtain ⟨f, rfl, _⟩ := zy_fu hf
    have e : i = 8 := by omega
    subst e
    refine br_t (nI_le (a := 8) (b := 8) (by omega) (by omega)) ?_
    rcases hb with ⟨rfl, h⟩ | ⟨rfl, h⟩
    · rw [zc_alt h] at hp
      exact ⟨rfl, hp⟩
    · rw [h] at hp
      exact ⟨rfl, hp⟩
  | succ k ih =>
    intro i f b hi hf hb
    obtain ⟨f, rfl, hf'⟩ := zy_fu hf
    have hK := fun b => ih (i + 1) f b (by omega) (by omega)
    refine br_f (nI_ge (a := i) (b := 8) (by omega) (by omega)) ?_
    by_cases hz : m.testBit i = true
    · refine br_t ((zb_b1 (by omega) (by omega)).mpr hz) ?_
      rcases hb with ⟨rfl, h⟩ | ⟨rfl, h⟩
      · refine br_f (by decide) ⟨vp_in_nI (by omega) (by omega), ?_⟩
        rw [nI_clamp (by omega), hM i (by omega)]
        by_cases hd : zb_df (m &&& M i) (2 ^ i) = 0
        · refine br_t ((zc_aleq M hm (by omega)).mpr hd) (nm_r (nI_1 i) (hK 1 (Or.inl ⟨rfl, fun j hj hb => ?_⟩)))
          by_cases e : j = i
          · rw [e]; exact hd
          · exact h j (by omega) hb
        · exact br_f (fun z => hd ((zc_aleq M hm (by omega)).mp z)) (nm_r (nI_1 i) (hK 0 (Or.inr ⟨rfl, zc_alf (by omega) hz hd⟩)))
      · exact br_t rfl (nm_r (nI_1 i) (hK 0 (Or.inr ⟨rfl, h⟩)))
    · refine br_f (fun z => hz ((zb_b1 (by omega) (by omega)).mp z)) (nm_r (nI_1 i) (hK b ?_))
      rcases hb with ⟨rfl, h⟩ | ⟨rfl, h⟩
      · refine Or.inl ⟨rfl, fun j hj hb => ?_⟩
        by_cases e : j = i
        · rw [e] at hb; exact absurd hb hz
        · exact h j (by omega) hb
      · exact Or.inr ⟨rfl, h⟩
theorem zy_st {post : Int32 → Prop} {m : Nat} (hm : m < 256) (hM : ∀ s, s < 8 → a_mates s = nI (M s)) (hp : post (zc_b (zc_al M m))) :
    wpY_strangers post (nI n, a_up, a_own, a_mates, a_alone, a_least) (nI m) :=
  ⟨9, zy_st4 hm hM hp 8 0 9 1 rfl (by omega) (Or.inl ⟨rfl, fun j hj => by omega⟩)⟩
/-- the inner loop: all parts of the set S -/
theorem zy_col82 {post : Int32 → SY → Prop} {J : Int32 → (Nat → Int32) → (Nat → Int32) → (Nat → Int32) → (Nat → Int32) → (Nat → Int32) → Prop} {S : Nat}
    (hG : zg_G M) (hS : S < 256) (hS0 : 1 ≤ S) (hal : ∀ T, T < 256 → a_alone T = zc_b (zc_al M T))
    (hJ : ∀ le, zc_DI M le (S + 1) → J (nI (S + 1)) a_up a_own a_mates a_alone le) :
    ∀ k P f le, P + k = S + 1 → 1 ≤ P → k < f → (∀ T, T < S → zc_Sub T (zg_U M) → zc_L M le T) → (∀ T, S < T → T < 256 → le T = nI 8) →
      (∃ m, m ≤ 8 ∧ le S = nI m ∧ (zc_Sub S (zg_U M) → zc_Col M S m ∧ ∀ T k, 1 ≤ T → T < P → zc_Sub T S → zc_Al M T → zc_Chi M (zb_df S T) k → m ≤ k + 1)) →
      wY_colours_82 post J (nI (zg_U M)) (nI S) (nI n) f (nI P) a_up a_own a_mates a_alone le := by
  intro k
  induction k with
  | zero =>
    intro P f le hP hP1 hf h1 h2 h3
    obtain ⟨f, rfl, _⟩ := zy_fu hf
    refine br_t (nI_lt (by omega) (by omega)) (nm_r (nI_1 S) (hJ le ⟨fun T hT hU => ?_, fun T hT => h2 T (by omega)⟩))
    by_cases e : T = S
    · subst e
      obtain ⟨m, hm, e1, h⟩ := h3
      obtain ⟨h4, h5⟩ := h hU
      exact ⟨m, hm, e1, zc_rec hS (by omega) h4 (fun T' k a b => h5 T' k a (by omega))⟩
    · exact h1 T (by omega) hU
  | succ k ih =>
    intro P f le hP hP1 hf h1 h2 h3
    obtain ⟨f, rfl, hf'⟩ := zy_fu hf
    have hUlt : zg_U M < 256 := zg_or_lt hG.1 8
    refine br_f (nI_nlt (by omega) (by omega)) ?_
    by_cases hU : zc_Sub S (zg_U M)
    · refine br_t ((zb_df0 (by omega)).mpr hU) ?_
      obtain ⟨m, hm, e1, h⟩ := h3
      obtain ⟨h4, h5⟩ := h hU
      by_cases hsub : zc_Sub P S
      · refine br_t ((zb_df0 (by omega)).mpr hsub) ⟨vp_in_nI (by omega) (by omega), ?_⟩
        rw [nI_clamp (by omega), hal P (by omega)]
        by_cases ha : zc_al M P = true
        · rw [ha]
          have hA : zc_Al M P := (zc_alA (by omega)).mp ha
          have hdl : zb_df S P < S := zc_df_lt (by omega) (by omega) hsub
          obtain ⟨q, hq, eq, hchi⟩ := h1 (zb_df S P) hdl (zc_df_sub (by omega) hU)
          refine br_f (by decide) ?_
          rw [zb_dfI]
          refine ⟨vp_in_nI (by omega) (by omega), nm_r (e' := nI (q + 1)) (by rw [nI_clamp (by omega), eq, nI_1]) ⟨vp_in_nI (by omega) (by omega), ?_⟩⟩
          rw [nI_clamp (n := S) (by omega), e1]
          by_cases hle : m ≤ q + 1
          · refine br_t (nI_le hle (by omega)) ⟨vp_in_nI (by omega) (by omega), vp_in_nI (by omega) (by omega), nm_r (e' := le) (zb_upd e1) (nm_r (nI_1 P) ?_)⟩
            refine ih (P + 1) f le (by omega) (by omega) (by omega) h1 h2 ⟨m, hm, e1, fun _ => ⟨h4, fun T k a b c d e => ?_⟩⟩
            by_cases eT : T = P
            · subst eT
              rw [zc_Chi_u e hchi]; exact hle
            · exact h5 T k a (by omega) c d e
          · refine br_f (nI_ge (by omega) (by omega)) ⟨vp_in_nI (by omega) (by omega), nm_e (nm_r (nI_1 P) ?_)⟩
            refine ih (P + 1) f (upd le S (nI (q + 1))) (by omega) (by omega) (by omega) (fun T hT hTU => ?_) (fun T hT hT' => ?_) ⟨q + 1, by omega, pk_us, fun _ => ⟨zc_Col_s hG (by omega) hA hchi.1, fun T k a b c d e => ?_⟩⟩
            · obtain ⟨k', a, b, c⟩ := h1 T hT hTU
              exact ⟨k', a, by rw [pk_un (by omega)]; exact b, c⟩
            · rw [pk_un (by omega)]; exact h2 T hT hT'
            · by_cases eT : T = P
              · subst eT
                rw [zc_Chi_u e hchi]; exact Nat.le_refl _
              · have := h5 T k a (by omega) c d e
                omega
        · rw [zb_nt ha]
          refine br_t rfl (nm_r (nI_1 P) ?_)
          refine ih (P + 1) f le (by omega) (by omega) (by omega) h1 h2 ⟨m, hm, e1, fun _ => ⟨h4, fun T k a b c d e => ?_⟩⟩
          by_cases eT : T = P
          · subst eT
            exact absurd ((zc_alA (by omega)).mpr d) ha
          · exact h5 T k a (by omega) c d e
      · refine br_f (fun z => hsub ((zb_df0 (by omega)).mp z)) (nm_r (nI_1 P) ?_)
        refine ih (P + 1) f le (by omega) (by omega) (by omega) h1 h2 ⟨m, hm, e1, fun _ => ⟨h4, fun T k a b c d e => ?_⟩⟩
        by_cases eT : T = P
        · subst eT
          exact absurd c hsub
        · exact h5 T k a (by omega) c d e
    · refine br_f (fun z => hU ((zb_df0 (by omega)).mp z)) (nm_r (nI_1 S) (hJ le ⟨fun T hT hTU => ?_, fun T hT => h2 T (by omega)⟩))
      by_cases e : T = S
      · subst e; exact absurd hTU hU
      · exact h1 T (by omega) hTU
theorem zy_col73 {post : Int32 → SY → Prop} (hG : zg_G M) (hal : ∀ T, T < 256 → a_alone T = zc_b (zc_al M T))
    (hp : ∀ le k, k ≤ 8 → zc_Chi M (zg_U M) k → post (nI k) (nI n, a_up, a_own, a_mates, a_alone, le)) :
    ∀ k S f le, S + k = 256 → 1 ≤ S → k < f → zc_DI M le S → wY_colours_73 post (nI (zg_U M)) (nI n) f (nI S) a_up a_own a_mates a_alone le := by
  intro k
  induction k with
  | zero =>
    intro S f le hS hS1 hf hD
    obtain ⟨f, rfl, _⟩ := zy_fu hf
    have e : S = 256 := by omega
    subst e
    have hUlt : zg_U M < 256 := zg_or_lt hG.1 8
    obtain ⟨k, hk, e, hc⟩ := hD.1 (zg_U M) hUlt (fun i hi => hi)
    refine br_t (nI_le (a := 256) (b := 256) (by omega) (by omega)) ⟨vp_in_nI hUlt (by omega), ?_⟩
    rw [nI_clamp (by omega), e]
    exact hp le k hk hc
  | succ k ih =>
    intro S f le hS hS1 hf hD
    obtain ⟨f, rfl, hf'⟩ := zy_fu hf
    refine br_f (nI_ge (a := S) (b := 256) (by omega) (by omega)) ⟨S + 1, ?_⟩
    refine zy_col82 hG (by omega) hS1 hal (fun le' h => ih (S + 1) f le' (by omega) (by omega) (by omega) h) S 1 (S + 1) le (by omega) (by omega) (by omega) hD.1 (fun T hT => hD.2 T (by omega)) ⟨8, Nat.le_refl 8, hD.2 S (Nat.le_refl S) (by omega), fun _ => ⟨zc_Col_8 M (by omega), fun T k a b => by omega⟩⟩
theorem zy_col31 {post : Int32 → SY → Prop} (hG : zg_G M) (hM : ∀ s, s < 8 → a_mates s = nI (M s))
    (hp : ∀ al le k, k ≤ 8 → zc_Chi M (zg_U M) k → post (nI k) (nI n, a_up, a_own, a_mates, al, le)) :
    ∀ k i f al le, i + k = 256 → k < f → (∀ T, T < i → al T = zc_b (zc_al M T)) → (∀ T, T < i → le T = if T = 0 then 0 else nI 8) →
      wY_colours_31 post (nI (zg_U M)) (nI n) f (nI i) a_up a_own a_mates al le := by
  intro k
  induction k with
  | zero =>
    intro i f al le hi hf h1 h2
    obtain ⟨f, rfl, _⟩ := zy_fu hf
    have e : i = 256 := by omega
    subst e
    refine br_t (nI_le (a := 256) (b := 256) (by omega) (by omega)) ⟨256, ?_⟩
    refine zy_col73 hG h1 (fun le' k hk hc => hp al le' k hk hc) 255 1 256 le (by omega) (by omega) (by omega) ⟨fun T hT _ => ?_, fun T hT hT' => ?_⟩
    · have e : T = 0 := by omega
      subst e
      exact ⟨0, by omega, by rw [h2 0 (by omega), if_pos rfl]; rfl, zc_Chi_0 M⟩
    · rw [h2 T hT', if_neg (by omega)]
  | succ k ih =>
    intro i f al le hi hf h1 h2
    obtain ⟨f, rfl, hf'⟩ := zy_fu hf
    refine br_f (nI_ge (a := i) (b := 256) (by omega) (by omega)) (zy_st (by omega) hM ?_)
    have hnar : vp_nar .boolean (zc_b (zc_al M i)) = zc_b (zc_al M i) := by cases zc_al M i <;> rfl
    refine ⟨vp_in_nI (by omega) (by omega), nm_r (e' := upd al i (zc_b (zc_al M i))) (by rw [nI_clamp (by omega), hnar]) ?_⟩
    have hal' : ∀ T, T < i + 1 → upd al i (zc_b (zc_al M i)) T = zc_b (zc_al M T) := by
      intro T hT
      by_cases e : T = i
      · rw [e, pk_us]
      · rw [pk_un e]; exact h1 T (by omega)
    by_cases hz : i = 0
    · subst hz
      refine br_t rfl ⟨vp_in_nI (n := 0) (by omega) (by omega), nm_r (e' := upd le 0 0) rfl (nm_r (nI_1 0) ?_)⟩
      refine ih (0 + 1) f _ _ (by omega) (by omega) hal' (fun T hT => ?_)
      have e : T = 0 := by omega
      rw [e, pk_us, if_pos rfl]
    · refine br_f (nI_ne0 (by omega) (by omega)) ⟨vp_in_nI (by omega) (by omega), nm_r (e' := upd le i (nI 8)) (by rw [nI_clamp (by omega)]; rfl) (nm_r (nI_1 i) ?_)⟩
      refine ih (i + 1) f _ _ (by omega) (by omega) hal' (fun T hT => ?_)
      by_cases e : T = i
      · rw [e, pk_us, if_neg hz]
      · rw [pk_un e]; exact h2 T (by omega)
theorem zy_col8 {post : Int32 → SY → Prop} (hG : zg_G M) (hM : ∀ s, s < 8 → a_mates s = nI (M s))
    (hp : ∀ al le k, k ≤ 8 → zc_Chi M (zg_U M) k → post (nI k) (nI n, a_up, a_own, a_mates, al, le)) :
    ∀ k i f, i + k = 8 → k < f → wY_colours_8 post (nI n) a_up a_own a_mates a_alone a_least f (nI (zg_or M i)) (nI i) := by
  intro k
  induction k with
  | zero =>
    intro i f hi hf
    obtain ⟨f, rfl, _⟩ := zy_fu hf
    have e : i = 8 := by omega
    subst e
    exact br_t (nI_le (a := 8) (b := 8) (by omega) (by omega)) ⟨257, zy_col31 hG hM hp 256 0 257 a_alone a_least rfl (by omega) (fun T hT => by omega) (fun T hT => by omega)⟩
  | succ k ih =>
    intro i f hi hf
    obtain ⟨f, rfl, hf'⟩ := zy_fu hf
    refine br_f (nI_ge (a := i) (b := 8) (by omega) (by omega)) ⟨vp_in_nI (by omega) (by omega), ?_⟩
    rw [nI_clamp (by omega), hM i (by omega)]
    exact nm_r (zb_or _ _) (nm_r (nI_1 i) (ih (i + 1) f (by omega) (by omega)))
end
section
variable {a_up a_own a_mates a_alone a_least : Nat → Int32} {n : Nat}
theorem zy_colours {post : Int32 → SY → Prop} (hn : n ≤ 10) (hF : zf_F n a_up) (hO : zf_O n a_own)
    (hp : ∀ mt al le k, k ≤ 8 → zc_Chi (zg_M n a_up a_own) (zg_U (zg_M n a_up a_own)) k → post (nI k) (nI n, a_up, a_own, mt, al, le)) : wpY_colours post (nI n, a_up, a_own, a_mates, a_alone, a_least) := by
  unfold wpY_colours
  dsimp only
  refine zy_find hn hF hO (fun mt hm => ?_)
  exact ⟨9, zy_col8 (zg_MG n a_up a_own) hm (fun al le k => hp mt al le k) 8 0 9 rfl (by omega)⟩
end
end
section
/-! X: the small walks -/
section
variable {f_count f_built f_lineLength f_colourCount : Int32} {a_above a_defined a_known a_meets a_colour a_best a_line a_shift a_entryClass a_entrySelector a_entryOwner a_entryMethod a_rowOwner a_down : Nat → Int32} {n : Nat} {M : Nat → Nat}
theorem zx_isT {post : Int32 → Prop} {c : Nat} (hn : n ≤ 10) (hc : c < n) (h : post 1) : wpX_isClass post (nI n, f_built, f_lineLength, f_colourCount, a_above, a_defined, a_known, a_meets, a_colour, a_best, a_line, a_shift, a_entryClass, a_entrySelector, a_entryOwner, a_entryMethod, a_rowOwner, a_down) (nI c) :=
  br_f (nI_pos (by omega)) (br_f (nI_ge hc (by omega)) h)
theorem zx_isF {post : Int32 → Prop} {x : Int32} (hx : x < 0 ∨ nI n ≤ x) (h : post 0) : wpX_isClass post (nI n, f_built, f_lineLength, f_colourCount, a_above, a_defined, a_known, a_meets, a_colour, a_best, a_line, a_shift, a_entryClass, a_entrySelector, a_entryOwner, a_entryMethod, a_rowOwner, a_down) x :=
  br_c (fun _ => h) (fun h1 => br_c (fun _ => h) (fun h2 => absurd hx (fun z => z.elim h1 h2)))
theorem zx_slT {post : Int32 → Prop} {s : Nat} (hs : s < 8) (h : post 1) : wpX_isSelector post (nI s) :=
  br_f (nI_pos (by omega)) (br_f (nI_ge (b := 8) hs (by omega)) h)
theorem zx_slF {post : Int32 → Prop} {x : Int32} (hx : x < 0 ∨ nI 8 ≤ x) (h : post 0) : wpX_isSelector post x :=
  br_c (fun _ => h) (fun h1 => br_c (fun _ => h) (fun h2 => absurd hx (fun z => z.elim h1 h2)))
theorem zx_own4 {post : Int32 → Prop} {c : Nat} (hc : c < 10) (hp : post (nI (zf_D a_defined c))) :
    ∀ k i f, i + k = 8 → k < f → wX_own_4 post (nI c) f_count f_built f_lineLength f_colourCount a_above a_defined a_known a_meets a_colour a_best a_line a_shift a_entryClass a_entrySelector a_entryOwner a_entryMethod a_rowOwner a_down f (nI (zb_mk (fun s => zf_P a_defined s c) i)) (nI i) := by
  intro k
  induction k with
  | zero =>
    intro i f hi hf
    obtain ⟨f, rfl, _⟩ := zy_fu hf
    have e : i = 8 := by omega
    subst e
    exact br_t (nI_le (a := 8) (b := 8) (by omega) (by omega)) hp
  | succ k ih =>
    intro i f hi hf
    obtain ⟨f, rfl, hf'⟩ := zy_fu hf
    have hK := ih (i + 1) f (by omega) (by omega)
    have hin : vp_in (nI c * 8 + nI i) 80 := by rw [zb_ix]; exact vp_in_nI (by omega) (by omega)
    refine br_f (nI_ge (a := i) (b := 8) (by omega) (by omega)) ⟨hin, ?_⟩
    rw [zb_ix, nI_clamp (by omega)]
    by_cases hz : a_defined (8 * c + i) = 0
    · rw [zb_mk_0 (fun s => zf_P a_defined s c) (zf_Pf hz)] at hK
      exact br_t hz (nm_r (nI_1 i) hK)
    · exact br_f hz (nm_r (zb_mk_1 (fun s => zf_P a_defined s c) (by omega) (zf_Pt hz)) (nm_r (nI_1 i) hK))
theorem zx_own {post : Int32 → Prop} {c : Nat} (hc : c < 10) (hp : post (nI (zf_D a_defined c))) : wpX_own post (f_count, f_built, f_lineLength, f_colourCount, a_above, a_defined, a_known, a_meets, a_colour, a_best, a_line, a_shift, a_entryClass, a_entrySelector, a_entryOwner, a_entryMethod, a_rowOwner, a_down) (nI c) :=
  ⟨9, zx_own4 hc hp 8 0 9 rfl (by omega)⟩
theorem zx_size4 {post : Int32 → Prop} {m : Nat} (hm : m < 2 ^ 31) (hp : post (nI (zb_cn (fun j => m.testBit j) 8))) :
    ∀ k i f, i + k = 8 → k < f → wX_sizeOf_4 post (nI m) f (nI (zb_cn (fun j => m.testBit j) i)) (nI i) := by
  intro k
  induction k with
  | zero =>
    intro i f hi hf
    obtain ⟨f, rfl, _⟩ := zy_fu hf
    have e : i = 8 := by omega
    subst e
    exact br_t (nI_le (a := 8) (b := 8) (by omega) (by omega)) hp
  | succ k ih =>
    intro i f hi hf
    obtain ⟨f, rfl, hf'⟩ := zy_fu hf
    have hK := ih (i + 1) f (by omega) (by omega)
    rw [zb_cn] at hK
    refine br_f (nI_ge (a := i) (b := 8) (by omega) (by omega)) ?_
    refine nm_r (by rw [zb_bit hm (by omega), nI_add]) (nm_r (nI_1 i) hK)
theorem zx_size {post : Int32 → Prop} {m : Nat} (hm : m < 2 ^ 31) (hp : post (nI (zb_cn (fun j => m.testBit j) 8))) : wpX_sizeOf post (nI m) :=
  ⟨9, zx_size4 hm hp 8 0 9 rfl (by omega)⟩
theorem zx_cw2 {post : Int32 → Prop} {m : Nat} (hm : m < 2 ^ 31) (hM : ∀ s, s < 8 → a_meets s = nI (M s)) (hp : post (zc_b (zc_tg M m))) :
    ∀ k i f, i + k = 8 → k < f → (∀ j, j < i → m.testBit j = true → zb_df m (M j) = 0) → wX_crowded_2 post (nI m) f_count f_built f_lineLength f_colourCount a_above a_defined a_known a_meets a_colour a_best a_line a_shift a_entryClass a_entrySelector a_entryOwner a_entryMethod a_rowOwner a_down f (nI i) := by
  intro k
  induction k with
  | zero =>
    intro i f hi hf hb
    obtain ⟨f, rfl, _⟩ := zy_fu hf
    have e : i = 8 := by omega
    subst e
    refine br_t (nI_le (a := 8) (b := 8) (by omega) (by omega)) ?_
    rw [zc_tgt hb] at hp
    exact hp
  | succ k ih =>
    intro i f hi hf hb
    obtain ⟨f, rfl, hf'⟩ := zy_fu hf
    have hK := ih (i + 1) f (by omega) (by omega)
    refine br_f (nI_ge (a := i) (b := 8) (by omega) (by omega)) ?_
    by_cases hz : m.testBit i = true
    · refine br_f (fun z => ?_) ⟨vp_in_nI (by omega) (by omega), ?_⟩
      · rw [(zb_b0 hm (by omega)).mp z] at hz; exact absurd hz (by decide)
      rw [nI_clamp (by omega), hM i (by omega)]
      by_cases hd : zb_df m (M i) = 0
      · refine br_t ((zc_dfz hm).mpr hd) (nm_r (nI_1 i) (hK (fun j hj hb' => ?_)))
        by_cases e : j = i
        · rw [e]; exact hd
        · exact hb j (by omega) hb'
      · rw [zc_tgf (by omega) hz hd] at hp
        exact br_f (fun z => hd ((zc_dfz hm).mp z)) hp
    · refine br_t ((zb_b0 hm (by omega)).mpr (zb_nt hz)) (nm_r (nI_1 i) (hK (fun j hj hb' => ?_)))
      by_cases e : j = i
      · rw [e] at hb'; exact absurd hb' hz
      · exact hb j (by omega) hb'
theorem zx_cw {post : Int32 → Prop} {m : Nat} (hm : m < 2 ^ 31) (hM : ∀ s, s < 8 → a_meets s = nI (M s)) (hp : post (zc_b (zc_tg M m))) : wpX_crowded post (f_count, f_built, f_lineLength, f_colourCount, a_above, a_defined, a_known, a_meets, a_colour, a_best, a_line, a_shift, a_entryClass, a_entrySelector, a_entryOwner, a_entryMethod, a_rowOwner, a_down) (nI m) :=
  ⟨9, zx_cw2 hm hM hp 8 0 9 rfl (by omega) (fun j hj => by omega)⟩
theorem zx_crowd8 {post : Int32 → SX → Prop} (hM : ∀ s, s < 8 → a_meets s = nI (M s)) (hp : post (nI (zc_cr M 255)) (f_count, f_built, f_lineLength, f_colourCount, a_above, a_defined, a_known, a_meets, a_colour, a_best, a_line, a_shift, a_entryClass, a_entrySelector, a_entryOwner, a_entryMethod, a_rowOwner, a_down)) :
    ∀ k i f, i + k = 255 → k < f → wX_crowd_8 post f_count f_built f_lineLength f_colourCount a_above a_defined a_known a_meets a_colour a_best a_line a_shift a_entryClass a_entrySelector a_entryOwner a_entryMethod a_rowOwner a_down f (nI (zc_cr M i)) (nI (i + 1)) := by
  intro k
  induction k with
  | zero =>
    intro i f hi hf
    obtain ⟨f, rfl, _⟩ := zy_fu hf
    have e : i = 255 := by omega
    subst e
    exact br_t (nI_le (a := 256) (b := 256) (by omega) (by omega)) hp
  | succ k ih =>
    intro i f hi hf
    obtain ⟨f, rfl, hf'⟩ := zy_fu hf
    have hK := ih (i + 1) f (by omega) (by omega)
    have hc1 := zc_cr_le M i
    have hc2 := zb_cn_le (fun j => (i + 1).testBit j) 8
    rw [zc_cr] at hK
    refine br_f (nI_ge (a := i + 1) (b := 256) (by omega) (by omega)) (zx_size (by omega) ?_)
    by_cases h1 : zc_cr M i < zb_cn (fun j => (i + 1).testBit j) 8
    · refine br_f (nI_ge h1 (by omega)) (zx_cw (by omega) hM ?_)
      cases ht : zc_tg M (i + 1)
      · rw [if_neg (by rw [ht]; exact fun z => absurd z.2 (by decide))] at hK
        exact br_t rfl (nm_r (nI_1 (i + 1)) hK)
      · rw [if_pos ⟨h1, ht⟩] at hK
        exact br_f (by decide) (nm_r (nI_1 (i + 1)) hK)
    · rw [if_neg (fun z => h1 z.1)] at hK
      exact br_t (nI_le (by omega) (by omega)) (nm_r (nI_1 (i + 1)) hK)
/-- a new row is empty already -/
theorem zx_add40 {post : Int32 → SX → Prop} (hn : n < 10) (h0 : ∀ j, 8 * n ≤ j → a_defined j = 0) (hp : post (nI n) (nI (n + 1), 0, f_lineLength, f_colourCount, a_above, a_defined, a_known, a_meets, a_colour, a_best, a_line, a_shift, a_entryClass, a_entrySelector, a_entryOwner, a_entryMethod, a_rowOwner, a_down)) :
    ∀ k i f, i + k = 8 → k < f → wX_addClass_40 post (nI n) f_built f_lineLength f_colourCount f (nI i) a_above a_defined a_known a_meets a_colour a_best a_line a_shift a_entryClass a_entrySelector a_entryOwner a_entryMethod a_rowOwner a_down := by
  intro k
  induction k with
  | zero =>
    intro i f hi hf
    obtain ⟨f, rfl, _⟩ := zy_fu hf
    have e : i = 8 := by omega
    subst e
    refine br_t (nI_le (a := 8) (b := 8) (by omega) (by omega)) (nm_r (nI_1 n) ?_)
    rw [nI_pred]
    exact hp
  | succ k ih =>
    intro i f hi hf
    obtain ⟨f, rfl, hf'⟩ := zy_fu hf
    have hK := ih (i + 1) f (by omega) (by omega)
    have hin : vp_in (nI n * 8 + nI i) 80 := by rw [zb_ix]; exact vp_in_nI (by omega) (by omega)
    refine br_f (nI_ge (a := i) (b := 8) (by omega) (by omega)) ⟨hin, nm_r (e' := a_defined) ?_ (nm_r (nI_1 i) hK)⟩
    rw [zb_ix, nI_clamp (by omega), show vp_nar .short 0 = 0 from zb_ns (c := 0) (by omega)]
    exact zb_upd (h0 _ (by omega))
theorem zx_un5 {post : Int32 → Prop} {c : Nat} (hn : n ≤ 10) (hc : c < n) (hF : zf_F n a_above) :
    ∀ k i f x, i + k = 10 → k < f → (x = -1 ∨ ∃ c, c < n ∧ x = nI c) → post (if zf_wk (fun d => decide (d = c)) a_above k x = -1 then 0 else 1) → wX_under_5 post (nI c) f_count f_built f_lineLength f_colourCount a_above a_defined a_known a_meets a_colour a_best a_line a_shift a_entryClass a_entrySelector a_entryOwner a_entryMethod a_rowOwner a_down f x (nI i) := by
  intro k
  induction k with
  | zero =>
    intro i f x hi hf hx hp
    obtain ⟨f, rfl, _⟩ := zy_fu hf
    have e : i = 10 := by omega
    subst e
    rw [zf_wk, if_pos rfl] at hp
    exact br_t (nI_le (a := 10) (b := 10) (by omega) (by omega)) hp
  | succ k ih =>
    intro i f x hi hf hx hp
    obtain ⟨f, rfl, hf'⟩ := zy_fu hf
    refine br_f (nI_ge (a := i) (b := 10) (by omega) (by omega)) ?_
    rcases hx with rfl | ⟨d, hd, rfl⟩
    · rw [zf_wk_neg, if_pos rfl] at hp
      exact br_t zb_m1lt hp
    · rw [zf_wk_s _ _ _ (by omega)] at hp
      refine br_f (nI_pos (by omega)) ?_
      by_cases hz : d = c
      · subst hz
        rw [if_pos (decide_eq_true rfl), if_neg (zb_m1ne (by omega))] at hp
        exact br_t rfl hp
      · have hd' : ¬ decide (d = c) = true := by rw [decide_eq_false hz]; decide
        rw [if_neg hd'] at hp
        refine br_f (fun z => hz ((nI_eq (by omega) (by omega)).mp z)) ⟨vp_in_nI (by omega) (by omega), nm_r (e' := a_above d) (by rw [nI_clamp (by omega)]) (nm_r (nI_1 i) ?_)⟩
        exact ih (i + 1) f _ (by omega) (by omega) (hF d hd) hp
theorem zx_under {post : Int32 → Prop} {c : Nat} {x : Int32} (hn : n ≤ 10) (hc : c < n) (hF : zf_F n a_above) (hx : x = -1 ∨ ∃ c, c < n ∧ x = nI c)
    (hp : post (if zf_wk (fun d => decide (d = c)) a_above 10 x = -1 then 0 else 1)) : wpX_under post (f_count, f_built, f_lineLength, f_colourCount, a_above, a_defined, a_known, a_meets, a_colour, a_best, a_line, a_shift, a_entryClass, a_entrySelector, a_entryOwner, a_entryMethod, a_rowOwner, a_down) x (nI c) :=
  ⟨11, zx_un5 hn hc hF 10 0 11 x rfl (by omega) hx hp⟩
end
section
variable {a_up a_own a_mates a_alone a_least : Nat → Int32} {n : Nat}
theorem zy_mv28 {post : Int32 → SY → Prop} {c : Nat} {y : Int32} (hn : n ≤ 10) (hc : c < n) (hF : zf_F n a_up) :
    ∀ k i f x, i + k = 10 → k < f → (x = -1 ∨ ∃ c, c < n ∧ x = nI c) →
      (zf_wk (fun d => decide (d = c)) a_up k x = -1 → post 1 (nI n, upd a_up c y, a_own, a_mates, a_alone, a_least)) →
      (¬ zf_wk (fun d => decide (d = c)) a_up k x = -1 → post 0 (nI n, a_up, a_own, a_mates, a_alone, a_least)) → wY_move_28 post (nI c) y (nI n) a_up a_own a_mates a_alone a_least f x (nI i) := by
  intro k
  have hst : ∀ b, b = upd a_up (nI c).toNatClampNeg y → b = upd a_up c y := fun b h => by rw [h, nI_clamp (by omega)]
  induction k with
  | zero =>
    intro i f x hi hf hx hp hq
    obtain ⟨f, rfl, _⟩ := zy_fu hf
    have e : i = 10 := by omega
    subst e
    exact br_t (nI_le (a := 10) (b := 10) (by omega) (by omega)) ⟨vp_in_nI (by omega) (by omega), fun b hb => by rw [hst b hb]; exact hp rfl⟩
  | succ k ih =>
    intro i f x hi hf hx hp hq
    obtain ⟨f, rfl, hf'⟩ := zy_fu hf
    refine br_f (nI_ge (a := i) (b := 10) (by omega) (by omega)) ?_
    rcases hx with rfl | ⟨d, hd, rfl⟩
    · exact br_t zb_m1lt ⟨vp_in_nI (by omega) (by omega), fun b hb => by rw [hst b hb]; exact hp (zf_wk_neg _ _ _)⟩
    · rw [zf_wk_s _ _ _ (by omega)] at hp hq
      refine br_f (nI_pos (by omega)) ?_
      by_cases hz : d = c
      · subst hz
        rw [if_pos (decide_eq_true rfl)] at hq
        exact br_t rfl (hq (zb_m1ne (by omega)))
      · rw [if_neg (by rw [decide_eq_false hz]; decide)] at hp hq
        refine br_f (fun z => hz ((nI_eq (by omega) (by omega)).mp z)) ⟨vp_in_nI (by omega) (by omega), nm_r (e' := a_up d) (by rw [nI_clamp (by omega)]) (nm_r (nI_1 i) ?_)⟩
        exact ih (i + 1) f _ (by omega) (by omega) (hF d hd) hp hq
end
end
section
/-! X: the order from the roots down, what is understood, who meets whom -/
/-- L: who is listed; m: how many; g: in which order -/
def zs_I (n : Nat) (up : Nat → Int32) (L m : Nat) (dn : Nat → Int32) (g : Nat → Nat) : Prop :=
  m = zb_cn (fun c => L.testBit c) n ∧ (∀ c, L.testBit c = true → c < n) ∧
  (∀ k, k < m → g k < n ∧ dn k = nI (g k) ∧ L.testBit (g k) = true ∧ (up (g k) = -1 ∨ ∃ j, j < k ∧ up (g k) = nI (g j))) ∧
  (∀ j k, j < m → k < m → g j = g k → j = k) ∧ ∀ c, L.testBit c = true → ∃ k, k < m ∧ g k = c
def zs_Q (n : Nat) (rk : Nat → Nat) (L r c : Nat) : Prop := ∀ d, d < n → (rk d < r ∨ rk d = r ∧ d < c) → L.testBit d = true
/-- all are listed -/
def zs_T (n : Nat) (up dn : Nat → Int32) (g : Nat → Nat) : Prop :=
  (∀ k, k < n → g k < n ∧ dn k = nI (g k) ∧ (up (g k) = -1 ∨ ∃ j, j < k ∧ up (g k) = nI (g j))) ∧
  (∀ j k, j < n → k < n → g j = g k → j = k) ∧ ∀ c, c < n → ∃ k, k < n ∧ g k = c
theorem zs_or (L c i : Nat) : (L ||| 2 ^ c).testBit i = (L.testBit i || decide (c = i)) := by
  rw [Nat.testBit_or, Nat.testBit_two_pow]
theorem zs_step {n L m c : Nat} {up dn : Nat → Int32} {g : Nat → Nat} (hc : c < n) (h : zs_I n up L m dn g) (hL : L.testBit c = false)
    (hp : up c = -1 ∨ ∃ p, up c = nI p ∧ L.testBit p = true) : m < n ∧ zs_I n up (L ||| 2 ^ c) (m + 1) (upd dn m (nI c)) (zc_up g m c) := by
  obtain ⟨h1, h2, h3, h4, h5⟩ := h
  have hgc : ∀ k, k < m → g k ≠ c := by
    intro k hk e
    have := (h3 k hk).2.2.1
    rw [e, hL] at this
    exact absurd this (by decide)
  refine ⟨by rw [h1]; exact zb_cn_no hc hL, ?_, fun d hd => ?_, fun k hk => ?_, fun j k hj hk => ?_, fun d hd => ?_⟩
  · rw [h1]
    refine (zb_cn_up hc hL ?_ (fun i hi => ?_)).symm
    · rw [zs_or, decide_eq_true rfl, Bool.or_true]
    · rw [zs_or, decide_eq_false (fun z => hi z.symm), Bool.or_false]
  · rw [zs_or, Bool.or_eq_true] at hd
    rcases hd with z | z
    · exact h2 d z
    · rw [← of_decide_eq_true z]; exact hc
  · by_cases e : k = m
    · subst e
      rw [zc_up_s, pk_us]
      refine ⟨hc, rfl, by rw [zs_or, decide_eq_true rfl, Bool.or_true], ?_⟩
      rcases hp with z | ⟨p, z, hp⟩
      · exact Or.inl z
      · obtain ⟨j, hj, e⟩ := h5 p hp
        exact Or.inr ⟨j, hj, by rw [zc_up_n g (by omega), e]; exact z⟩
    · obtain ⟨a, b, c', d⟩ := h3 k (by omega)
      rw [zc_up_n g e, pk_un e]
      refine ⟨a, b, by rw [zs_or, c']; rfl, ?_⟩
      rcases d with z | ⟨j, hj, z⟩
      · exact Or.inl z
      · exact Or.inr ⟨j, hj, by rw [zc_up_n g (by omega)]; exact z⟩
  · by_cases e : j = m
    · by_cases e' : k = m
      · intro _; omega
      · rw [e, zc_up_s, zc_up_n g e']
        intro z
        exact absurd z.symm (hgc k (by omega))
    · by_cases e' : k = m
      · rw [e', zc_up_s, zc_up_n g e]
        intro z
        exact absurd z (hgc j (by omega))
      · rw [zc_up_n g e, zc_up_n g e']
        exact h4 j k (by omega) (by omega)
  · rw [zs_or, Bool.or_eq_true] at hd
    rcases hd with z | z
    · obtain ⟨k, hk, e⟩ := h5 d z
      exact ⟨k, by omega, by rw [zc_up_n g (by omega)]; exact e⟩
    · exact ⟨m, by omega, by rw [zc_up_s]; exact of_decide_eq_true z⟩
theorem zs_lt {n L : Nat} (hn : n ≤ 10) (h : ∀ c, L.testBit c = true → c < n) : L < 2 ^ 10 := by
  apply Nat.lt_pow_two_of_testBit
  intro i hi
  cases e : L.testBit i
  · rfl
  · have := h i e; omega
theorem zs_end {n L m : Nat} {up dn : Nat → Int32} {g rk : Nat → Nat} (hR : zf_R n up rk) (h : zs_I n up L m dn g) (hQ : zs_Q n rk L n 0) : zs_T n up dn g := by
  obtain ⟨h1, h2, h3, h4, h5⟩ := h
  have hall : ∀ c, c < n → L.testBit c = true := fun c hc => hQ c hc (Or.inl (hR c hc).1)
  have hm : m = n := by rw [h1]; exact zb_cn_full hall
  subst hm
  exact ⟨fun k hk => ⟨(h3 k hk).1, (h3 k hk).2.1, (h3 k hk).2.2.2⟩, h4, fun c hc => h5 c (hall c hc)⟩
section
variable {f_count f_built f_lineLength f_colourCount : Int32} {a_above a_defined a_known a_meets a_colour a_best a_line a_shift a_entryClass a_entrySelector a_entryOwner a_entryMethod a_rowOwner a_down : Nat → Int32} {n : Nat}
theorem zx_sd71s {post : SX → Prop} {J6 J17 : Int32 → Int32 → Int32 → (Nat → Int32) → (Nat → Int32) → (Nat → Int32) → (Nat → Int32) → (Nat → Int32) → (Nat → Int32) → (Nat → Int32) → (Nat → Int32) → (Nat → Int32) → (Nat → Int32) → (Nat → Int32) → (Nat → Int32) → (Nat → Int32) → (Nat → Int32) → Prop}
    {x1 x2 x3 x5 z0 : Int32} {c : Nat} (h : x5 = 0 ∨ z0 = 0) (hJ : J17 x1 x2 (nI (c + 1)) a_above a_defined a_known a_meets a_colour a_best a_line a_shift a_entryClass a_entrySelector a_entryOwner a_entryMethod a_rowOwner a_down) : wX_sortDown_71 post J6 J17 x1 x2 x3 (nI c) x5 z0 f_count f_built f_lineLength f_colourCount a_above a_defined a_known a_meets a_colour a_best a_line a_shift a_entryClass a_entrySelector a_entryOwner a_entryMethod a_rowOwner a_down :=
  br_c (fun _ => nm_r (nI_1 c) hJ) (fun h5 => br_c (fun _ => nm_r (nI_1 c) hJ) (fun h0 => absurd h (fun z => z.elim h5 h0)))
theorem zx_sd71t {post : SX → Prop} {J6 J17 : Int32 → Int32 → Int32 → (Nat → Int32) → (Nat → Int32) → (Nat → Int32) → (Nat → Int32) → (Nat → Int32) → (Nat → Int32) → (Nat → Int32) → (Nat → Int32) → (Nat → Int32) → (Nat → Int32) → (Nat → Int32) → (Nat → Int32) → (Nat → Int32) → (Nat → Int32) → Prop}
    {x3 : Int32} {L m c : Nat} (hm : m < 10) (hc : c < 10) (hJ : J17 (nI (L ||| 2 ^ c)) (nI (m + 1)) (nI (c + 1)) a_above a_defined a_known a_meets a_colour a_best a_line a_shift a_entryClass a_entrySelector a_entryOwner a_entryMethod a_rowOwner (upd a_down m (nI c))) :
    wX_sortDown_71 post J6 J17 (nI L) (nI m) x3 (nI c) 1 1 f_count f_built f_lineLength f_colourCount a_above a_defined a_known a_meets a_colour a_best a_line a_shift a_entryClass a_entrySelector a_entryOwner a_entryMethod a_rowOwner a_down :=
  br_f (by decide) (br_f (by decide) ⟨vp_in_nI hm (by omega), nm_r (e' := upd a_down m (nI c)) (by rw [nI_clamp (by omega), zb_nbb (by omega)])
    (nm_r (nI_1 m) (nm_r (e' := nI (L ||| 2 ^ c)) (by rw [zb_shl c (by omega), zb_or]) (nm_r (nI_1 c) hJ)))⟩)
theorem zx_sd17 {post : SX → Prop} {J6 : Int32 → Int32 → Int32 → (Nat → Int32) → (Nat → Int32) → (Nat → Int32) → (Nat → Int32) → (Nat → Int32) → (Nat → Int32) → (Nat → Int32) → (Nat → Int32) → (Nat → Int32) → (Nat → Int32) → (Nat → Int32) → (Nat → Int32) → (Nat → Int32) → (Nat → Int32) → Prop}
    {rk : Nat → Nat} {r : Nat} (hn : n ≤ 10) (hF : zf_F n a_above) (hR : zf_R n a_above rk)
    (hJ : ∀ L m dn g, zs_I n a_above L m dn g → zs_Q n rk L (r + 1) 0 → J6 (nI L) (nI m) (nI (r + 1)) a_above a_defined a_known a_meets a_colour a_best a_line a_shift a_entryClass a_entrySelector a_entryOwner a_entryMethod a_rowOwner dn) :
    ∀ k c f L m dn g, c + k = n → k < f → zs_I n a_above L m dn g → zs_Q n rk L r c → wX_sortDown_17 post J6 (nI r) (nI n) f_built f_lineLength f_colourCount f (nI L) (nI m) (nI c) a_above a_defined a_known a_meets a_colour a_best a_line a_shift a_entryClass a_entrySelector a_entryOwner a_entryMethod a_rowOwner dn := by
  intro k
  induction k with
  | zero =>
    intro c f L m dn g hc hf hI hQ
    obtain ⟨f, rfl, _⟩ := zy_fu hf
    have e : c = n := by omega
    subst e
    refine br_t (nI_le (by omega) (by omega)) (nm_r (nI_1 r) (hJ L m dn g hI (fun d hd h => hQ d hd ?_)))
    omega
  | succ k ih =>
    intro c f L m dn g hc hf hI hQ
    obtain ⟨f, rfl, hf'⟩ := zy_fu hf
    have hLlt : L < 2 ^ 10 := zs_lt hn hI.2.1
    have hskip : L.testBit c = true ∨ r < rk c → zs_Q n rk L r (c + 1) := by
      intro h d hd hq
      by_cases e : d = c
      · subst e
        rcases h with h | h
        · exact h
        · omega
      · exact hQ d hd (by omega)
    refine br_f (nI_ge (a := c) (b := n) (by omega) (by omega)) ?_
    by_cases hz : L.testBit c = true
    · have hK := ih (c + 1) f L m dn g (by omega) (by omega) hI (hskip (Or.inl hz))
      refine br_f (fun z => ?_) ⟨vp_in_nI (by omega) (by omega), ?_⟩
      · rw [(zb_b0 (by omega) (by omega)).mp z] at hz; exact absurd hz (by decide)
      · refine br_c (fun _ => zx_sd71s (Or.inl rfl) hK) (fun _ => ⟨vp_in_nI (by omega) (by omega), br_c (fun _ => zx_sd71s (Or.inl rfl) hK) (fun _ => zx_sd71s (Or.inl rfl) hK)⟩)
    · have hzf := zb_nt hz
      refine br_t ((zb_b0 (by omega) (by omega)).mpr hzf) ⟨vp_in_nI (by omega) (by omega), ?_⟩
      rw [nI_clamp (by omega)]
      have htake : (a_above c = -1 ∨ ∃ p, a_above c = nI p ∧ L.testBit p = true) → wX_sortDown_71 post J6 (wX_sortDown_17 post J6 (nI r) (nI n) f_built f_lineLength f_colourCount f) (nI L) (nI m) (nI r) (nI c) 1 1 (nI n) f_built f_lineLength f_colourCount a_above a_defined a_known a_meets a_colour a_best a_line a_shift a_entryClass a_entrySelector a_entryOwner a_entryMethod a_rowOwner dn := by
        intro hp
        obtain ⟨hm, hI'⟩ := zs_step (by omega) hI hzf hp
        refine zx_sd71t (by omega) (by omega) (ih (c + 1) f _ _ _ _ (by omega) (by omega) hI' (fun d hd hq => ?_))
        rw [zs_or]
        by_cases e : d = c
        · subst e; rw [decide_eq_true rfl, Bool.or_true]
        · rw [hQ d hd (by omega)]; rfl
      rcases hF c (by omega) with e | ⟨p, hp, e⟩
      · rw [e]
        exact br_t zb_m1lt (htake (Or.inl e))
      · rw [e]
        refine br_f (nI_pos (by omega)) ⟨vp_in_nI (by omega) (by omega), ?_⟩
        by_cases hb : L.testBit p = true
        · refine br_f (fun z => ?_) (htake (Or.inr ⟨p, e, hb⟩))
          rw [(zb_b0 (by omega) (by omega)).mp z] at hb; exact absurd hb (by decide)
        · refine br_t ((zb_b0 (by omega) (by omega)).mpr (zb_nt hb)) (zx_sd71s (Or.inr rfl) (ih (c + 1) f L m dn g (by omega) (by omega) hI (hskip (Or.inr ?_))))
          have h1 := (hR c (by omega)).2 p hp e
          rcases Nat.lt_or_ge (rk p) r with h2 | h2
          · exact absurd (hQ p hp (Or.inl h2)) hb
          · omega
theorem zx_sd6 {post : SX → Prop} {rk : Nat → Nat} (hn : n ≤ 10) (hF : zf_F n a_above) (hR : zf_R n a_above rk) (hp : ∀ dn g, zs_T n a_above dn g → post (nI n, f_built, f_lineLength, f_colourCount, a_above, a_defined, a_known, a_meets, a_colour, a_best, a_line, a_shift, a_entryClass, a_entrySelector, a_entryOwner, a_entryMethod, a_rowOwner, dn)) :
    ∀ k r f L m dn g, r + k = n → k < f → zs_I n a_above L m dn g → zs_Q n rk L r 0 → wX_sortDown_6 post (nI n) f_built f_lineLength f_colourCount f (nI L) (nI m) (nI r) a_above a_defined a_known a_meets a_colour a_best a_line a_shift a_entryClass a_entrySelector a_entryOwner a_entryMethod a_rowOwner dn := by
  intro k
  induction k with
  | zero =>
    intro r f L m dn g hr hf hI hQ
    obtain ⟨f, rfl, _⟩ := zy_fu hf
    have e : r = n := by omega
    subst e
    exact br_t (nI_le (by omega) (by omega)) (hp dn g (zs_end hR hI hQ))
  | succ k ih =>
    intro r f L m dn g hr hf hI hQ
    obtain ⟨f, rfl, hf'⟩ := zy_fu hf
    refine br_f (nI_ge (a := r) (b := n) (by omega) (by omega)) ⟨n + 1, ?_⟩
    exact zx_sd17 hn hF hR (fun L' m' dn' g' hI' hQ' => ih (r + 1) f L' m' dn' g' (by omega) (by omega) hI' hQ') n 0 (n + 1) L m dn g (by omega) (by omega) hI hQ
theorem zx_sort {post : SX → Prop} {rk : Nat → Nat} (hn : n ≤ 10) (hF : zf_F n a_above) (hR : zf_R n a_above rk) (hp : ∀ dn g, zs_T n a_above dn g → post (nI n, f_built, f_lineLength, f_colourCount, a_above, a_defined, a_known, a_meets, a_colour, a_best, a_line, a_shift, a_entryClass, a_entrySelector, a_entryOwner, a_entryMethod, a_rowOwner, dn)) :
    wpX_sortDown post (nI n, f_built, f_lineLength, f_colourCount, a_above, a_defined, a_known, a_meets, a_colour, a_best, a_line, a_shift, a_entryClass, a_entrySelector, a_entryOwner, a_entryMethod, a_rowOwner, a_down) := by
  refine ⟨n + 1, zx_sd6 hn hF hR hp n 0 (n + 1) 0 0 a_down (fun _ => 0) (by omega) (by omega) ⟨(zb_cn_zero n).symm, fun c h => ?_, fun k hk => by omega, fun j k hj => by omega, fun c h => ?_⟩ (fun d hd h => by omega)⟩
  · rw [Nat.zero_testBit] at h; exact absurd h (by decide)
  · rw [Nat.zero_testBit] at h; exact absurd h (by decide)
/-! learn -/
theorem zx_ln41 {post : SX → Prop} {J2 : Int32 → (Nat → Int32) → (Nat → Int32) → (Nat → Int32) → (Nat → Int32) → (Nat → Int32) → (Nat → Int32) → (Nat → Int32) → (Nat → Int32) → (Nat → Int32) → (Nat → Int32) → (Nat → Int32) → (Nat → Int32) → (Nat → Int32) → (Nat → Int32) → Prop}
    {k c q : Nat} (hc : c < 10) (hq : q < 256) (hJ : J2 (nI (k + 1)) a_above a_defined (upd a_known c (nI (q ||| zf_D a_defined c))) a_meets a_colour a_best a_line a_shift a_entryClass a_entrySelector a_entryOwner a_entryMethod a_rowOwner a_down) : wX_learn_41 post J2 (nI k) (nI c) (nI q) f_count f_built f_lineLength f_colourCount a_above a_defined a_known a_meets a_colour a_best a_line a_shift a_entryClass a_entrySelector a_entryOwner a_entryMethod a_rowOwner a_down := by
  unfold wX_learn_41
  refine zx_own hc ⟨vp_in_nI hc (by omega), nm_r (e' := upd a_known c (nI (q ||| zf_D a_defined c))) ?_ (nm_r (nI_1 k) hJ)⟩
  have h1 : q ||| zf_D a_defined c < 256 := zb_orlt (k := 8) hq (zf_Dlt a_defined c)
  rw [nI_clamp (by omega), zb_or, zb_nss (by omega)]
theorem zx_ln2 {post : SX → Prop} {rk g : Nat → Nat} (hn : n ≤ 10) (hF : zf_F n a_above) (hR : zf_R n a_above rk) (hT : zs_T n a_above a_down g)
    (hp : ∀ kn, (∀ c, c < n → kn c = nI (zf_K a_above a_defined c)) → post (nI n, f_built, f_lineLength, f_colourCount, a_above, a_defined, kn, a_meets, a_colour, a_best, a_line, a_shift, a_entryClass, a_entrySelector, a_entryOwner, a_entryMethod, a_rowOwner, a_down)) :
    ∀ k i f kn, i + k = n → k < f → (∀ j, j < i → kn (g j) = nI (zf_K a_above a_defined (g j))) → wX_learn_2 post (nI n) f_built f_lineLength f_colourCount f (nI i) a_above a_defined kn a_meets a_colour a_best a_line a_shift a_entryClass a_entrySelector a_entryOwner a_entryMethod a_rowOwner a_down := by
  intro k
  induction k with
  | zero =>
    intro i f kn hi hf hK
    obtain ⟨f, rfl, _⟩ := zy_fu hf
    have e : i = n := by omega
    subst e
    refine br_t (nI_le (by omega) (by omega)) (hp kn (fun c hc => ?_))
    obtain ⟨j, hj, e⟩ := hT.2.2 c hc
    rw [← e]; exact hK j hj
  | succ k ih =>
    intro i f kn hi hf hK
    obtain ⟨f, rfl, hf'⟩ := zy_fu hf
    obtain ⟨h1, h2, h3⟩ := hT.1 i (by omega)
    refine br_f (nI_ge (a := i) (b := n) (by omega) (by omega)) ⟨vp_in_nI (by omega) (by omega), nm_r (e' := nI (g i)) (by rw [nI_clamp (by omega), h2]) ⟨vp_in_nI (by omega) (by omega), ?_⟩⟩
    rw [nI_clamp (by omega)]
    have hnext : ∀ kn', kn' = upd kn (g i) (nI (zf_K a_above a_defined (g i))) → wX_learn_2 post (nI n) f_built f_lineLength f_colourCount f (nI (i + 1)) a_above a_defined kn' a_meets a_colour a_best a_line a_shift a_entryClass a_entrySelector a_entryOwner a_entryMethod a_rowOwner a_down := by
      intro kn' e
      refine ih (i + 1) f kn' (by omega) (by omega) (fun j hj => ?_)
      rw [e]
      by_cases ej : g j = g i
      · rw [ej, pk_us]
      · rw [pk_un ej]
        refine hK j ?_
        rcases Nat.lt_or_ge j i with z | z
        · exact z
        · have : j = i := by omega
          exact absurd (by rw [this]) ej
    rcases h3 with e | ⟨j, hj, e⟩
    · rw [e]
      refine br_f (by decide) (zx_ln41 (q := 0) (by omega) (by omega) (hnext _ ?_))
      rw [Nat.zero_or, zf_K1 (by omega) e]
    · rw [e]
      have hgj := (hT.1 j (by omega)).1
      refine br_t (nI_pos' (by omega)) ⟨vp_in_nI (by omega) (by omega), vp_in_nI (by omega) (by omega), ?_⟩
      rw [nI_clamp (by omega), hK j hj]
      refine zx_ln41 (by omega) (zf_Klt _ _ _) (hnext _ ?_)
      rw [zf_K2 hn hF hR h1 hgj e]
theorem zx_learn {post : SX → Prop} {rk g : Nat → Nat} (hn : n ≤ 10) (hF : zf_F n a_above) (hR : zf_R n a_above rk) (hT : zs_T n a_above a_down g)
    (hp : ∀ kn, (∀ c, c < n → kn c = nI (zf_K a_above a_defined c)) → post (nI n, f_built, f_lineLength, f_colourCount, a_above, a_defined, kn, a_meets, a_colour, a_best, a_line, a_shift, a_entryClass, a_entrySelector, a_entryOwner, a_entryMethod, a_rowOwner, a_down)) : wpX_learn post (nI n, f_built, f_lineLength, f_colourCount, a_above, a_defined, a_known, a_meets, a_colour, a_best, a_line, a_shift, a_entryClass, a_entrySelector, a_entryOwner, a_entryMethod, a_rowOwner, a_down) :=
  ⟨n + 1, zx_ln2 hn hF hR hT hp n 0 (n + 1) a_known (by omega) (by omega) (fun j hj => by omega)⟩
/-! meet -/
theorem zx_mt12 {post : SX → Prop} {J2 : Int32 → (Nat → Int32) → (Nat → Int32) → (Nat → Int32) → (Nat → Int32) → (Nat → Int32) → (Nat → Int32) → (Nat → Int32) → (Nat → Int32) → (Nat → Int32) → (Nat → Int32) → (Nat → Int32) → (Nat → Int32) → (Nat → Int32) → (Nat → Int32) → Prop}
    {K : Nat → Nat} {s : Nat} (hs : s < 8) (hn : n ≤ 10) (hKlt : ∀ c, K c < 256) (hK : ∀ c, c < n → a_known c = nI (K c))
    (hJ : J2 (nI (s + 1)) a_above a_defined a_known (upd a_meets s (nI (zg_mt K s n))) a_colour a_best a_line a_shift a_entryClass a_entrySelector a_entryOwner a_entryMethod a_rowOwner a_down) :
    ∀ k i f, i + k = n → k < f → wX_meet_12 post J2 (nI s) (nI n) f_built f_lineLength f_colourCount a_above a_defined a_known a_meets a_colour a_best a_line a_shift a_entryClass a_entrySelector a_entryOwner a_entryMethod a_rowOwner a_down f (nI (zg_mt K s i)) (nI i) := by
  intro k
  induction k with
  | zero =>
    intro i f hi hf
    obtain ⟨f, rfl, _⟩ := zy_fu hf
    have e : i = n := by omega
    subst e
    have := zg_mt_lt hKlt s i
    exact br_t (nI_le (by omega) (by omega)) ⟨vp_in_nI hs (by omega), nm_r (e' := upd a_meets s (nI (zg_mt K s i))) (by rw [nI_clamp (by omega), zb_nss (by omega)]) (nm_r (nI_1 s) hJ)⟩
  | succ k ih =>
    intro i f hi hf
    obtain ⟨f, rfl, hf'⟩ := zy_fu hf
    have hN := ih (i + 1) f (by omega) (by omega)
    have hlt := hKlt i
    rw [zg_mt] at hN
    refine br_f (nI_ge (a := i) (b := n) (by omega) (by omega)) ⟨vp_in_nI (by omega) (by omega), ?_⟩
    rw [nI_clamp (by omega), hK i (by omega)]
    by_cases hz : (K i).testBit s = true
    · rw [if_pos hz] at hN
      refine br_f (fun z => ?_) ⟨vp_in_nI (by omega) (by omega), nm_r (zb_or _ _) (nm_r (nI_1 i) hN)⟩
      rw [(zb_b0 (by omega) (by omega)).mp z] at hz; exact absurd hz (by decide)
    · rw [if_neg hz] at hN
      exact br_t ((zb_b0 (by omega) (by omega)).mpr (zb_nt hz)) (nm_r (nI_1 i) hN)
theorem zx_mt2 {post : SX → Prop} {K : Nat → Nat} (hn : n ≤ 10) (hKlt : ∀ c, K c < 256) (hK : ∀ c, c < n → a_known c = nI (K c))
    (hp : ∀ me, (∀ s, s < 8 → me s = nI (zg_mt K s n)) → post (nI n, f_built, f_lineLength, f_colourCount, a_above, a_defined, a_known, me, a_colour, a_best, a_line, a_shift, a_entryClass, a_entrySelector, a_entryOwner, a_entryMethod, a_rowOwner, a_down)) :
    ∀ k i f me, i + k = 8 → k < f → (∀ s, s < i → me s = nI (zg_mt K s n)) → wX_meet_2 post (nI n) f_built f_lineLength f_colourCount f (nI i) a_above a_defined a_known me a_colour a_best a_line a_shift a_entryClass a_entrySelector a_entryOwner a_entryMethod a_rowOwner a_down := by
  intro k
  induction k with
  | zero =>
    intro i f me hi hf hm
    obtain ⟨f, rfl, _⟩ := zy_fu hf
    have e : i = 8 := by omega
    subst e
    exact br_t (nI_le (a := 8) (b := 8) (by omega) (by omega)) (hp me hm)
  | succ k ih =>
    intro i f me hi hf hm
    obtain ⟨f, rfl, hf'⟩ := zy_fu hf
    refine br_f (nI_ge (a := i) (b := 8) (by omega) (by omega)) ⟨n + 1, ?_⟩
    refine zx_mt12 (by omega) hn hKlt hK (ih (i + 1) f _ (by omega) (by omega) (fun s hs => ?_)) n 0 (n + 1) (by omega) (by omega)
    by_cases e : s = i
    · rw [e, pk_us]
    · rw [pk_un e]; exact hm s (by omega)
theorem zx_meet {post : SX → Prop} {K : Nat → Nat} (hn : n ≤ 10) (hKlt : ∀ c, K c < 256) (hK : ∀ c, c < n → a_known c = nI (K c))
    (hp : ∀ me, (∀ s, s < 8 → me s = nI (zg_mt K s n)) → post (nI n, f_built, f_lineLength, f_colourCount, a_above, a_defined, a_known, me, a_colour, a_best, a_line, a_shift, a_entryClass, a_entrySelector, a_entryOwner, a_entryMethod, a_rowOwner, a_down)) : wpX_meet post (nI n, f_built, f_lineLength, f_colourCount, a_above, a_defined, a_known, a_meets, a_colour, a_best, a_line, a_shift, a_entryClass, a_entrySelector, a_entryOwner, a_entryMethod, a_rowOwner, a_down) :=
  ⟨9, zx_mt2 hn hKlt hK hp 8 0 9 a_meets rfl (by omega) (fun s hs => by omega)⟩
end
end
section
/-! X: the line of understood selectors -/
def zl_I (M : Nat → Nat) (t L : Nat) (li : Nat → Int32) (ln : Nat → Nat) : Prop :=
  L = zb_cn (fun s => t.testBit s) 8 ∧ (∀ i, i < L → ln i < 8 ∧ li i = nI (ln i) ∧ (M (ln i)).testBit (ln i) = true ∧ t.testBit (ln i) = true) ∧
  (∀ i j, i < L → j < L → ln i = ln j → i = j) ∧ ∀ s, t.testBit s = true → s < 8 ∧ ∃ i, i < L ∧ ln i = s
def zl_all (M : Nat → Nat) (t k : Nat) : Prop := ∀ s, s < k → (M s).testBit s = true → t.testBit s = true
/-- the line: distinct, and just the understood ones -/
def zl_T (M : Nat → Nat) (L : Nat) (li : Nat → Int32) (ln : Nat → Nat) : Prop :=
  L ≤ 8 ∧ (∀ i, i < L → ln i < 8 ∧ li i = nI (ln i)) ∧ (∀ i j, i < L → j < L → ln i = ln j → i = j) ∧ ∀ s, (zg_U M).testBit s = true ↔ ∃ i, i < L ∧ ln i = s
theorem zl_cn0 {m : Nat} : ∀ {k}, 0 < zb_cn (fun j => m.testBit j) k → ∃ j, j < k ∧ m.testBit j = true := by
  intro k
  induction k with
  | zero => intro h; exact absurd h (Nat.lt_irrefl 0)
  | succ k ih =>
    intro h
    rw [zb_cn] at h
    by_cases hb : m.testBit k = true
    · exact ⟨k, by omega, hb⟩
    · rw [if_neg hb] at h
      obtain ⟨j, hj, e⟩ := ih h
      exact ⟨j, by omega, e⟩
theorem zl_cn1 {m s k : Nat} (hs : s < k) (h : m.testBit s = true) : 0 < zb_cn (fun j => m.testBit j) k := by
  have := zb_cn_lt (p := fun _ => false) (q := fun j => m.testBit j) (k := s) (n := k) (fun _ _ z => absurd z (by decide)) hs rfl h
  omega
theorem zl_size {M : Nat → Nat} (hG : zg_G M) {s : Nat} (h : 0 < zb_cn (fun j => (M s).testBit j) 8) : (M s).testBit s = true := by
  obtain ⟨j, _, e⟩ := zl_cn0 h
  exact (hG.2 s j e).2
theorem zl_step {M : Nat → Nat} {t L c : Nat} {li : Nat → Int32} {ln : Nat → Nat} (hc : c < 8) (h : zl_I M t L li ln) (ht : t.testBit c = false) (hM : (M c).testBit c = true) :
    L < 8 ∧ zl_I M (t ||| 2 ^ c) (L + 1) (upd li L (nI c)) (zc_up ln L c) := by
  obtain ⟨h1, h2, h3, h4⟩ := h
  have hgc : ∀ k, k < L → ln k ≠ c := by
    intro k hk e
    have := (h2 k hk).2.2.2
    rw [e, ht] at this
    exact absurd this (by decide)
  refine ⟨by rw [h1]; exact zb_cn_no hc ht, ?_, fun k hk => ?_, fun j k hj hk => ?_, fun d hd => ?_⟩
  · rw [h1]
    refine (zb_cn_up hc ht ?_ (fun i hi => ?_)).symm
    · rw [zs_or, decide_eq_true rfl, Bool.or_true]
    · rw [zs_or, decide_eq_false (fun z => hi z.symm), Bool.or_false]
  · by_cases e : k = L
    · subst e
      rw [zc_up_s, pk_us]
      exact ⟨hc, rfl, hM, by rw [zs_or, decide_eq_true rfl, Bool.or_true]⟩
    · obtain ⟨a, b, c', d⟩ := h2 k (by omega)
      rw [zc_up_n ln e, pk_un e]
      exact ⟨a, b, c', by rw [zs_or, d]; rfl⟩
  · by_cases e : j = L
    · by_cases e' : k = L
      · intro _; omega
      · rw [e, zc_up_s, zc_up_n ln e']
        intro z
        exact absurd z.symm (hgc k (by omega))
    · by_cases e' : k = L
      · rw [e', zc_up_s, zc_up_n ln e]
        intro z
        exact absurd z (hgc j (by omega))
      · rw [zc_up_n ln e, zc_up_n ln e']
        exact h3 j k (by omega) (by omega)
  · rw [zs_or, Bool.or_eq_true] at hd
    rcases hd with z | z
    · obtain ⟨hd8, k, hk, e⟩ := h4 d z
      exact ⟨hd8, k, by omega, by rw [zc_up_n ln (by omega)]; exact e⟩
    · have e := of_decide_eq_true z
      exact ⟨by omega, L, by omega, by rw [zc_up_s]; exact e⟩
theorem zl_end {M : Nat → Nat} (hG : zg_G M) {t L : Nat} {li : Nat → Int32} {ln : Nat → Nat} (h : zl_I M t L li ln) (ha : L = 8 ∨ zl_all M t 8) : zl_T M L li ln := by
  obtain ⟨h1, h2, h3, h4⟩ := h
  refine ⟨by rw [h1]; exact zb_cn_le _ 8, fun i hi => ⟨(h2 i hi).1, (h2 i hi).2.1⟩, h3, fun s => ?_⟩
  rw [zg_Ub hG]
  constructor
  · intro hs
    have hs8 : s < 8 := zb_in (k := 8) (hG.1 s) hs
    refine (h4 s ?_).2
    rcases ha with e | ha
    · cases hb : t.testBit s
      · have := zb_cn_no (p := fun s => t.testBit s) hs8 hb
        omega
      · rfl
    · exact ha s hs8 hs
  · rintro ⟨i, hi, rfl⟩
    exact (h2 i hi).2.2.1
section
variable {f_count f_built f_lineLength f_colourCount : Int32} {a_above a_defined a_known a_meets a_colour a_best a_line a_shift a_entryClass a_entrySelector a_entryOwner a_entryMethod a_rowOwner a_down : Nat → Int32} {n : Nat} {M : Nat → Nat}
theorem zx_lu23 {post : SX → Prop} {J9 : Int32 → Int32 → Int32 → (Nat → Int32) → (Nat → Int32) → (Nat → Int32) → (Nat → Int32) → (Nat → Int32) → (Nat → Int32) → (Nat → Int32) → (Nat → Int32) → (Nat → Int32) → (Nat → Int32) → (Nat → Int32) → (Nat → Int32) → (Nat → Int32) → (Nat → Int32) → Prop}
    {t L r : Nat} {li : Nat → Int32} {ln : Nat → Nat} (hG : zg_G M) (hM : ∀ s, s < 8 → a_meets s = nI (M s)) (ht : t < 256) (hI : zl_I M t L li ln)
    (hJ : ∀ t' L' li' ln', t' < 256 → (∀ s, t.testBit s = true → t'.testBit s = true) → zl_I M t' L' li' ln' → (L' = L + 1 ∨ zl_all M t' 8) → J9 (nI t') (nI (r + 1)) (nI L') a_above a_defined a_known a_meets a_colour a_best li' a_shift a_entryClass a_entrySelector a_entryOwner a_entryMethod a_rowOwner a_down) :
    ∀ k s f x3 x4, s + k = 8 → k < f → (x3 = -1 ∧ x4 = 0 ∧ zl_all M t s ∨ ∃ tp q, tp < 8 ∧ q ≤ 8 ∧ x3 = nI tp ∧ x4 = nI q ∧ t.testBit tp = false ∧ (M tp).testBit tp = true) →
      wX_lineUp_23 post J9 (nI t) (nI r) f_count f_built (nI L) f_colourCount a_above a_defined a_known a_meets a_colour a_best li a_shift a_entryClass a_entrySelector a_entryOwner a_entryMethod a_rowOwner a_down f x3 x4 (nI s) := by
  intro k
  induction k with
  | zero =>
    intro s f x3 x4 hs hf hx
    obtain ⟨f, rfl, _⟩ := zy_fu hf
    have e : s = 8 := by omega
    subst e
    refine br_t (nI_le (a := 8) (b := 8) (by omega) (by omega)) ?_
    rcases hx with ⟨rfl, _, h⟩ | ⟨tp, q, htp, hq, rfl, _, h1, h2⟩
    · exact br_t zb_m1lt (nm_r (nI_1 r) (hJ t L li ln ht (fun _ z => z) hI (Or.inr h)))
    · obtain ⟨hL, hI'⟩ := zl_step htp hI h1 h2
      refine br_f (nI_pos (by omega)) (nm_r (e' := nI (t ||| 2 ^ tp)) (by rw [zb_shl tp (by omega), zb_or]) ⟨vp_in_nI hL (by omega), nm_r (e' := upd li L (nI tp)) (by rw [nI_clamp (by omega), zb_nbb (by omega)]) (nm_r (nI_1 L) (nm_r (nI_1 r) ?_))⟩)
      exact hJ _ _ _ _ (zb_orlt (k := 8) ht (zb_p2 (k := 8) htp)) (fun s z => by rw [zs_or, z]; rfl) hI' (Or.inl rfl)
  | succ k ih =>
    intro s f x3 x4 hs hf hx
    obtain ⟨f, rfl, hf'⟩ := zy_fu hf
    have hK := fun x3 x4 => ih (s + 1) f x3 x4 (by omega) (by omega)
    have hMs := hG.1 s
    have hcn := zb_cn_le (fun j => (M s).testBit j) 8
    refine br_f (nI_ge (a := s) (b := 8) (by omega) (by omega)) ⟨vp_in_nI (by omega) (by omega), ?_⟩
    rw [nI_clamp (by omega), hM s (by omega)]
    refine zx_size (by omega) ?_
    have hkeep : (t.testBit s = true ∨ zb_cn (fun j => (M s).testBit j) 8 = 0 ∨ x3 ≠ -1) → wX_lineUp_23 post J9 (nI t) (nI r) f_count f_built (nI L) f_colourCount a_above a_defined a_known a_meets a_colour a_best li a_shift a_entryClass a_entrySelector a_entryOwner a_entryMethod a_rowOwner a_down f x3 x4 (nI (s + 1)) := by
      intro h
      refine hK x3 x4 ?_
      rcases hx with ⟨e3, e4, ha⟩ | hx
      · refine Or.inl ⟨e3, e4, fun s' hs' hb => ?_⟩
        by_cases e : s' = s
        · subst e
          rcases h with h | h | h
          · exact h
          · have := zl_cn1 (k := 8) (by omega) hb
            omega
          · exact absurd e3 h
        · exact ha s' (by omega) hb
      · exact Or.inr hx
    by_cases hz : t.testBit s = true
    · refine br_f (fun z => ?_) (nm_r (nI_1 s) (hkeep (Or.inl hz)))
      rw [(zb_b0 (by omega) (by omega)).mp z] at hz; exact absurd hz (by decide)
    · refine br_t ((zb_b0 (by omega) (by omega)).mpr (zb_nt hz)) ?_
      have htake : 0 < zb_cn (fun j => (M s).testBit j) 8 → wX_lineUp_23 post J9 (nI t) (nI r) f_count f_built (nI L) f_colourCount a_above a_defined a_known a_meets a_colour a_best li a_shift a_entryClass a_entrySelector a_entryOwner a_entryMethod a_rowOwner a_down f (nI s) (nI (zb_cn (fun j => (M s).testBit j) 8)) (nI (s + 1)) :=
        fun h => hK _ _ (Or.inr ⟨s, _, by omega, hcn, rfl, rfl, zb_nt hz, zl_size hG h⟩)
      refine br_c (fun hle => nm_r (nI_1 s) (hkeep ?_)) (fun hle => nm_r (nI_1 s) (htake ?_))
      · rcases hx with ⟨e3, e4, ha⟩ | ⟨tp, q, htp, hq, e3, _, _, _⟩
        · rw [e4, ← nI_0, nI_leI (by omega) (by omega)] at hle
          exact Or.inr (Or.inl (by omega))
        · exact Or.inr (Or.inr (by rw [e3]; exact zb_m1ne (by omega)))
      · have hnn : ∃ q, q ≤ 8 ∧ x4 = nI q := by
          rcases hx with ⟨e3, e4, ha⟩ | ⟨tp, q, htp, hq, e3, e4, _, _⟩
          · exact ⟨0, by omega, e4⟩
          · exact ⟨q, hq, e4⟩
        obtain ⟨q, hq, e4⟩ := hnn
        rw [e4, nI_leI (by omega) (by omega)] at hle
        omega
theorem zx_lu9 {post : SX → Prop} (hG : zg_G M) (hM : ∀ s, s < 8 → a_meets s = nI (M s))
    (hp : ∀ L li ln, zl_T M L li ln → post (f_count, f_built, nI L, f_colourCount, a_above, a_defined, a_known, a_meets, a_colour, a_best, li, a_shift, a_entryClass, a_entrySelector, a_entryOwner, a_entryMethod, a_rowOwner, a_down)) :
    ∀ k r f t L li ln, r + k = 8 → k < f → t < 256 → zl_I M t L li ln → (L = r ∨ zl_all M t 8) → wX_lineUp_9 post f_count f_built f_colourCount f (nI t) (nI r) (nI L) a_above a_defined a_known a_meets a_colour a_best li a_shift a_entryClass a_entrySelector a_entryOwner a_entryMethod a_rowOwner a_down := by
  intro k
  induction k with
  | zero =>
    intro r f t L li ln hr hf ht hI ha
    obtain ⟨f, rfl, _⟩ := zy_fu hf
    have e : r = 8 := by omega
    subst e
    exact br_t (nI_le (a := 8) (b := 8) (by omega) (by omega)) (hp L li ln (zl_end hG hI ha))
  | succ k ih =>
    intro r f t L li ln hr hf ht hI ha
    obtain ⟨f, rfl, hf'⟩ := zy_fu hf
    refine br_f (nI_ge (a := r) (b := 8) (by omega) (by omega)) ⟨9, ?_⟩
    refine zx_lu23 hG hM ht hI (fun t' L' li' ln' ht' hsub hI' h => ih (r + 1) f t' L' li' ln' (by omega) (by omega) ht' hI' ?_) 8 0 9 (-1) 0 rfl (by omega) (Or.inl ⟨rfl, rfl, fun s hs => by omega⟩)
    rcases h with h | h
    · rcases ha with e | ha
      · exact Or.inl (by omega)
      · exact Or.inr (fun s hs hb => hsub s (ha s hs hb))
    · exact Or.inr h
theorem zx_line {post : SX → Prop} (hG : zg_G M) (hM : ∀ s, s < 8 → a_meets s = nI (M s))
    (hp : ∀ L li ln, zl_T M L li ln → post (f_count, f_built, nI L, f_colourCount, a_above, a_defined, a_known, a_meets, a_colour, a_best, li, a_shift, a_entryClass, a_entrySelector, a_entryOwner, a_entryMethod, a_rowOwner, a_down)) : wpX_lineUp post (f_count, f_built, f_lineLength, f_colourCount, a_above, a_defined, a_known, a_meets, a_colour, a_best, a_line, a_shift, a_entryClass, a_entrySelector, a_entryOwner, a_entryMethod, a_rowOwner, a_down) := by
  refine ⟨9, zx_lu9 hG hM hp 8 0 9 0 0 a_line (fun _ => 0) rfl (by omega) (by omega) ⟨(zb_cn_zero 8).symm, fun i hi => by omega, fun i j hi => by omega, fun s h => ?_⟩ (Or.inl rfl)⟩
  rw [Nat.zero_testBit] at h; exact absurd h (by decide)
end
end
section
/-! X: the search for colours -/
def zp_ad (M ln : Nat → Nat) (i j : Nat) : Bool := (M (ln i)).testBit (ln j)
def zp_bar (ad : Nat → Bool) (A : Nat → Nat) : Nat → Nat
  | 0 => 0
  | i + 1 => if ad i = true then zp_bar ad A i ||| 2 ^ A i else zp_bar ad A i
theorem zp_bar_lt {ad : Nat → Bool} {A : Nat → Nat} : ∀ {i}, (∀ j, j < i → A j < 8) → zp_bar ad A i < 256 := by
  intro i
  induction i with
  | zero => intro _; exact (by decide : (0 : Nat) < 256)
  | succ i ih =>
    intro h
    have := ih (fun j hj => h j (by omega))
    rw [zp_bar]
    split
    · exact zb_orlt (k := 8) this (zb_p2 (k := 8) (h i (by omega)))
    · exact this
theorem zp_bar_bit (ad : Nat → Bool) (A : Nat → Nat) (d : Nat) : ∀ i, (zp_bar ad A i).testBit d = true ↔ ∃ j, j < i ∧ ad j = true ∧ A j = d := by
  intro i
  induction i with
  | zero =>
    rw [zp_bar, Nat.zero_testBit]
    constructor
    · intro h; exact absurd h (by decide)
    · rintro ⟨c, hc, _⟩; omega
  | succ i ih =>
    rw [zp_bar]
    by_cases hs : ad i = true
    · rw [if_pos hs, zs_or, Bool.or_eq_true, ih, decide_eq_true_iff]
      constructor
      · rintro (⟨c, hc, h⟩ | h)
        · exact ⟨c, by omega, h⟩
        · exact ⟨i, by omega, hs, h⟩
      · rintro ⟨c, hc, h⟩
        by_cases e : c = i
        · subst e; exact Or.inr h.2
        · exact Or.inl ⟨c, by omega, h⟩
    · rw [if_neg hs, ih]
      constructor
      · rintro ⟨c, hc, h⟩; exact ⟨c, by omega, h⟩
      · rintro ⟨c, hc, h⟩
        by_cases e : c = i
        · subst e; exact absurd h.1 hs
        · exact ⟨c, by omega, h⟩
section
variable {f_count f_built f_lineLength f_colourCount : Int32} {a_above a_defined a_known a_meets a_colour a_best a_line a_shift a_entryClass a_entrySelector a_entryOwner a_entryMethod a_rowOwner a_down : Nat → Int32} {n L K l v : Nat} {M ln A : Nat → Nat}
theorem zx_op4 {post : Int32 → Prop} (hL : L ≤ 8) (hl : l ≤ L) (hln : ∀ i, i < L → ln i < 8 ∧ a_line i = nI (ln i)) (hA : ∀ i, i < l → a_colour (ln i) = nI (A i)) (hr : zc_RG A l)
    (hp : post (nI (zc_op A l))) : ∀ k i f, i + k = l → k < f → wX_opened_4 post (nI l) f_count f_built f_lineLength f_colourCount a_above a_defined a_known a_meets a_colour a_best a_line a_shift a_entryClass a_entrySelector a_entryOwner a_entryMethod a_rowOwner a_down f (nI (zc_op A i)) (nI i) := by
  intro k
  induction k with
  | zero =>
    intro i f hi hf
    obtain ⟨f, rfl, _⟩ := zy_fu hf
    have e : i = l := by omega
    subst e
    exact br_t (nI_le (by omega) (by omega)) hp
  | succ k ih =>
    intro i f hi hf
    obtain ⟨f, rfl, hf'⟩ := zy_fu hf
    have hN := ih (i + 1) f (by omega) (by omega)
    obtain ⟨h1, h2⟩ := hln i (by omega)
    have hri := hr i (by omega)
    have hop : zc_op A i ≤ i := zc_op_le (fun j hj => hr j (by omega))
    have e1 : a_line (nI i).toNatClampNeg = nI (ln i) := by rw [nI_clamp (by omega), h2]
    have e2 : a_colour (a_line (nI i).toNatClampNeg).toNatClampNeg = nI (A i) := by rw [e1, nI_clamp (by omega), hA i (by omega)]
    have hin : vp_in (a_line (nI i).toNatClampNeg) 8 := by rw [e1]; exact vp_in_nI h1 (by omega)
    have hin' : vp_in (nI i) 8 := vp_in_nI (by omega) (by omega)
    rw [zc_op] at hN
    refine br_f (nI_ge (a := i) (b := l) (by omega) (by omega)) ⟨hin', hin, ?_⟩
    rw [e2]
    by_cases hz : A i < zc_op A i
    · rw [if_pos hz] at hN
      exact br_t (nI_lt hz (by omega)) (nm_r (nI_1 i) hN)
    · rw [if_neg hz] at hN
      exact br_f (nI_nlt (by omega) (by omega)) ⟨hin', hin, nm_r (nI_1 (A i)) (nm_r (nI_1 i) hN)⟩
theorem zx_opened {post : Int32 → Prop} (hL : L ≤ 8) (hl : l ≤ L) (hln : ∀ i, i < L → ln i < 8 ∧ a_line i = nI (ln i)) (hA : ∀ i, i < l → a_colour (ln i) = nI (A i)) (hr : zc_RG A l)
    (hp : post (nI (zc_op A l))) : wpX_opened post (f_count, f_built, f_lineLength, f_colourCount, a_above, a_defined, a_known, a_meets, a_colour, a_best, a_line, a_shift, a_entryClass, a_entrySelector, a_entryOwner, a_entryMethod, a_rowOwner, a_down) (nI l) := ⟨l + 1, zx_op4 hL hl hln hA hr hp l 0 (l + 1) (by omega) (by omega)⟩
/-- the last loop of nextColour: from e on -/
theorem zx_nc74 {post : Int32 → Prop} {op b : Nat} (hb : b < 256) (hop : op ≤ 8) (hK : op < K) (hK8 : K ≤ 8)
    (h1 : (∀ e, v ≤ e → e ≤ op → e + 1 < K → b.testBit e = true) → post (-1))
    (h2 : ∀ d, v ≤ d → d ≤ op → d + 1 < K → b.testBit d = false → (∀ f, v ≤ f → f < d → b.testBit f = true) → post (nI d)) :
    ∀ k e f, v ≤ e → e ≤ 9 → op < e + k → k < f → (∀ d, v ≤ d → d < e → b.testBit d = true) → wX_nextColour_74 post (nI op) (nI b) f_count f_built f_lineLength (nI K) a_above a_defined a_known a_meets a_colour a_best a_line a_shift a_entryClass a_entrySelector a_entryOwner a_entryMethod a_rowOwner a_down f (nI e) := by
  intro k
  induction k with
  | zero =>
    intro e f hv he9 he hf hall
    obtain ⟨f, rfl, _⟩ := zy_fu hf
    exact br_t (nI_lt (by omega) (by omega)) (h1 (fun d a b c => hall d a (by omega)))
  | succ k ih =>
    intro e f hv he9 he hf hall
    obtain ⟨f, rfl, hf'⟩ := zy_fu hf
    have hpr : nI K - 1 = nI (K - 1) := by
      obtain ⟨q, rfl⟩ : ∃ q, K = q + 1 := ⟨K - 1, by omega⟩
      rw [nI_pred]; rfl
    by_cases hoe : op < e
    · exact br_t (nI_lt hoe (by omega)) (h1 (fun d a b c => hall d a (by omega)))
    · refine br_f (nI_nlt (by omega) (by omega)) ?_
      rw [hpr]
      by_cases hKe : K - 1 ≤ e
      · exact br_t (nI_le hKe (by omega)) (h1 (fun d a b c => hall d a (by omega)))
      · refine br_f (nI_ge (by omega) (by omega)) ?_
        by_cases hz : b.testBit e = true
        · refine br_f (fun z => ?_) (nm_r (nI_1 e) (ih (e + 1) f (by omega) (by omega) (by omega) (by omega) (fun d a c => ?_)))
          · rw [(zb_b0 (by omega) (by omega)).mp z] at hz; exact absurd hz (by decide)
          · by_cases ed : d = e
            · rw [ed]; exact hz
            · exact hall d a (by omega)
        · exact br_t ((zb_b0 (by omega) (by omega)).mpr (zb_nt hz)) (h2 e hv (by omega) (by omega) (zb_nt hz) hall)
theorem zx_nc16 {post : Int32 → Prop} (hG : zg_G M) (hM : ∀ s, s < 8 → a_meets s = nI (M s)) (hL : L ≤ 8) (hl : l < L) (hln : ∀ i, i < L → ln i < 8 ∧ a_line i = nI (ln i))
    (hA : ∀ i, i < l → a_colour (ln i) = nI (A i)) (hr : zc_RG A l) (hv : v ≤ 9) (hK : zc_op A l < K) (hK8 : K ≤ 8)
    (h1 : (∀ e, v ≤ e → e ≤ zc_op A l → e + 1 < K → ∃ j, j < l ∧ zp_ad M ln l j = true ∧ A j = e) → post (-1))
    (h2 : ∀ d, zc_Nx (zp_ad M ln) K l A v d → post (nI d)) :
    ∀ k i f, i + k = l → k < f → wX_nextColour_16 post (nI l) (nI v) (nI (zc_op A l)) f_count f_built f_lineLength (nI K) a_above a_defined a_known a_meets a_colour a_best a_line a_shift a_entryClass a_entrySelector a_entryOwner a_entryMethod a_rowOwner a_down f (nI (zp_bar (zp_ad M ln l) A i)) (nI i) := by
  have hA8 : ∀ j, j < l → A j < 8 := by
    intro j hj
    have a := hr j hj
    have b := zc_op_le (A := A) (i := j) (fun x hx => hr x (by omega))
    omega
  have hopl := zc_op_le hr
  intro k
  induction k with
  | zero =>
    intro i f hi hf
    obtain ⟨f, rfl, _⟩ := zy_fu hf
    have e : i = l := by omega
    subst e
    refine br_t (nI_le (by omega) (by omega)) ⟨zc_op A i + 2, ?_⟩
    refine zx_nc74 (zp_bar_lt hA8) (by omega) hK hK8 (fun h => h1 (fun e a b c => (zp_bar_bit _ _ _ _).mp (h e a b c))) (fun d a b c hb hall => h2 d ⟨a, b, c, fun j hj had hAj => ?_, fun f a b => (zp_bar_bit _ _ _ _).mp (hall f a b)⟩)
      (zc_op A i + 1) v _ (Nat.le_refl v) hv (by omega) (by omega) (fun d a b => by omega)
    rw [(zp_bar_bit _ _ _ _).mpr ⟨j, hj, had, hAj⟩] at hb
    exact absurd hb (by decide)
  | succ k ih =>
    intro i f hi hf
    obtain ⟨f, rfl, hf'⟩ := zy_fu hf
    have hN := ih (i + 1) f (by omega) (by omega)
    obtain ⟨g1, g2⟩ := hln i (by omega)
    obtain ⟨k1, k2⟩ := hln l hl
    have e0 : a_line (nI l).toNatClampNeg = nI (ln l) := by rw [nI_clamp (by omega), k2]
    have e1 : a_line (nI i).toNatClampNeg = nI (ln i) := by rw [nI_clamp (by omega), g2]
    have e2 : a_colour (a_line (nI i).toNatClampNeg).toNatClampNeg = nI (A i) := by rw [e1, nI_clamp (by omega), hA i (by omega)]
    have e3 : a_meets (a_line (nI l).toNatClampNeg).toNatClampNeg = nI (M (ln l)) := by rw [e0, nI_clamp (by omega), hM _ k1]
    have hin0 : vp_in (a_line (nI l).toNatClampNeg) 8 := by rw [e0]; exact vp_in_nI k1 (by omega)
    have hin : vp_in (a_line (nI i).toNatClampNeg) 8 := by rw [e1]; exact vp_in_nI g1 (by omega)
    have hin' : vp_in (nI i) 8 := vp_in_nI (by omega) (by omega)
    have hAi := hA8 i (by omega)
    have hMl := hG.1 (ln l)
    rw [zp_bar] at hN
    refine br_f (nI_ge (a := i) (b := l) (by omega) (by omega)) ⟨vp_in_nI (by omega) (by omega), hin0, hin', ?_⟩
    rw [e3]
    have e1' : a_line (nI i).toNatClampNeg &&& 31 = nI (ln i) &&& 31 := by rw [e1]
    by_cases hz : zp_ad M ln l i = true
    · rw [if_pos hz] at hN
      refine br_f (fun z => ?_) ⟨hin', hin, nm_r (e' := nI (zp_bar (zp_ad M ln l) A i ||| 2 ^ A i)) ?_ (nm_r (nI_1 i) hN)⟩
      · rw [e1', zb_b0 (by omega) (by omega)] at z
        rw [zp_ad, z] at hz; exact absurd hz (by decide)
      · rw [e2, zb_shl _ (by omega), zb_or]
    · rw [if_neg hz] at hN
      refine br_t ?_ (nm_r (nI_1 i) hN)
      rw [e1', zb_b0 (by omega) (by omega)]
      exact zb_nt hz
theorem zx_next {post : Int32 → Prop} (hG : zg_G M) (hM : ∀ s, s < 8 → a_meets s = nI (M s)) (hL : L ≤ 8) (hl : l < L) (hln : ∀ i, i < L → ln i < 8 ∧ a_line i = nI (ln i))
    (hA : ∀ i, i < l → a_colour (ln i) = nI (A i)) (hr : zc_RG A l) (hv : v ≤ 9) (hK8 : K ≤ 8)
    (h1 : (K ≤ zc_op A l ∨ ∀ e, v ≤ e → e ≤ zc_op A l → e + 1 < K → ∃ j, j < l ∧ zp_ad M ln l j = true ∧ A j = e) → post (-1))
    (h2 : ∀ d, zc_op A l < K → zc_Nx (zp_ad M ln) K l A v d → post (nI d)) : wpX_nextColour post (f_count, f_built, f_lineLength, nI K, a_above, a_defined, a_known, a_meets, a_colour, a_best, a_line, a_shift, a_entryClass, a_entrySelector, a_entryOwner, a_entryMethod, a_rowOwner, a_down) (nI l) (nI v) (nI (zc_op A l)) := by
  have hopl := zc_op_le hr
  by_cases hK : zc_op A l < K
  · exact br_t (nI_lt hK (by omega)) ⟨l + 1, zx_nc16 hG hM hL hl hln hA hr hv hK hK8 (fun h => h1 (Or.inr h)) (fun d N => h2 d hK N) l 0 (l + 1) (by omega) (by omega)⟩
  · exact br_f (nI_nlt (by omega) (by omega)) (h1 (Or.inl (by omega)))
/-- best is in 0..7, as it ever was -/
def zp_be (be : Nat → Int32) : Prop := ∀ s, s < 8 → ∃ b, b < 8 ∧ be s = nI b
theorem zp_be_u {be : Nat → Int32} (h : zp_be be) {k b : Nat} (hb : b < 8) : zp_be (upd be k (nI b)) := by
  intro s hs
  by_cases e : s = k
  · exact ⟨b, hb, by rw [e, pk_us]⟩
  · rw [pk_un e]; exact h s hs
theorem zx_kp7 {post : SX → Prop} (hL : L ≤ 8) (hln : ∀ i, i < L → ln i < 8 ∧ a_line i = nI (ln i)) (hinj : ∀ i j, i < L → j < L → ln i = ln j → i = j) (hA : ∀ i, i < L → a_colour (ln i) = nI (A i) ∧ A i < 8)
    (hp : ∀ be, (∀ i, i < L → be (ln i) = nI (A i)) → zp_be be → post (f_count, f_built, nI L, f_colourCount, a_above, a_defined, a_known, a_meets, a_colour, be, a_line, a_shift, a_entryClass, a_entrySelector, a_entryOwner, a_entryMethod, a_rowOwner, a_down)) :
    ∀ k i f be, i + k = L → k < f → (∀ j, j < i → be (ln j) = nI (A j)) → zp_be be → wX_keep_7 post f_count f_built (nI L) f_colourCount f (nI i) a_above a_defined a_known a_meets a_colour be a_line a_shift a_entryClass a_entrySelector a_entryOwner a_entryMethod a_rowOwner a_down := by
  intro k
  induction k with
  | zero =>
    intro i f be hi hf h1 h2
    obtain ⟨f, rfl, _⟩ := zy_fu hf
    have e : i = L := by omega
    subst e
    exact br_t (nI_le (by omega) (by omega)) (hp be h1 h2)
  | succ k ih =>
    intro i f be hi hf h1 h2
    obtain ⟨f, rfl, hf'⟩ := zy_fu hf
    obtain ⟨g1, g2⟩ := hln i (by omega)
    obtain ⟨k1, k2⟩ := hA i (by omega)
    have e1 : a_line (nI i).toNatClampNeg = nI (ln i) := by rw [nI_clamp (by omega), g2]
    have e2 : a_colour (a_line (nI i).toNatClampNeg).toNatClampNeg = nI (A i) := by rw [e1, nI_clamp (by omega), k1]
    have hin : vp_in (a_line (nI i).toNatClampNeg) 8 := by rw [e1]; exact vp_in_nI g1 (by omega)
    have hin' : vp_in (nI i) 8 := vp_in_nI (by omega) (by omega)
    refine br_f (nI_ge (a := i) (b := L) (by omega) (by omega)) ⟨hin', hin', hin, hin, nm_r (e' := upd be (ln i) (nI (A i))) (by rw [e2, e1, nI_clamp (by omega), zb_nb (by omega)]) (nm_r (nI_1 i) ?_)⟩
    refine ih (i + 1) f _ (by omega) (by omega) (fun j hj => ?_) (zp_be_u h2 k2)
    by_cases e : j = i
    · rw [e, pk_us]
    · rw [pk_un (fun z => e (hinj j i (by omega) (by omega) z))]; exact h1 j (by omega)
theorem zx_keep {post : SX → Prop} {q : Nat} (hL : L ≤ 8) (hln : ∀ i, i < L → ln i < 8 ∧ a_line i = nI (ln i)) (hinj : ∀ i j, i < L → j < L → ln i = ln j → i = j) (hA : ∀ i, i < L → a_colour (ln i) = nI (A i) ∧ A i < 8)
    (hb : zp_be a_best) (hp : ∀ be, (∀ i, i < L → be (ln i) = nI (A i)) → zp_be be → post (f_count, f_built, nI L, nI q, a_above, a_defined, a_known, a_meets, a_colour, be, a_line, a_shift, a_entryClass, a_entrySelector, a_entryOwner, a_entryMethod, a_rowOwner, a_down)) :
    wpX_keep post (f_count, f_built, nI L, f_colourCount, a_above, a_defined, a_known, a_meets, a_colour, a_best, a_line, a_shift, a_entryClass, a_entrySelector, a_entryOwner, a_entryMethod, a_rowOwner, a_down) (nI q) :=
  ⟨L + 1, zx_kp7 hL hln hinj hA hp L 0 (L + 1) a_best (by omega) (by omega) (fun j hj => by omega) hb⟩
/-- the best so far -/
def zp_B (M ln : Nat → Nat) (L K : Nat) (be : Nat → Int32) : Prop := K ≤ L ∧ zp_be be ∧ ∃ B : Nat → Nat, (∀ i, i < L → B i < K ∧ be (ln i) = nI (B i)) ∧ zc_Pr (zp_ad M ln) B L
theorem zx_end {post : SX → Prop} {x2 : Int32} {f : Nat} (hp : post (f_count, f_built, f_lineLength, f_colourCount, a_above, a_defined, a_known, a_meets, a_colour, a_best, a_line, a_shift, a_entryClass, a_entrySelector, a_entryOwner, a_entryMethod, a_rowOwner, a_down)) : wX_paint_64 post (f + 1) (-1) x2 f_count f_built f_lineLength f_colourCount a_above a_defined a_known a_meets a_colour a_best a_line a_shift a_entryClass a_entrySelector a_entryOwner a_entryMethod a_rowOwner a_down :=
  br_c (fun _ => hp) (fun _ => br_t zb_m1lt hp)
theorem zp_colow {co : Nat → Int32} {x : Int32} (hl : l < L) (hinj : ∀ i j, i < L → j < L → ln i = ln j → i = j) (hA : ∀ i, i < l → co (ln i) = nI (A i)) :
    ∀ i, i < l → upd co (ln l) x (ln i) = nI (A i) := by
  intro i hi
  rw [pk_un (fun z => by have := hinj i l (by omega) hl z; omega)]
  exact hA i hi
end
end
section
/-! X: paint -/
section
variable {f_count f_built f_lineLength f_colourCount : Int32} {a_above a_defined a_known a_meets a_colour a_best a_line a_shift a_entryClass a_entrySelector a_entryOwner a_entryMethod a_rowOwner a_down : Nat → Int32} {n L : Nat} {M ln : Nat → Nat}
theorem zx_p64 {post : SX → Prop} (hG : zg_G M) (hM : ∀ s, s < 8 → a_meets s = nI (M s)) (hL : L ≤ 8) (hln : ∀ i, i < L → ln i < 8 ∧ a_line i = nI (ln i)) (hinj : ∀ i j, i < L → j < L → ln i = ln j → i = j)
    (hp : ∀ K co be, zp_B M ln L K be → zc_Fin (zp_ad M ln) L K → post (f_count, f_built, nI L, nI K, a_above, a_defined, a_known, a_meets, co, be, a_line, a_shift, a_entryClass, a_entrySelector, a_entryOwner, a_entryMethod, a_rowOwner, a_down)) :
    ∀ k t l v f K A co be, zc_s A l + zc_r l v ≤ k → k < f → t + k ≤ 65536 → zc_Inv (zp_ad M ln) L K l A v → zp_B M ln L K be →
      (∀ i, i < l → co (ln i) = nI (A i)) → co (ln l) + 1 = nI v →
      wX_paint_64 post f (nI l) (nI t) f_count f_built (nI L) (nI K) a_above a_defined a_known a_meets co be a_line a_shift a_entryClass a_entrySelector a_entryOwner a_entryMethod a_rowOwner a_down := by
  intro k
  induction k with
  | zero =>
    intro t l v f K A co be hk
    have := zc_r_pos l v
    omega
  | succ k ih =>
    intro t l v f K A co be hk hf ht hI hB hco hcv
    obtain ⟨f, rfl, hf'⟩ := zy_fu hf
    have hI0 := hI
    obtain ⟨hlL, hv, hr, hpr, _⟩ := hI0
    have hr1 := zc_r_pos l v
    obtain ⟨hKL, hbe, B, hB1, hB2⟩ := hB
    obtain ⟨g1, g2⟩ := hln l hlL
    have e1 : a_line (nI l).toNatClampNeg = nI (ln l) := by rw [nI_clamp (by omega), g2]
    have hop := zc_op_le hr
    -- back to the level below
    have hback : ∀ K' A' co' be', zc_s A' l ≤ k → zc_Back (zp_ad M ln) L K' l A' → zp_B M ln L K' be' → (∀ i, i < l → co' (ln i) = nI (A' i)) →
        wX_paint_64 post f (nI l + (-1)) (nI (t + 1)) f_count f_built (nI L) (nI K') a_above a_defined a_known a_meets co' be' a_line a_shift a_entryClass a_entrySelector a_entryOwner a_entryMethod a_rowOwner a_down := by
      intro K' A' co' be' hs hb hB' hco'
      cases l with
      | zero =>
        obtain ⟨f, rfl, _⟩ := zy_fu (show k < f from by omega)
        exact zx_end (hp K' co' be' hB' (hb.1 rfl))
      | succ l' =>
        rw [pk_m1]
        have hs' : zc_s A' l' + zc_r l' (A' l' + 1) ≤ k := hs
        exact ih (t + 1) l' (A' l' + 1) f K' A' co' be' hs' (by omega) (by omega) (hb.2 l' rfl) hB' (fun i hi => hco' i (by omega)) (by rw [hco' l' (by omega), nI_1])
    refine br_f (nI_ge (a := t) (b := 65536) (by omega) (by omega)) (br_f (nI_pos (by omega)) (br_f (nI_nle (by omega) (by omega)) ⟨vp_in_nI (by omega) (by omega), nm_r e1 ?_⟩))
    refine zx_opened hL (by omega) hln hco hr ⟨vp_in_nI g1 (by omega), ?_⟩
    rw [nI_clamp (n := ln l) (by omega), hcv]
    refine zx_next hG hM hL hlL hln hco hr (by omega) (by omega) (fun h => ?_) (fun d hK N => ?_)
    · refine ⟨vp_in_nI g1 (by omega), nm_r (e' := upd co (ln l) (-1)) (by rw [zb_nbbm]) (br_f (by decide) (nm_e (nm_r (nI_1 t) ?_)))⟩
      exact hback K A _ be (by omega) (zc_fail hI h) ⟨hKL, hbe, B, hB1, hB2⟩ (zp_colow hlL hinj hco)
    · have hd := N.2.1
      refine ⟨vp_in_nI g1 (by omega), nm_r (e' := upd co (ln l) (nI d)) (by rw [zb_nbb (by omega)]) (br_t (nI_pos' (by omega)) ?_)⟩
      have hco2 : ∀ i, i < l + 1 → upd co (ln l) (nI d) (ln i) = nI (zc_up A l d i) := by
        intro i hi
        by_cases e : i = l
        · rw [e, pk_us, zc_up_s]
        · rw [zc_up_n A e]; exact zp_colow hlL hinj hco i (by omega)
      have hLp : nI L - 1 = nI (L - 1) := by
        obtain ⟨q, e⟩ : ∃ q, L = q + 1 := ⟨L - 1, by omega⟩
        rw [e, nI_pred]; rfl
      rw [hLp]
      by_cases hlast : l = L - 1
      · refine br_t (by rw [hlast]) ?_
        obtain ⟨q1, q2, q3, q4⟩ := zc_last hI N (by omega) hK
        have hopL : zc_op (zc_up A l d) L = if d < zc_op A l then zc_op A l else d + 1 := by
          obtain ⟨_, _, e3⟩ := zc_ext hr hpr N
          have eL : L = l + 1 := by omega
          rw [eL, zc_op, zc_up_s, e3 l (Nat.le_refl l)]
        have hAlt : ∀ i, i < L → zc_up A l d i < zc_op (zc_up A l d) L := fun i hi => zc_op_gt _ L i hi
        have hkeep : ∀ z0, z0 = nI (zc_op (zc_up A l d) L) → wX_paint_159 post (wX_paint_64 post f) (nI l) (nI t) z0 f_count f_built (nI L) (nI K) a_above a_defined a_known a_meets (upd co (ln l) (nI d)) be a_line a_shift a_entryClass a_entrySelector a_entryOwner a_entryMethod a_rowOwner a_down := by
          intro z0 e0
          rw [e0]
          unfold wX_paint_159
          refine zx_keep (A := zc_up A l d) hL hln hinj (fun i hi => ⟨hco2 i (by omega), ?_⟩) hbe (fun be' h1 h2 => nm_e (nm_r (nI_1 t) ?_))
          · have := hAlt i hi
            omega
          · refine hback _ (zc_up A l d) _ be' ?_ q4 ⟨by omega, h2, zc_up A l d, fun i hi => ⟨hAlt i hi, h1 i hi⟩, q2⟩ (fun i hi => hco2 i (by omega))
            rw [zc_s_cong (A := zc_up A l d) (B := A) (fun j hj => zc_up_n A (by omega))]
            omega
        by_cases hz : d < zc_op A l
        · rw [if_pos hz] at hopL
          exact br_f (nI_ge hz (by omega)) (hkeep _ (by rw [hopL]))
        · rw [if_neg hz] at hopL
          have ed : d = zc_op A l := by omega
          exact br_t (nI_le (by omega) (by omega)) (hkeep _ (by rw [hopL, ed, nI_1]))
      · obtain ⟨k1, k2⟩ := hln (l + 1) (by omega)
        have e2 : a_line (nI (l + 1)).toNatClampNeg = nI (ln (l + 1)) := by rw [nI_clamp (by omega), k2]
        refine br_f (fun z => hlast ((nI_eq (by omega) (by omega)).mp z)) (nm_r (nI_1 l) ⟨vp_in_nI (by omega) (by omega), ?_⟩)
        rw [e2]
        refine ⟨vp_in_nI k1 (by omega), nm_r (e' := upd (upd co (ln l) (nI d)) (ln (l + 1)) (-1)) (by rw [nI_clamp (by omega), zb_nbm]) (nm_r (nI_1 t) ?_)⟩
        have hph := zc_pd (l := l) (v := v) (d := d) (A := A) (by omega) N.1 (by omega)
        refine ih (t + 1) (l + 1) 0 f K (zc_up A l d) _ be (by omega) (by omega) (by omega) (zc_down hI N (by omega)) ⟨hKL, hbe, B, hB1, hB2⟩ (fun i hi => ?_) ?_
        · rw [pk_un (fun z => by have := hinj i (l + 1) (by omega) (by omega) z; omega)]
          exact hco2 i hi
        · rw [pk_us]; rfl
/-- the first best: each its own colour -/
theorem zx_p14 {post : SX → Prop} (hG : zg_G M) (hM : ∀ s, s < 8 → a_meets s = nI (M s)) (hT : zl_T M L a_line ln)
    (hp : ∀ K co be, K ≤ 8 → zc_Chi M (zg_U M) K → zp_be be → (∀ s t b, s < 8 → t < 8 → s ≠ t → (M s).testBit t = true → be s = nI b → be t ≠ nI b) →
      post (f_count, f_built, nI L, nI K, a_above, a_defined, a_known, a_meets, co, be, a_line, a_shift, a_entryClass, a_entrySelector, a_entryOwner, a_entryMethod, a_rowOwner, a_down)) :
    ∀ k i f be, i + k = L → k < f → (∀ j, j < i → be (ln j) = nI j) → zp_be be → wX_paint_14 post f_count f_built (nI L) (nI L) f (nI i) a_above a_defined a_known a_meets a_colour be a_line a_shift a_entryClass a_entrySelector a_entryOwner a_entryMethod a_rowOwner a_down := by
  obtain ⟨hL, hln, hinj, hU⟩ := hT
  intro k
  induction k with
  | zero =>
    intro i f be hi hf h1 h2
    obtain ⟨f, rfl, _⟩ := zy_fu hf
    have e : i = L := by omega
    subst e
    refine br_t (nI_le (by omega) (by omega)) ?_
    have hprop : ∀ K be', zp_B M ln i K be' → ∀ s t b, s < 8 → t < 8 → s ≠ t → (M s).testBit t = true → be' s = nI b → be' t ≠ nI b := by
      rintro K be' ⟨hKL, _, B, hB1, hB2⟩ s t b hs ht hst hm e1 e2
      obtain ⟨hm1, hm2⟩ := hG.2 s t hm
      obtain ⟨x, hx, rfl⟩ := (hU s).mp ((zg_Ub hG s).mpr hm2)
      obtain ⟨y, hy, rfl⟩ := (hU t).mp ((zg_Ub hG t).mpr (hG.2 _ _ hm1).2)
      have ex := hB1 x hx
      have ey := hB1 y hy
      have exy : B x = B y := (nI_eq (by omega) (by omega)).mp (by rw [← ex.2, ← ey.2, e1, e2])
      rcases Nat.lt_trichotomy x y with z | z | z
      · exact hB2 y x hy z hm1 exy.symm
      · exact hst (by rw [z])
      · exact hB2 x y hx z hm exy
    by_cases h0 : i = 0
    · subst h0
      refine br_t (nI_le (a := 0) (b := 0) (by omega) (by omega)) ⟨1, ?_⟩
      have hU0 : zg_U M = 0 := by
        rw [zb_zb]
        intro s
        cases e : (zg_U M).testBit s
        · rfl
        · obtain ⟨x, hx, _⟩ := (hU s).mp e
          omega
      have hfin := hp 0 a_colour be (by omega) (by rw [hU0]; exact zc_Chi_0 M) h2 (hprop 0 be ⟨Nat.le_refl 0, h2, fun _ => 0, fun i hi => by omega, fun j k hj => by omega⟩)
      exact br_c (fun _ => hfin) (fun _ => br_c (fun _ => hfin) (fun _ => br_t (nI_le (a := 0) (b := 0) (by omega) (by omega)) hfin))
    · obtain ⟨g1, g2⟩ := hln 0 (by omega)
      refine br_f (nI_nle (by omega) (by omega)) ?_
      rw [g2]
      refine ⟨vp_in_nI g1 (by omega), nm_r (e' := upd a_colour (ln 0) (-1)) (by rw [nI_clamp (by omega), zb_nbm]) ⟨52148, ?_⟩⟩
      refine zx_p64 hG hM hL hln hinj (fun K co be' hB hF => ?_) 52147 0 0 0 52148 i (fun _ => 0) _ be (by rw [zc_r0]; exact Nat.le_refl _) (by omega) (by omega) (zc_start _ i _ (by omega)) ⟨Nat.le_refl i, h2, fun j => j, fun j hj => ⟨hj, h1 j hj⟩, fun j k hj hk _ => Nat.ne_of_gt hk⟩ (fun j hj => by omega) (by rw [pk_us]; rfl)
      have hB' := hB
      obtain ⟨hKL, hbe, B, hB1, hB2⟩ := hB'
      exact hp K co be' (by omega) (zc_done hG hU hinj (fun x hx => (hB1 x hx).1) hB2 hF) hbe (hprop K be' hB)
  | succ k ih =>
    intro i f be hi hf h1 h2
    obtain ⟨f, rfl, hf'⟩ := zy_fu hf
    obtain ⟨g1, g2⟩ := hln i (by omega)
    have e1 : a_line (nI i).toNatClampNeg = nI (ln i) := by rw [nI_clamp (by omega), g2]
    have hin : vp_in (a_line (nI i).toNatClampNeg) 8 := by rw [e1]; exact vp_in_nI g1 (by omega)
    refine br_f (nI_ge (a := i) (b := L) (by omega) (by omega)) ⟨vp_in_nI (by omega) (by omega), hin, nm_r (e' := upd be (ln i) (nI i)) (by rw [e1, nI_clamp (by omega), zb_nbb (by omega)]) (nm_r (nI_1 i) ?_)⟩
    refine ih (i + 1) f _ (by omega) (by omega) (fun j hj => ?_) (zp_be_u h2 (by omega))
    by_cases e : j = i
    · rw [e, pk_us]
    · rw [pk_un (fun z => e (hinj j i (by omega) (by omega) z))]; exact h1 j (by omega)
theorem zx_paint {post : SX → Prop} (hG : zg_G M) (hM : ∀ s, s < 8 → a_meets s = nI (M s)) (hb : zp_be a_best)
    (hp : ∀ L K li co be, K ≤ 8 → zc_Chi M (zg_U M) K → zp_be be → (∀ s t b, s < 8 → t < 8 → s ≠ t → (M s).testBit t = true → be s = nI b → be t ≠ nI b) →
      post (f_count, f_built, nI L, nI K, a_above, a_defined, a_known, a_meets, co, be, li, a_shift, a_entryClass, a_entrySelector, a_entryOwner, a_entryMethod, a_rowOwner, a_down)) : wpX_paint post (f_count, f_built, f_lineLength, f_colourCount, a_above, a_defined, a_known, a_meets, a_colour, a_best, a_line, a_shift, a_entryClass, a_entrySelector, a_entryOwner, a_entryMethod, a_rowOwner, a_down) := by
  unfold wpX_paint
  dsimp only
  refine zx_line hG hM (fun L li ln hT => ?_)
  exact ⟨L + 1, zx_p14 hG hM hT (fun K co be h1 h2 h3 h4 => hp L K li co be h1 h2 h3 h4) L 0 (L + 1) a_best (by omega) (by omega) (fun j hj => by omega) hb⟩
end
end
section
/-! X: the packed table -/
/-- the entry of c for s lies at i -/
def zk_E (up own : Nat → Int32) (bs sh : Nat → Nat) (ec es eo em : Nat → Int32) (c s i : Nat) : Prop :=
  i = sh c + bs s ∧ ec i = nI c ∧ es i = nI s ∧ eo i = zf_W up own c s ∧ em i = own (8 * (zf_W up own c s).toNatClampNeg + s)
/-- the rows of R are in the table -/
def zk_A (up own : Nat → Int32) (bs sh : Nat → Nat) (R : Nat → Prop) (ec : Nat → Int32) : Prop :=
  ∀ c s, R c → s < 8 → zf_H up own c s = true → ec (sh c + bs s) = nI c
/-- and nothing else is -/
def zk_B (up own : Nat → Int32) (bs sh : Nat → Nat) (R : Nat → Prop) (ec es eo em : Nat → Int32) : Prop :=
  ∀ i, i < 96 → ec i = -1 ∨ ∃ c s, R c ∧ c < 10 ∧ s < 8 ∧ zf_H up own c s = true ∧ zk_E up own bs sh ec es eo em c s i
/-- no two selectors of one row share a column -/
def zk_J (n : Nat) (up own : Nat → Int32) (bs : Nat → Nat) : Prop :=
  ∀ c s t, c < n → s < 8 → t < 8 → zf_H up own c s = true → zf_H up own c t = true → bs s = bs t → s = t
theorem zk_look {n c s : Nat} {up own ec es eo em : Nat → Int32} {bs sh : Nat → Nat} {R : Nat → Prop} (hn : n ≤ 10) (hJ : zk_J n up own bs) (hA : zk_A up own bs sh R ec) (hB : zk_B up own bs sh R ec es eo em)
    (hR : R c) (hc : c < n) (hs : s < 8) (hH : zf_H up own c s = true) (hi : sh c + bs s < 96) : zk_E up own bs sh ec es eo em c s (sh c + bs s) := by
  have h1 := hA c s hR hs hH
  rcases hB _ hi with h | ⟨c', s', _, hc', hs', hH', hE⟩
  · exact absurd (h1.symm.trans h) (zb_m1ne (by omega))
  · have ec' : c = c' := (nI_eq (by omega) (by omega)).mp (h1.symm.trans hE.2.1)
    subst ec'
    have es' : s = s' := hJ c s s' hc hs hs' hH hH' (by have := hE.1; omega)
    subst es'
    exact hE
theorem zk_ec {up own ec es eo em : Nat → Int32} {bs sh : Nat → Nat} {R : Nat → Prop} (hB : zk_B up own bs sh R ec es eo em) : ∀ i, i < 96 → ec i = -1 ∨ ∃ d, d < 10 ∧ ec i = nI d := by
  intro i hi
  rcases hB i hi with h | ⟨c, s, _, hc, _, _, hE⟩
  · exact Or.inl h
  · exact Or.inr ⟨c, hc, hE.2.1⟩
section
variable {f_count f_built f_lineLength f_colourCount : Int32} {a_above a_defined a_known a_meets a_colour a_best a_line a_shift a_entryClass a_entrySelector a_entryOwner a_entryMethod a_rowOwner a_down : Nat → Int32} {n c : Nat} {bs sh : Nat → Nat} {R : Nat → Prop}
theorem zx_fr8 {post : SX → Prop} (hn : n ≤ 10) (hF : zf_F n a_above) (hc : c < n) (hk : a_known c = nI (zf_K a_above a_defined c)) (hb : ∀ s, s < 8 → bs s < 8 ∧ a_best s = nI (bs s))
    (hpar : ∀ s, s < 8 → zf_H a_above a_defined c s = true → a_defined (8 * c + s) = 0 → ∃ p q, p < n ∧ a_above c = nI p ∧ a_shift p = nI q ∧ q + bs s < 96 ∧ a_entryOwner (q + bs s) = zf_W a_above a_defined c s)
    (hp : ∀ ro, (∀ s, s < 8 → zf_H a_above a_defined c s = true → ro s = zf_W a_above a_defined c s) → post (f_count, f_built, f_lineLength, f_colourCount, a_above, a_defined, a_known, a_meets, a_colour, a_best, a_line, a_shift, a_entryClass, a_entrySelector, a_entryOwner, a_entryMethod, ro, a_down)) :
    ∀ k i f ro, i + k = 8 → k < f → (∀ s, s < i → zf_H a_above a_defined c s = true → ro s = zf_W a_above a_defined c s) → wX_fillRow_8 post (nI c) (nI (zf_D a_defined c)) f_count f_built f_lineLength f_colourCount f (nI i) a_above a_defined a_known a_meets a_colour a_best a_line a_shift a_entryClass a_entrySelector a_entryOwner a_entryMethod ro a_down := by
  intro k
  induction k with
  | zero =>
    intro i f ro hi hf hro
    obtain ⟨f, rfl, _⟩ := zy_fu hf
    have e : i = 8 := by omega
    subst e
    exact br_t (nI_le (a := 8) (b := 8) (by omega) (by omega)) (hp ro hro)
  | succ k ih =>
    intro i f ro hi hf hro
    obtain ⟨f, rfl, hf'⟩ := zy_fu hf
    have hKlt := zf_Klt a_above a_defined c
    have hDlt := zf_Dlt a_defined c
    have hin' : vp_in (nI i) 8 := vp_in_nI (by omega) (by omega)
    refine br_f (nI_ge (a := i) (b := 8) (by omega) (by omega)) ⟨vp_in_nI (by omega) (by omega), ?_⟩
    rw [nI_clamp (n := c) (by omega), hk]
    by_cases hH : zf_H a_above a_defined c i = true
    · have hnext : ∀ ro', ro' = upd ro i (zf_W a_above a_defined c i) → wX_fillRow_8 post (nI c) (nI (zf_D a_defined c)) f_count f_built f_lineLength f_colourCount f (nI (i + 1)) a_above a_defined a_known a_meets a_colour a_best a_line a_shift a_entryClass a_entrySelector a_entryOwner a_entryMethod ro' a_down := by
        intro ro' e
        refine ih (i + 1) f ro' (by omega) (by omega) (fun s hs h => ?_)
        rw [e]
        by_cases e' : s = i
        · rw [e', pk_us]
        · rw [pk_un e']; exact hro s (by omega) h
      refine br_f (fun z => ?_) ?_
      · rw [zb_b0 (by omega) (by omega), zf_Kb (by omega), hH] at z; exact absurd z (by decide)
      by_cases hz : a_defined (8 * c + i) = 0
      · obtain ⟨p, q, hpn, e1, e2, e3, e4⟩ := hpar i (by omega) hH hz
        obtain ⟨hb1, hb2⟩ := hb i (by omega)
        obtain ⟨d, hd, eW, _⟩ := zf_HW hn hF hc hH
        have ea : a_above (nI c).toNatClampNeg = nI p := by rw [nI_clamp (by omega), e1]
        have eb : a_shift (a_above (nI c).toNatClampNeg).toNatClampNeg + a_best (nI i).toNatClampNeg = nI (q + bs i) := by
          rw [ea, nI_clamp (by omega), e2, nI_clamp (by omega), hb2, nI_add]
        have hia : vp_in (a_above (nI c).toNatClampNeg) 10 := by rw [ea]; exact vp_in_nI (by omega) (by omega)
        have hib : vp_in (a_shift (a_above (nI c).toNatClampNeg).toNatClampNeg + a_best (nI i).toNatClampNeg) 96 := by rw [eb]; exact vp_in_nI e3 (by omega)
        refine br_t ((zb_b0 (by omega) (by omega)).mpr (by rw [zf_Db (by omega)]; exact zf_Pf hz)) (br_t rfl ⟨vp_in_nI (by omega) (by omega), hia, hin', hib, hin', nm_r (e' := upd ro i (zf_W a_above a_defined c i)) ?_ (nm_r (nI_1 i) (hnext _ rfl))⟩)
        rw [eb, nI_clamp (by omega), nI_clamp (by omega), e4, eW, zb_nb (by omega)]
      · have eW : zf_W a_above a_defined c i = nI c := zf_W1 (by omega) hz
        refine br_f (fun z => ?_) (br_f (by decide) ⟨hin', nm_r (e' := upd ro i (zf_W a_above a_defined c i)) ?_ (nm_r (nI_1 i) (hnext _ rfl))⟩)
        · rw [zb_b0 (by omega) (by omega), zf_Db (by omega), zf_Pt hz] at z; exact absurd z (by decide)
        · rw [nI_clamp (by omega), zb_nbb (by omega), eW]
    · refine br_t ((zb_b0 (by omega) (by omega)).mpr (by rw [zf_Kb (by omega)]; exact zb_nt hH)) (nm_r (nI_1 i) (ih (i + 1) f ro (by omega) (by omega) (fun s hs h => ?_)))
      by_cases e : s = i
      · rw [e] at h; exact absurd h hH
      · exact hro s (by omega) h
theorem zx_fill {post : SX → Prop} (hn : n ≤ 10) (hF : zf_F n a_above) (hc : c < n) (hk : a_known c = nI (zf_K a_above a_defined c)) (hb : ∀ s, s < 8 → bs s < 8 ∧ a_best s = nI (bs s))
    (hpar : ∀ s, s < 8 → zf_H a_above a_defined c s = true → a_defined (8 * c + s) = 0 → ∃ p q, p < n ∧ a_above c = nI p ∧ a_shift p = nI q ∧ q + bs s < 96 ∧ a_entryOwner (q + bs s) = zf_W a_above a_defined c s)
    (hp : ∀ ro, (∀ s, s < 8 → zf_H a_above a_defined c s = true → ro s = zf_W a_above a_defined c s) → post (f_count, f_built, f_lineLength, f_colourCount, a_above, a_defined, a_known, a_meets, a_colour, a_best, a_line, a_shift, a_entryClass, a_entrySelector, a_entryOwner, a_entryMethod, ro, a_down)) : wpX_fillRow post (f_count, f_built, f_lineLength, f_colourCount, a_above, a_defined, a_known, a_meets, a_colour, a_best, a_line, a_shift, a_entryClass, a_entrySelector, a_entryOwner, a_entryMethod, a_rowOwner, a_down) (nI c) := by
  unfold wpX_fillRow
  dsimp only
  refine zx_own (by omega) ?_
  exact ⟨9, zx_fr8 hn hF hc hk hb hpar hp 8 0 9 a_rowOwner rfl (by omega) (fun s hs => by omega)⟩
theorem zx_ft2 {post : Int32 → Prop} {at' : Nat} (hc : c < 10) (hat : at' ≤ 88) (hk : a_known c = nI (zf_K a_above a_defined c)) (hb : ∀ s, s < 8 → bs s < 8 ∧ a_best s = nI (bs s))
    (hec : ∀ i, i < 96 → a_entryClass i = -1 ∨ ∃ d, d < 10 ∧ a_entryClass i = nI d)
    (h1 : (∀ s, s < 8 → zf_H a_above a_defined c s = true → a_entryClass (at' + bs s) = -1) → post 1)
    (h0 : (¬ ∀ s, s < 8 → zf_H a_above a_defined c s = true → a_entryClass (at' + bs s) = -1) → post 0) :
    ∀ k i f, i + k = 8 → k < f → (∀ s, s < i → zf_H a_above a_defined c s = true → a_entryClass (at' + bs s) = -1) → wX_fits_2 post (nI c) (nI at') f_count f_built f_lineLength f_colourCount a_above a_defined a_known a_meets a_colour a_best a_line a_shift a_entryClass a_entrySelector a_entryOwner a_entryMethod a_rowOwner a_down f (nI i) := by
  intro k
  induction k with
  | zero =>
    intro i f hi hf hall
    obtain ⟨f, rfl, _⟩ := zy_fu hf
    have e : i = 8 := by omega
    subst e
    exact br_t (nI_le (a := 8) (b := 8) (by omega) (by omega)) (h1 hall)
  | succ k ih =>
    intro i f hi hf hall
    obtain ⟨f, rfl, hf'⟩ := zy_fu hf
    have hN := ih (i + 1) f (by omega) (by omega)
    have hKlt := zf_Klt a_above a_defined c
    refine br_f (nI_ge (a := i) (b := 8) (by omega) (by omega)) ⟨vp_in_nI (by omega) (by omega), ?_⟩
    rw [nI_clamp (n := c) (by omega), hk]
    by_cases hH : zf_H a_above a_defined c i = true
    · obtain ⟨hb1, hb2⟩ := hb i (by omega)
      refine br_f (fun z => ?_) ⟨vp_in_nI (by omega) (by omega), ?_⟩
      · rw [zb_b0 (by omega) (by omega), zf_Kb (by omega), hH] at z; exact absurd z (by decide)
      rw [nI_clamp (n := i) (by omega), hb2, nI_add, nI_clamp (by omega)]
      refine ⟨vp_in_nI (by omega) (by omega), ?_⟩
      rcases hec (at' + bs i) (by omega) with e | ⟨d, hd, e⟩
      · rw [e]
        refine br_t zb_m1lt (nm_r (nI_1 i) (hN (fun s hs h => ?_)))
        by_cases e' : s = i
        · rw [e']; exact e
        · exact hall s (by omega) h
      · have hne : ¬ a_entryClass (at' + bs i) = -1 := by rw [e]; exact zb_m1ne (by omega)
        rw [e]
        exact br_f (nI_pos (by omega)) (h0 (fun z => hne (z i (by omega) hH)))
    · refine br_t ((zb_b0 (by omega) (by omega)).mpr (by rw [zf_Kb (by omega)]; exact zb_nt hH)) (nm_r (nI_1 i) (hN (fun s hs h => ?_)))
      by_cases e : s = i
      · rw [e] at h; exact absurd h hH
      · exact hall s (by omega) h
theorem zx_pk9 {post : SX → Prop} {q : Nat} (hc : c < 10) (hq : q ≤ 80) (hk : a_known c = nI (zf_K a_above a_defined c)) (hb : ∀ s, s < 8 → bs s < 8 ∧ a_best s = nI (bs s))
    (hec : ∀ i, i < 96 → a_entryClass i = -1 ∨ ∃ d, d < 10 ∧ a_entryClass i = nI d) (hfree : ∀ i, q ≤ i → i < 96 → a_entryClass i = -1)
    (hp : ∀ at', at' ≤ q → (∀ s, s < 8 → zf_H a_above a_defined c s = true → a_entryClass (at' + bs s) = -1) → wX_pack_33 post (nI c) (nI at') f_count f_built f_lineLength f_colourCount a_above a_defined a_known a_meets a_colour a_best a_line a_shift a_entryClass a_entrySelector a_entryOwner a_entryMethod a_rowOwner a_down) :
    ∀ r at' f, at' + r = q → r < f → wX_pack_9 post (nI c) f_count f_built f_lineLength f_colourCount a_above a_defined a_known a_meets a_colour a_best a_line a_shift a_entryClass a_entrySelector a_entryOwner a_entryMethod a_rowOwner a_down f (nI at') (nI at') := by
  intro r
  induction r with
  | zero =>
    intro at' f ha hf
    obtain ⟨f, rfl, _⟩ := zy_fu hf
    refine br_f (nI_ge (a := at') (b := 88) (by omega) (by omega)) ⟨9, ?_⟩
    refine zx_ft2 hc (by omega) hk hb hec (fun h => br_f (by decide) (hp at' (by omega) h)) (fun h => absurd (fun s hs _ => ?_) h) 8 0 9 rfl (by omega) (fun s hs => by omega)
    have := (hb s hs).1
    exact hfree _ (by omega) (by omega)
  | succ r ih =>
    intro at' f ha hf
    obtain ⟨f, rfl, hf'⟩ := zy_fu hf
    refine br_f (nI_ge (a := at') (b := 88) (by omega) (by omega)) ⟨9, ?_⟩
    exact zx_ft2 hc (by omega) hk hb hec (fun h => br_f (by decide) (hp at' (by omega) h)) (fun _ => br_t rfl (nm_r (nI_1 at') (nm_r (nI_1 at') (ih (at' + 1) f (by omega) (by omega))))) 8 0 9 rfl (by omega) (fun s hs => by omega)
theorem zx_pk43 {post : SX → Prop} (hn : n ≤ 10) (hF : zf_F n a_above) (hO : zf_O n a_defined) (hc : c < n) (hat : sh c ≤ 88) (hk : a_known c = nI (zf_K a_above a_defined c)) (hb : ∀ s, s < 8 → bs s < 8 ∧ a_best s = nI (bs s))
    (hJ : zk_J n a_above a_defined bs) (hro : ∀ s, s < 8 → zf_H a_above a_defined c s = true → a_rowOwner s = zf_W a_above a_defined c s) (hRn : ∀ d, R d → d < 10)
    (hp : ∀ ec es eo em, zk_A a_above a_defined bs sh (fun d => R d ∨ d = c) ec → zk_B a_above a_defined bs sh (fun d => R d ∨ d = c) ec es eo em → post (f_count, f_built, f_lineLength, f_colourCount, a_above, a_defined, a_known, a_meets, a_colour, a_best, a_line, a_shift, ec, es, eo, em, a_rowOwner, a_down)) :
    ∀ k i f ec es eo em, i + k = 8 → k < f → zk_A a_above a_defined bs sh R ec → (∀ s, s < i → zf_H a_above a_defined c s = true → ec (sh c + bs s) = nI c) →
      (∀ s, i ≤ s → s < 8 → zf_H a_above a_defined c s = true → ec (sh c + bs s) = -1) → zk_B a_above a_defined bs sh (fun d => R d ∨ d = c) ec es eo em →
      wX_pack_43 post (nI c) (nI (sh c)) f_count f_built f_lineLength f_colourCount f (nI i) a_above a_defined a_known a_meets a_colour a_best a_line a_shift ec es eo em a_rowOwner a_down := by
  intro k
  induction k with
  | zero =>
    intro i f ec es eo em hi hf hA hA2 hFr hB
    obtain ⟨f, rfl, _⟩ := zy_fu hf
    have e : i = 8 := by omega
    subst e
    refine br_t (nI_le (a := 8) (b := 8) (by omega) (by omega)) (hp ec es eo em (fun d s hd hs h => ?_) hB)
    rcases hd with hd | hd
    · exact hA d s hd hs h
    · subst hd; exact hA2 s hs h
  | succ k ih =>
    intro i f ec es eo em hi hf hA hA2 hFr hB
    obtain ⟨f, rfl, hf'⟩ := zy_fu hf
    have hKlt := zf_Klt a_above a_defined c
    refine br_f (nI_ge (a := i) (b := 8) (by omega) (by omega)) ⟨vp_in_nI (by omega) (by omega), ?_⟩
    rw [nI_clamp (n := c) (by omega), hk]
    by_cases hH : zf_H a_above a_defined c i = true
    · obtain ⟨hb1, hb2⟩ := hb i (by omega)
      obtain ⟨d, hd, eW, _⟩ := zf_HW hn hF hc hH
      obtain ⟨m, hm, eO⟩ := hO.1 (8 * d + i)
      have hfree := hFr i (Nat.le_refl i) (by omega) hH
      have hin' : vp_in (nI i) 8 := vp_in_nI (by omega) (by omega)
      have hin : vp_in (nI (sh c + bs i)) 96 := vp_in_nI (by omega) (by omega)
      have hcl : (nI (sh c + bs i)).toNatClampNeg = sh c + bs i := nI_clamp (by omega)
      have eix : nI d * 8 + nI i = nI (8 * d + i) := zb_ix d i
      have hid : vp_in (nI d * 8 + nI i) 80 := by rw [eix]; exact vp_in_nI (by omega) (by omega)
      refine br_f (fun z => ?_) ⟨hin', nm_r (e' := nI (sh c + bs i)) (by rw [nI_clamp (by omega), hb2, nI_add]) ⟨hin', nm_r (e' := nI d) (by rw [nI_clamp (by omega), hro i (by omega) hH, eW])
        ⟨hin, nm_r (e' := upd ec (sh c + bs i) (nI c)) (by rw [hcl, zb_nbb (by omega)]) ⟨hin, nm_r (e' := upd es (sh c + bs i) (nI i)) (by rw [hcl, zb_nbb (by omega)])
        ⟨hin, nm_r (e' := upd eo (sh c + bs i) (nI d)) (by rw [hcl, zb_nbb (by omega)]) ⟨hid, hin, nm_r (e' := upd em (sh c + bs i) (a_defined (8 * d + i))) (by rw [hcl, eix, nI_clamp (by omega), eO, zb_ns (by omega)]) (nm_r (nI_1 i) ?_)⟩⟩⟩⟩⟩⟩
      · rw [zb_b0 (by omega) (by omega), zf_Kb (by omega), hH] at z; exact absurd z (by decide)
      refine ih (i + 1) f _ _ _ _ (by omega) (by omega) (fun d' s hd' hs h => ?_) (fun s hs h => ?_) (fun s hs hs8 h => ?_) (fun i' hi' => ?_)
      · have h1 := hA d' s hd' hs h
        have h2 := hRn d' hd'
        rw [pk_un (fun z => ?_)]
        · exact h1
        · rw [z, hfree] at h1
          exact absurd h1.symm (zb_m1ne (by omega))
      · by_cases e : s = i
        · rw [e, pk_us]
        · have h1 := hA2 s (by omega) h
          by_cases e2 : sh c + bs s = sh c + bs i
          · rw [e2, pk_us]
          · rw [pk_un e2]; exact h1
      · have hne : sh c + bs s ≠ sh c + bs i := by
          intro z
          have := hJ c s i hc hs8 (by omega) h hH (by omega)
          omega
        rw [pk_un hne]; exact hFr s (by omega) hs8 h
      · by_cases e : i' = sh c + bs i
        · subst e
          refine Or.inr ⟨c, i, Or.inr rfl, by omega, by omega, hH, rfl, pk_us, pk_us, by rw [pk_us, eW], ?_⟩
          rw [pk_us, eW, nI_clamp (by omega)]
        · rcases hB i' hi' with h | ⟨c', s', h1, h2, h3, h4, h5, h6, h7, h8, h9⟩
          · exact Or.inl (by rw [pk_un e]; exact h)
          · exact Or.inr ⟨c', s', h1, h2, h3, h4, h5, by rw [pk_un e]; exact h6, by rw [pk_un e]; exact h7, by rw [pk_un e]; exact h8, by rw [pk_un e]; exact h9⟩
    · refine br_t ((zb_b0 (by omega) (by omega)).mpr (by rw [zf_Kb (by omega)]; exact zb_nt hH)) (nm_r (nI_1 i) (ih (i + 1) f ec es eo em (by omega) (by omega) hA (fun s hs h => ?_) (fun s hs => hFr s (by omega)) hB))
      by_cases e : s = i
      · rw [e] at h; exact absurd h hH
      · exact hA2 s (by omega) h
/-- one more row -/
theorem zx_pack {post : SX → Prop} {q : Nat} {rk : Nat → Nat} (hn : n ≤ 10) (hF : zf_F n a_above) (hR : zf_R n a_above rk) (hO : zf_O n a_defined) (hc : c < n) (hq : q ≤ 72) (hk : a_known c = nI (zf_K a_above a_defined c)) (hb : ∀ s, s < 8 → bs s < 8 ∧ a_best s = nI (bs s))
    (hJ : zk_J n a_above a_defined bs) (hcR : ¬ R c) (hRn : ∀ d, R d → d < n) (hRs : ∀ d, R d → a_shift d = nI (sh d) ∧ sh d + 8 ≤ q) (hpar : a_above c = -1 ∨ ∃ p, R p ∧ a_above c = nI p)
    (hA : zk_A a_above a_defined bs sh R a_entryClass) (hB : zk_B a_above a_defined bs sh R a_entryClass a_entrySelector a_entryOwner a_entryMethod)
    (hp : ∀ ro sha at' ec es eo em, at' ≤ q → (∀ d, R d ∨ d = c → sha d = nI (zc_up sh c at' d)) → zk_A a_above a_defined bs (zc_up sh c at') (fun d => R d ∨ d = c) ec → zk_B a_above a_defined bs (zc_up sh c at') (fun d => R d ∨ d = c) ec es eo em →
      post (f_count, f_built, f_lineLength, f_colourCount, a_above, a_defined, a_known, a_meets, a_colour, a_best, a_line, sha, ec, es, eo, em, ro, a_down)) : wpX_pack post (f_count, f_built, f_lineLength, f_colourCount, a_above, a_defined, a_known, a_meets, a_colour, a_best, a_line, a_shift, a_entryClass, a_entrySelector, a_entryOwner, a_entryMethod, a_rowOwner, a_down) (nI c) := by
  unfold wpX_pack
  dsimp only
  refine zx_fill hn hF hc hk hb (fun s hs hH hz => ?_) (fun ro hro => ⟨q + 1, ?_⟩)
  · rcases hpar with e | ⟨p, hp, e⟩
    · rw [zf_Hf (zf_W2 (by omega) hz e)] at hH; exact absurd hH (by decide)
    · have hpn := hRn p hp
      have eW := zf_W3 hn hF hR hc hpn hz e
      have hHp : zf_H a_above a_defined p s = true := by rw [zf_H, ← eW]; exact hH
      obtain ⟨e1, e2⟩ := hRs p hp
      have hbs := (hb s hs).1
      have hE := zk_look hn hJ hA hB hp hpn hs hHp (by omega)
      exact ⟨p, sh p, hpn, e, e1, by omega, by rw [eW]; exact hE.2.2.2.1⟩
  · refine zx_pk9 (q := q) (by omega) (by omega) hk hb (zk_ec hB) (fun i hi hi' => ?_) (fun at' hat hfit => ?_) q 0 (q + 1) (by omega) (by omega)
    · rcases hB i hi' with h | ⟨c', s', h1, h2, h3, h4, h5, h6⟩
      · exact h
      · have := (hRs c' h1).2
        have := (hb s' h3).1
        omega
    · have hne : ∀ d, R d → d ≠ c := fun d hd z => hcR (by rw [← z]; exact hd)
      have hs' : ∀ d, R d → zc_up sh c at' d = sh d := fun d hd => zc_up_n sh (hne d hd)
      have hsc : zc_up sh c at' c = at' := zc_up_s sh c at'
      refine ⟨vp_in_nI (by omega) (by omega), nm_r (e' := upd a_shift c (nI at')) (by rw [nI_clamp (by omega), zb_nbb (by omega)]) ⟨9, ?_⟩⟩
      have hgo := zx_pk43 (R := R) (sh := zc_up sh c at') (a_shift := upd a_shift c (nI at')) (a_rowOwner := ro) (post := post) (f_count := f_count) (f_built := f_built) (f_lineLength := f_lineLength) (f_colourCount := f_colourCount) (a_known := a_known) (a_meets := a_meets) (a_colour := a_colour) (a_best := a_best) (a_line := a_line) (a_down := a_down) hn hF hO hc (by rw [hsc]; omega) hk hb hJ hro (fun d hd => by have := hRn d hd; omega)
        (fun ec es eo em h1 h2 => hp ro _ at' ec es eo em hat (fun d hd => ?_) h1 h2) 8 0 9 a_entryClass a_entrySelector a_entryOwner a_entryMethod rfl (by omega)
        (fun d s hd hs h => by rw [hs' d hd]; exact hA d s hd hs h) (fun s hs => by omega) (fun s _ hs h => by rw [hsc]; exact hfit s hs h)
        (fun i hi => ?_)
      · rw [hsc] at hgo; exact hgo
      · by_cases e : d = c
        · rw [e, pk_us, hsc]
        · have hd' : R d := hd.elim id (fun z => absurd z e)
          rw [pk_un e, hs' d hd']; exact (hRs d hd').1
      · rcases hB i hi with h | ⟨c', s', h1, h2, h3, h4, h5, h6⟩
        · exact Or.inl h
        · exact Or.inr ⟨c', s', Or.inl h1, h2, h3, h4, by rw [hs' c' h1]; exact h5, h6⟩
end
end
section
/-! X: build -/
def zr_T (n : Nat) (up own kn me be sha ec es eo em : Nat → Int32) (cc : Int32) : Prop :=
  (∀ c, c < n → kn c = nI (zf_K up own c)) ∧ (∀ s, s < 8 → me s = nI (zg_M n up own s)) ∧
  (∃ k, k ≤ 8 ∧ cc = nI k ∧ zc_Chi (zg_M n up own) (zg_U (zg_M n up own)) k) ∧
  ∃ bs sh : Nat → Nat, (∀ s, s < 8 → bs s < 8 ∧ be s = nI (bs s)) ∧ (∀ c, c < n → sha c = nI (sh c) ∧ sh c ≤ 80) ∧ zk_J n up own bs ∧
    zk_A up own bs sh (fun c => c < n) ec ∧ zk_B up own bs sh (fun c => c < n) ec es eo em
theorem zk_Am {up own ec : Nat → Int32} {bs sh : Nat → Nat} {R R' : Nat → Prop} (h : ∀ d, R' d → R d) (hA : zk_A up own bs sh R ec) : zk_A up own bs sh R' ec :=
  fun c s hc => hA c s (h c hc)
theorem zk_Bm {up own ec es eo em : Nat → Int32} {bs sh : Nat → Nat} {R R' : Nat → Prop} (h : ∀ d, R d → R' d) (hB : zk_B up own bs sh R ec es eo em) : zk_B up own bs sh R' ec es eo em := by
  intro i hi
  rcases hB i hi with e | ⟨c, s, h1, h2⟩
  · exact Or.inl e
  · exact Or.inr ⟨c, s, h c h1, h2⟩
section
variable {f_count f_built f_lineLength f_colourCount : Int32} {a_above a_defined a_known a_meets a_colour a_best a_line a_shift a_entryClass a_entrySelector a_entryOwner a_entryMethod a_rowOwner a_down : Nat → Int32} {n : Nat}
theorem zx_b52 {post : SX → Prop} {rk g bs : Nat → Nat} (hn : n ≤ 10) (hF : zf_F n a_above) (hR : zf_R n a_above rk) (hO : zf_O n a_defined) (hT : zs_T n a_above a_down g)
    (hk : ∀ c, c < n → a_known c = nI (zf_K a_above a_defined c)) (hb : ∀ s, s < 8 → bs s < 8 ∧ a_best s = nI (bs s)) (hJ : zk_J n a_above a_defined bs)
    (hp : ∀ sha ec es eo em ro sh, (∀ c, c < n → sha c = nI (sh c) ∧ sh c ≤ 80) → zk_A a_above a_defined bs sh (fun c => c < n) ec → zk_B a_above a_defined bs sh (fun c => c < n) ec es eo em →
      post (nI n, f_built, f_lineLength, f_colourCount, a_above, a_defined, a_known, a_meets, a_colour, a_best, a_line, sha, ec, es, eo, em, ro, a_down)) :
    ∀ r k f sha ec es eo em ro sh, k + r = n → r < f → (∀ j, j < k → sha (g j) = nI (sh (g j)) ∧ sh (g j) + 8 ≤ 8 * k) → zk_A a_above a_defined bs sh (fun d => ∃ j, j < k ∧ g j = d) ec →
      zk_B a_above a_defined bs sh (fun d => ∃ j, j < k ∧ g j = d) ec es eo em →
      wX_build_52 post f (nI k) (nI n) f_built f_lineLength f_colourCount a_above a_defined a_known a_meets a_colour a_best a_line sha ec es eo em ro a_down := by
  intro r
  induction r with
  | zero =>
    intro k f sha ec es eo em ro sh hk' hf hs hA hB
    obtain ⟨f, rfl, _⟩ := zy_fu hf
    have e : k = n := by omega
    subst e
    refine br_t (nI_le (by omega) (by omega)) (hp sha ec es eo em ro sh (fun c hc => ?_) (zk_Am (fun d hd => hT.2.2 d hd) hA) (zk_Bm (fun d hd => ?_) hB))
    · obtain ⟨j, hj, e⟩ := hT.2.2 c hc
      have := hs j hj
      rw [← e]
      exact ⟨this.1, by omega⟩
    · obtain ⟨j, hj, e⟩ := hd
      rw [← e]; exact (hT.1 j hj).1
  | succ r ih =>
    intro k f sha ec es eo em ro sh hk' hf hs hA hB
    obtain ⟨f, rfl, hf'⟩ := zy_fu hf
    obtain ⟨h1, h2, h3⟩ := hT.1 k (by omega)
    refine br_f (nI_ge (a := k) (b := n) (by omega) (by omega)) ⟨vp_in_nI (by omega) (by omega), ?_⟩
    rw [nI_clamp (by omega), h2]
    refine zx_pack (q := 8 * k) (R := fun d => ∃ j, j < k ∧ g j = d) hn hF hR hO h1 (by omega) (hk _ h1) hb hJ ?_ ?_ ?_ ?_ hA hB (fun ro' sha' at' ec' es' eo' em' hat hsh hA' hB' => nm_r (nI_1 k) ?_)
    · rintro ⟨j, hj, e⟩
      have := hT.2.1 j k (by omega) (by omega) e
      omega
    · rintro d ⟨j, hj, e⟩
      rw [← e]; exact (hT.1 j (by omega)).1
    · rintro d ⟨j, hj, e⟩
      rw [← e]; exact hs j hj
    · rcases h3 with e | ⟨j, hj, e⟩
      · exact Or.inl e
      · exact Or.inr ⟨g j, ⟨j, hj, rfl⟩, e⟩
    · refine ih (k + 1) f sha' ec' es' eo' em' ro' (zc_up sh (g k) at') (by omega) (by omega) (fun j hj => ?_) (zk_Am (fun d hd => ?_) hA') (zk_Bm (fun d hd => ?_) hB')
      · by_cases e : j = k
        · subst e
          refine ⟨hsh _ (Or.inr rfl), ?_⟩
          rw [zc_up_s]; omega
        · have hne : g j ≠ g k := fun z => e (hT.2.1 j k (by omega) (by omega) z)
          have h4 := (hs j (by omega)).2
          refine ⟨hsh _ (Or.inl ⟨j, by omega, rfl⟩), ?_⟩
          rw [zc_up_n sh hne]; omega
      · obtain ⟨j, hj, e⟩ := hd
        by_cases ej : j = k
        · exact Or.inr (by rw [← e, ej])
        · exact Or.inl ⟨j, by omega, e⟩
      · rcases hd with ⟨j, hj, e⟩ | e
        · exact ⟨j, by omega, e⟩
        · exact ⟨k, by omega, e.symm⟩
theorem zx_b31 {post : SX → Prop} (hp : ∀ ec, (∀ i, i < 96 → ec i = -1) → ∃ n52 : Nat, wX_build_52 post n52 0 f_count f_built f_lineLength f_colourCount a_above a_defined a_known a_meets a_colour a_best a_line a_shift ec a_entrySelector a_entryOwner a_entryMethod a_rowOwner a_down) :
    ∀ k i f ec, i + k = 96 → k < f → (∀ j, j < i → ec j = -1) → wX_build_31 post f_count f_built f_lineLength f_colourCount f (nI i) a_above a_defined a_known a_meets a_colour a_best a_line a_shift ec a_entrySelector a_entryOwner a_entryMethod a_rowOwner a_down := by
  intro k
  induction k with
  | zero =>
    intro i f ec hi hf h
    obtain ⟨f, rfl, _⟩ := zy_fu hf
    have e : i = 96 := by omega
    subst e
    exact br_t (nI_le (a := 96) (b := 96) (by omega) (by omega)) (hp ec h)
  | succ k ih =>
    intro i f ec hi hf h
    obtain ⟨f, rfl, hf'⟩ := zy_fu hf
    refine br_f (nI_ge (a := i) (b := 96) (by omega) (by omega)) ⟨vp_in_nI (by omega) (by omega), nm_r (e' := upd ec i (-1)) (by rw [nI_clamp (by omega), zb_nbm]) (nm_r (nI_1 i) (ih (i + 1) f _ (by omega) (by omega) (fun j hj => ?_)))⟩
    by_cases e : j = i
    · rw [e, pk_us]
    · rw [pk_un e]; exact h j (by omega)
theorem zx_build {post : SX → Prop} {rk : Nat → Nat} (hn : n ≤ 10) (hF : zf_F n a_above) (hR : zf_R n a_above rk) (hO : zf_O n a_defined) (hb : zp_be a_best)
    (hB : f_built = 0 ∨ zr_T n a_above a_defined a_known a_meets a_best a_shift a_entryClass a_entrySelector a_entryOwner a_entryMethod f_colourCount)
    (hp : ∀ bu ll cc kn me co be li sha ec es eo em ro dn, zp_be be → zr_T n a_above a_defined kn me be sha ec es eo em cc → post (nI n, bu, ll, cc, a_above, a_defined, kn, me, co, be, li, sha, ec, es, eo, em, ro, dn)) :
    wpX_build post (nI n, f_built, f_lineLength, f_colourCount, a_above, a_defined, a_known, a_meets, a_colour, a_best, a_line, a_shift, a_entryClass, a_entrySelector, a_entryOwner, a_entryMethod, a_rowOwner, a_down) := by
  unfold wpX_build
  dsimp only
  refine br_c (fun _ => ?_) (fun h => hp _ _ _ _ _ _ _ _ _ _ _ _ _ _ _ hb (hB.elim (fun z => absurd z h) id))
  refine zx_sort hn hF hR (fun dn g hT => ?_)
  dsimp only
  refine zx_learn hn hF hR hT (fun kn hkn => ?_)
  dsimp only
  refine zx_meet hn (zf_Klt a_above a_defined) hkn (fun me hme => ?_)
  dsimp only
  refine zx_paint (M := zg_M n a_above a_defined) (zg_MG n a_above a_defined) hme hb (fun L K li co be hK hChi hbe hprop => ?_)
  dsimp only
  have hbs : ∀ s, s < 8 → (be s).toNatClampNeg < 8 ∧ be s = nI (be s).toNatClampNeg := by
    intro s hs
    obtain ⟨b, hb', e⟩ := hbe s hs
    rw [e, nI_clamp (by omega)]
    exact ⟨hb', rfl⟩
  have hJ : zk_J n a_above a_defined (fun s => (be s).toNatClampNeg) := by
    intro c s t hc hs ht h1 h2 e
    by_cases hst : s = t
    · exact hst
    · exfalso
      have hm : (zg_M n a_above a_defined s).testBit t = true := (zg_mt_bit _ s t n).mpr ⟨c, hc, by rw [zf_Kb hs]; exact h1, by rw [zf_Kb ht]; exact h2⟩
      have e' : (be s).toNatClampNeg = (be t).toNatClampNeg := e
      refine hprop s t _ hs ht hst hm (hbs s hs).2 ?_
      rw [e']; exact (hbs t ht).2
  refine ⟨97, zx_b31 (fun ec hec => ⟨n + 1, ?_⟩) 96 0 97 _ rfl (by omega) (fun j hj => by omega)⟩
  refine zx_b52 hn hF hR hO hT hkn hbs hJ (fun sha ec es eo em ro sh h1 h2 h3 => ?_) n 0 (n + 1) _ ec _ _ _ _ (fun _ => 0) (by omega) (by omega) (fun j hj => by omega) (fun c s hc => ?_) (fun i hi => Or.inl (hec i hi))
  · exact hp _ _ _ _ _ _ _ _ _ _ _ _ _ _ _ hbe ⟨hkn, hme, ⟨K, hK, rfl, hChi⟩, _, sh, hbs, h1, hJ, h2, h3⟩
  · obtain ⟨j, hj, _⟩ := hc
    omega
/-! entry -/
theorem zx_entry {post : Int32 → SX → Prop} {rk : Nat → Nat} {c s : Nat} (hn : n ≤ 10) (hF : zf_F n a_above) (hR : zf_R n a_above rk) (hO : zf_O n a_defined) (hb : zp_be a_best)
    (hB : f_built = 0 ∨ zr_T n a_above a_defined a_known a_meets a_best a_shift a_entryClass a_entrySelector a_entryOwner a_entryMethod f_colourCount) (hc : c < n) (hs : s < 8)
    (hp : ∀ bu ll cc kn me co be li sha ec es eo em ro dn, zp_be be → zr_T n a_above a_defined kn me be sha ec es eo em cc → ∀ r,
      (zf_W a_above a_defined c s = -1 ∧ r = -1 ∨ ∃ i d, i < 96 ∧ d < n ∧ r = nI i ∧ zf_W a_above a_defined c s = nI d ∧ eo i = nI d ∧ em i = a_defined (8 * d + s)) →
      post r (nI n, bu, ll, cc, a_above, a_defined, kn, me, co, be, li, sha, ec, es, eo, em, ro, dn)) :
    wpX_entry post (nI n, f_built, f_lineLength, f_colourCount, a_above, a_defined, a_known, a_meets, a_colour, a_best, a_line, a_shift, a_entryClass, a_entrySelector, a_entryOwner, a_entryMethod, a_rowOwner, a_down) (nI c) (nI s) := by
  unfold wpX_entry
  dsimp only
  refine zx_isT hn hc (br_f (by decide) (zx_slT hs (br_f (by decide) ?_)))
  refine zx_build hn hF hR hO hb hB (fun bu ll cc kn me co be li sha ec es eo em ro dn hbe hT => ?_)
  dsimp only
  have hT' := hT
  obtain ⟨h1, h2, h3, bs, sh, h4, h5, h6, h7, h8⟩ := hT'
  have hbs := h4 s hs
  have hsh := h5 c hc
  refine ⟨vp_in_nI (by omega) (by omega), vp_in_nI hs (by omega), nm_r (e' := nI (sh c + bs s)) (by rw [nI_clamp (by omega), nI_clamp (by omega), hbs.2, hsh.1, nI_add]) ⟨vp_in_nI (by omega) (by omega), ?_⟩⟩
  rw [nI_clamp (n := sh c + bs s) (by omega)]
  by_cases hH : zf_H a_above a_defined c s = true
  · have hE := zk_look hn h6 h7 h8 hc hc hs hH (by omega)
    obtain ⟨d, hd, eW, _⟩ := zf_HW hn hF hc hH
    refine br_t hE.2.1 ⟨vp_in_nI (by omega) (by omega), br_t hE.2.2.1 (hp _ _ _ _ _ _ _ _ _ _ _ _ _ _ _ hbe hT _ (Or.inr ⟨sh c + bs s, d, by omega, hd, rfl, eW, ?_, ?_⟩))⟩
    · rw [hE.2.2.2.1, eW]
    · have := hE.2.2.2.2
      rw [eW, nI_clamp (by omega)] at this
      exact this
  · have hW : zf_W a_above a_defined c s = -1 := by
      by_cases e : zf_W a_above a_defined c s = -1
      · exact e
      · exact absurd (zf_Ht e) hH
    have hno := hp bu ll cc kn me co be li sha ec es eo em ro dn hbe hT (-1) (Or.inl ⟨hW, rfl⟩)
    rcases h8 (sh c + bs s) (by omega) with e | ⟨c', s', _, hc', hs', hH', hE⟩
    · refine br_f (fun z => ?_) hno
      exact absurd (z.symm.trans e) (zb_m1ne (by omega))
    · refine br_c (fun z => ⟨vp_in_nI (by omega) (by omega), br_f (fun z' => ?_) hno⟩) (fun _ => hno)
      have e1 : c = c' := (nI_eq (by omega) (by omega)).mp (z.symm.trans hE.2.1)
      have e2 : s = s' := (nI_eq (by omega) (by omega)).mp (z'.symm.trans hE.2.2.1)
      rw [← e1, ← e2] at hH'
      exact hH hH'
theorem zx_entryN {post : Int32 → SX → Prop} {x : Int32} (s : Int32) (hx : x < 0 ∨ nI n ≤ x) (hp : post (-1) (nI n, f_built, f_lineLength, f_colourCount, a_above, a_defined, a_known, a_meets, a_colour, a_best, a_line, a_shift, a_entryClass, a_entrySelector, a_entryOwner, a_entryMethod, a_rowOwner, a_down)) : wpX_entry post (nI n, f_built, f_lineLength, f_colourCount, a_above, a_defined, a_known, a_meets, a_colour, a_best, a_line, a_shift, a_entryClass, a_entrySelector, a_entryOwner, a_entryMethod, a_rowOwner, a_down) x s := by
  unfold wpX_entry
  dsimp only
  exact zx_isF hx (br_t rfl hp)
theorem zx_entryS {post : Int32 → SX → Prop} {c : Nat} {s : Int32} (hn : n ≤ 10) (hc : c < n) (hs : s < 0 ∨ nI 8 ≤ s) (hp : post (-1) (nI n, f_built, f_lineLength, f_colourCount, a_above, a_defined, a_known, a_meets, a_colour, a_best, a_line, a_shift, a_entryClass, a_entrySelector, a_entryOwner, a_entryMethod, a_rowOwner, a_down)) : wpX_entry post (nI n, f_built, f_lineLength, f_colourCount, a_above, a_defined, a_known, a_meets, a_colour, a_best, a_line, a_shift, a_entryClass, a_entrySelector, a_entryOwner, a_entryMethod, a_rowOwner, a_down) (nI c) s := by
  unfold wpX_entry
  dsimp only
  exact zx_isT hn hc (br_f (by decide) (zx_slF hs (br_t rfl hp)))
end
end
section
/-! methods: each side against the picture -/
def zf_S (up own : Nat → Int32) (c s : Nat) : Int32 := if zf_W up own c s = -1 then 0 else own (8 * (zf_W up own c s).toNatClampNeg + s)
theorem zf_mk0 {p : Nat → Bool} : ∀ {n}, (∀ i, i < n → p i = false) → zb_mk p n = 0 := by
  intro n
  induction n with
  | zero => intro _; rfl
  | succ n ih =>
    intro h
    rw [zb_mk_0 p (h n (by omega)), ih (fun i hi => h i (by omega))]
theorem zf_Os {n : Nat} {own : Nat → Int32} (h : zf_O n own) : zf_O (n + 1) own := ⟨h.1, fun j hj => h.2 j (by omega)⟩
theorem zf_Ou {n c s m : Nat} {own : Nat → Int32} (h : zf_O n own) (hc : c < n) (hs : s < 8) (hm : m ≤ 1000) : zf_O n (upd own (8 * c + s) (nI m)) := by
  refine ⟨fun j => ?_, fun j hj => ?_⟩
  · by_cases e : j = 8 * c + s
    · exact ⟨m, hm, by rw [e, pk_us]⟩
    · rw [pk_un e]; exact h.1 j
  · rw [pk_un (by omega)]; exact h.2 j hj
/-- a parent that is none or there -/
def zf_V (n : Nat) (x : Int32) : Prop := x = -1 ∨ ∃ p, p < n ∧ x = nI p
theorem zf_Vb {n : Nat} {x : Int32} (hn : n ≤ 10) (h : zf_V n x) : vp_nar .byte x.toInt8.toInt32 = x := by
  rcases h with rfl | ⟨p, hp, rfl⟩
  · exact zb_nbbm
  · exact zb_nbb (by omega)
section
variable {a_up a_own a_mates a_alone a_least : Nat → Int32} {n : Nat}
theorem zy_add {post : Int32 → SY → Prop} {x : Int32} (hn : n ≤ 10) (hx : zf_V n x) (h1 : n < 10 → post (nI n) (nI (n + 1), upd a_up n x, a_own, a_mates, a_alone, a_least)) (h2 : n = 10 → post (-2) (nI n, a_up, a_own, a_mates, a_alone, a_least)) :
    wpY_addClass post (nI n, a_up, a_own, a_mates, a_alone, a_least) x := by
  have h15 : wY_addClass_15 post x (nI n) a_up a_own a_mates a_alone a_least := by
    by_cases h : n < 10
    · refine br_t (nI_lt (b := 10) h (by omega)) ⟨vp_in_nI h (by omega), nm_r (e' := upd a_up n x) (by rw [nI_clamp (by omega)]) (nm_r (nI_1 n) ?_)⟩
      rw [nI_pred]
      exact h1 h
    · exact br_f (nI_nlt (b := 10) (by omega) (by omega)) (h2 (by omega))
  unfold wpY_addClass
  dsimp only
  rcases hx with rfl | ⟨p, hp, rfl⟩
  · exact br_t rfl h15
  · exact br_f (zb_m1ne (by omega)) (zy_isT hn hp (br_f (by decide) h15))
theorem zy_addN {post : Int32 → SY → Prop} {x : Int32} (hx : x < 0 ∨ nI n ≤ x) (hm : x ≠ -1) (h : post (-1) (nI n, a_up, a_own, a_mates, a_alone, a_least)) : wpY_addClass post (nI n, a_up, a_own, a_mates, a_alone, a_least) x := by
  unfold wpY_addClass
  dsimp only
  exact br_f hm (zy_isF hx (br_t rfl h))
theorem zy_slT {s : Nat} {A B : Prop} (hs : s < 8) (h : B) : (nI s < 0 → A) ∧ (¬ nI s < 0 → ((7 : Int32) < nI s → A) ∧ (¬ (7 : Int32) < nI s → B)) :=
  br_f (nI_pos (by omega)) (br_f (nI_nlt (a := 7) (b := s) (by omega) (by omega)) h)
theorem zy_slF {x : Int32} {A B : Prop} (hx : x < 0 ∨ nI 8 ≤ x) (h : A) : (x < 0 → A) ∧ (¬ x < 0 → ((7 : Int32) < x → A) ∧ (¬ (7 : Int32) < x → B)) := by
  refine br_c (fun _ => h) (fun h0 => br_c (fun _ => h) (fun h7 => ?_))
  rcases hx with z | z
  · exact absurd z h0
  · have h8 : (8 : Int32) ≤ 7 := Int32.le_trans z (Int32.not_lt.mp h7)
    exact absurd h8 (by decide)
theorem zy_mv {post : Int32 → SY → Prop} {c : Nat} {x : Int32} (hn : n ≤ 10) (hF : zf_F n a_up) (hc : c < n) (hx : zf_V n x)
    (h1 : zf_wk (fun d => decide (d = c)) a_up 10 x = -1 → post 1 (nI n, upd a_up c x, a_own, a_mates, a_alone, a_least)) (h0 : ¬ zf_wk (fun d => decide (d = c)) a_up 10 x = -1 → post 0 (nI n, a_up, a_own, a_mates, a_alone, a_least)) :
    wpY_move post (nI n, a_up, a_own, a_mates, a_alone, a_least) (nI c) x := by
  have h28 : ∃ f, wY_move_28 post (nI c) x (nI n) a_up a_own a_mates a_alone a_least f x 0 := ⟨11, zy_mv28 hn hc hF 10 0 11 x rfl (by omega) hx h1 h0⟩
  unfold wpY_move
  dsimp only
  refine zy_isT hn hc (br_f (by decide) ?_)
  rcases hx with rfl | ⟨p, hp, rfl⟩
  · exact br_t rfl h28
  · exact br_f (zb_m1ne (by omega)) (zy_isT hn hp (br_f (by decide) h28))
theorem zy_send {post : Int32 → Prop} {c s : Nat} (hn : n ≤ 10) (hF : zf_F n a_up) (hO : zf_O n a_own) (hc : c < n) (hs : s < 8) (hp : post (zf_S a_up a_own c s)) :
    wpY_send post (nI n, a_up, a_own, a_mates, a_alone, a_least) (nI c) (nI s) := by
  unfold wpY_send
  dsimp only
  refine zy_owner hn hF hO hc hs ?_
  rcases zf_W4 (own := a_own) hn hF hc s with e | ⟨d, hd, e, _⟩
  · rw [zf_S, if_pos e] at hp
    rw [e]
    exact br_f (by decide) hp
  · have hne : ¬ zf_W a_up a_own c s = -1 := by rw [e]; exact zb_m1ne (by omega)
    rw [zf_S, if_neg hne, e, nI_clamp (by omega)] at hp
    rw [e]
    have hin : vp_in ((8 : Int32) * nI d + nI s) 80 := by rw [zb_ix']; exact vp_in_nI (by omega) (by omega)
    refine br_t (nI_pos' (by omega)) ⟨hin, ?_⟩
    rw [zb_ix', nI_clamp (by omega)]
    exact hp
theorem zy_sendN {post : Int32 → Prop} {x : Int32} (s : Int32) (hx : x < 0 ∨ nI n ≤ x) (hp : post 0) : wpY_send post (nI n, a_up, a_own, a_mates, a_alone, a_least) x s := by
  unfold wpY_send
  dsimp only
  exact zy_ownerN s hx (br_f (by decide) hp)
theorem zy_sendS {post : Int32 → Prop} {c : Nat} {s : Int32} (hn : n ≤ 10) (hc : c < n) (hs : s < 0 ∨ nI 8 ≤ s) (hp : post 0) : wpY_send post (nI n, a_up, a_own, a_mates, a_alone, a_least) (nI c) s := by
  unfold wpY_send
  dsimp only
  exact zy_ownerS hn hc hs (br_f (by decide) hp)
theorem zy_parT {post : Int32 → Prop} {c : Nat} (hn : n ≤ 10) (hc : c < n) (hp : post (a_up c)) : wpY_parent post (nI n, a_up, a_own, a_mates, a_alone, a_least) (nI c) := by
  unfold wpY_parent
  dsimp only
  refine zy_isT hn hc (br_f (by decide) ⟨vp_in_nI (by omega) (by omega), ?_⟩)
  rw [nI_clamp (by omega)]; exact hp
theorem zy_parF {post : Int32 → Prop} {x : Int32} (hx : x < 0 ∨ nI n ≤ x) (hp : post (-1)) : wpY_parent post (nI n, a_up, a_own, a_mates, a_alone, a_least) x := by
  unfold wpY_parent
  dsimp only
  exact zy_isF hx (br_t rfl hp)
theorem zy_h5 {post : Int32 → Prop} {c : Nat} {s : Int32} {p : Nat → Bool} (hn : n ≤ 10) (hc : c < n)
    (how : ∀ d, d < n → ∀ post : Int32 → Prop, (∀ r, (r = nI c ↔ p d = true) → post r) → wpY_owner post (nI n, a_up, a_own, a_mates, a_alone, a_least) (nI d) s) (hp : post (nI (zb_mk p n))) :
    ∀ k i f, i + k = n → k < f → wY_heirs_5 post (nI c) s (nI n) a_up a_own a_mates a_alone a_least f (nI (zb_mk p i)) (nI i) := by
  intro k
  induction k with
  | zero =>
    intro i f hi hf
    obtain ⟨f, rfl, _⟩ := zy_fu hf
    have e : i = n := by omega
    subst e
    exact br_t (nI_le (by omega) (by omega)) hp
  | succ k ih =>
    intro i f hi hf
    obtain ⟨f, rfl, hf'⟩ := zy_fu hf
    have hK := ih (i + 1) f (by omega) (by omega)
    refine br_f (nI_ge (a := i) (b := n) (by omega) (by omega)) (zy_isT hn hc (br_f (by decide) ?_))
    refine how i (by omega) _ (fun r hr => ?_)
    by_cases hz : p i = true
    · exact br_t (hr.mpr hz) (nm_r (zb_mk_1 p (by omega) hz) (nm_r (nI_1 i) hK))
    · rw [zb_mk_0 p (zb_nt hz)] at hK
      exact br_f (fun z => hz (hr.mp z)) (nm_r (zb_or0 _) (nm_r (nI_1 i) hK))
theorem zy_heirs {post : Int32 → Prop} {c : Nat} {s : Int32} {p : Nat → Bool} (hn : n ≤ 10) (hc : c < n)
    (how : ∀ d, d < n → ∀ post : Int32 → Prop, (∀ r, (r = nI c ↔ p d = true) → post r) → wpY_owner post (nI n, a_up, a_own, a_mates, a_alone, a_least) (nI d) s) (hp : post (nI (zb_mk p n))) :
    wpY_heirs post (nI n, a_up, a_own, a_mates, a_alone, a_least) (nI c) s := ⟨n + 1, zy_h5 hn hc how hp n 0 (n + 1) (by omega) (by omega)⟩
theorem zy_heirsN {post : Int32 → Prop} {x : Int32} (s : Int32) (hx : x < 0 ∨ nI n ≤ x) (hp : post 0) : wpY_heirs post (nI n, a_up, a_own, a_mates, a_alone, a_least) x s :=
  ⟨1, br_c (fun _ => hp) (fun _ => zy_isF hx (br_t rfl hp))⟩
end
section
variable {f_count f_built f_lineLength f_colourCount : Int32} {a_above a_defined a_known a_meets a_colour a_best a_line a_shift a_entryClass a_entrySelector a_entryOwner a_entryMethod a_rowOwner a_down : Nat → Int32} {n : Nat} {rk : Nat → Nat}
theorem zx_add {post : Int32 → SX → Prop} {x : Int32} (hn : n ≤ 10) (hx : zf_V n x) (hO : zf_O n a_defined) (h1 : n < 10 → post (nI n) (nI (n + 1), 0, f_lineLength, f_colourCount, upd a_above n x, a_defined, a_known, a_meets, a_colour, a_best, a_line, a_shift, a_entryClass, a_entrySelector, a_entryOwner, a_entryMethod, a_rowOwner, a_down))
    (h2 : n = 10 → post (-2) (nI n, f_built, f_lineLength, f_colourCount, a_above, a_defined, a_known, a_meets, a_colour, a_best, a_line, a_shift, a_entryClass, a_entrySelector, a_entryOwner, a_entryMethod, a_rowOwner, a_down)) : wpX_addClass post (nI n, f_built, f_lineLength, f_colourCount, a_above, a_defined, a_known, a_meets, a_colour, a_best, a_line, a_shift, a_entryClass, a_entrySelector, a_entryOwner, a_entryMethod, a_rowOwner, a_down) x := by
  have h15 : wX_addClass_15 post x (nI n) f_built f_lineLength f_colourCount a_above a_defined a_known a_meets a_colour a_best a_line a_shift a_entryClass a_entrySelector a_entryOwner a_entryMethod a_rowOwner a_down := by
    by_cases h : n < 10
    · exact br_t (nI_lt (b := 10) h (by omega)) ⟨vp_in_nI h (by omega), nm_r (e' := upd a_above n x) (by rw [nI_clamp (by omega), zf_Vb hn hx]) ⟨9, zx_add40 h hO.2 (h1 h) 8 0 9 rfl (by omega)⟩⟩
    · exact br_f (nI_nlt (b := 10) (by omega) (by omega)) (h2 (by omega))
  unfold wpX_addClass
  dsimp only
  rcases hx with rfl | ⟨p, hp, rfl⟩
  · exact br_t rfl h15
  · exact br_f (zb_m1ne (by omega)) (zx_isT hn hp (br_f (by decide) h15))
theorem zx_addN {post : Int32 → SX → Prop} {x : Int32} (hx : x < 0 ∨ nI n ≤ x) (hm : x ≠ -1) (h : post (-1) (nI n, f_built, f_lineLength, f_colourCount, a_above, a_defined, a_known, a_meets, a_colour, a_best, a_line, a_shift, a_entryClass, a_entrySelector, a_entryOwner, a_entryMethod, a_rowOwner, a_down)) : wpX_addClass post (nI n, f_built, f_lineLength, f_colourCount, a_above, a_defined, a_known, a_meets, a_colour, a_best, a_line, a_shift, a_entryClass, a_entrySelector, a_entryOwner, a_entryMethod, a_rowOwner, a_down) x := by
  unfold wpX_addClass
  dsimp only
  exact br_f hm (zx_isF hx (br_t rfl h))
theorem zx_mv {post : Int32 → SX → Prop} {c : Nat} {x : Int32} (hn : n ≤ 10) (hF : zf_F n a_above) (hc : c < n) (hx : zf_V n x)
    (h1 : zf_wk (fun d => decide (d = c)) a_above 10 x = -1 → post 1 (nI n, 0, f_lineLength, f_colourCount, upd a_above c x, a_defined, a_known, a_meets, a_colour, a_best, a_line, a_shift, a_entryClass, a_entrySelector, a_entryOwner, a_entryMethod, a_rowOwner, a_down)) (h0 : ¬ zf_wk (fun d => decide (d = c)) a_above 10 x = -1 → post 0 (nI n, f_built, f_lineLength, f_colourCount, a_above, a_defined, a_known, a_meets, a_colour, a_best, a_line, a_shift, a_entryClass, a_entrySelector, a_entryOwner, a_entryMethod, a_rowOwner, a_down)) :
    wpX_move post (nI n, f_built, f_lineLength, f_colourCount, a_above, a_defined, a_known, a_meets, a_colour, a_best, a_line, a_shift, a_entryClass, a_entrySelector, a_entryOwner, a_entryMethod, a_rowOwner, a_down) (nI c) x := by
  have h39 : zf_wk (fun d => decide (d = c)) a_above 10 x = -1 → wX_move_39 post (nI c) x (nI n) f_built f_lineLength f_colourCount a_above a_defined a_known a_meets a_colour a_best a_line a_shift a_entryClass a_entrySelector a_entryOwner a_entryMethod a_rowOwner a_down :=
    fun h => ⟨vp_in_nI (by omega) (by omega), nm_r (e' := upd a_above c x) (by rw [nI_clamp (by omega), zf_Vb hn hx]) (h1 h)⟩
  have h23 : wX_move_23 post (nI c) x (nI n) f_built f_lineLength f_colourCount a_above a_defined a_known a_meets a_colour a_best a_line a_shift a_entryClass a_entrySelector a_entryOwner a_entryMethod a_rowOwner a_down := by
    by_cases e : x = -1
    · exact br_t e (h39 (by rw [e]; exact zf_wk_neg _ _ _))
    · refine br_f e (zx_under hn hc hF hx ?_)
      by_cases h : zf_wk (fun d => decide (d = c)) a_above 10 x = -1
      · rw [if_pos h]; exact br_t rfl (h39 h)
      · rw [if_neg h]; exact br_f (by decide) (h0 h)
  unfold wpX_move
  dsimp only
  refine zx_isT hn hc (br_f (by decide) ?_)
  rcases hx with rfl | ⟨p, hp, rfl⟩
  · exact br_t rfl h23
  · exact br_f (zb_m1ne (by omega)) (zx_isT hn hp (br_f (by decide) h23))
theorem zx_send {post : Int32 → SX → Prop} {c s : Nat} (hn : n ≤ 10) (hF : zf_F n a_above) (hR : zf_R n a_above rk) (hO : zf_O n a_defined) (hb : zp_be a_best)
    (hB : f_built = 0 ∨ zr_T n a_above a_defined a_known a_meets a_best a_shift a_entryClass a_entrySelector a_entryOwner a_entryMethod f_colourCount) (hc : c < n) (hs : s < 8)
    (hp : ∀ bu ll cc kn me co be li sha ec es eo em ro dn, zp_be be → zr_T n a_above a_defined kn me be sha ec es eo em cc →
      post (zf_S a_above a_defined c s) (nI n, bu, ll, cc, a_above, a_defined, kn, me, co, be, li, sha, ec, es, eo, em, ro, dn)) :
    wpX_send post (nI n, f_built, f_lineLength, f_colourCount, a_above, a_defined, a_known, a_meets, a_colour, a_best, a_line, a_shift, a_entryClass, a_entrySelector, a_entryOwner, a_entryMethod, a_rowOwner, a_down) (nI c) (nI s) := by
  unfold wpX_send
  dsimp only
  refine zx_entry hn hF hR hO hb hB hc hs (fun bu ll cc kn me co be li sha ec es eo em ro dn hbe hT r hr => ?_)
  dsimp only
  have hfin := hp bu ll cc kn me co be li sha ec es eo em ro dn hbe hT
  rcases hr with ⟨e, rfl⟩ | ⟨i, d, hi, hd, rfl, e, e1, e2⟩
  · rw [zf_S, if_pos e] at hfin
    exact br_f (by decide) hfin
  · have hne : ¬ zf_W a_above a_defined c s = -1 := by rw [e]; exact zb_m1ne (by omega)
    rw [zf_S, if_neg hne, e, nI_clamp (by omega), ← e2] at hfin
    refine br_t (nI_pos' (by omega)) ⟨vp_in_nI hi (by omega), ?_⟩
    rw [nI_clamp (by omega)]
    exact hfin
theorem zx_sendN {post : Int32 → SX → Prop} {x : Int32} (s : Int32) (hx : x < 0 ∨ nI n ≤ x) (hp : post 0 (nI n, f_built, f_lineLength, f_colourCount, a_above, a_defined, a_known, a_meets, a_colour, a_best, a_line, a_shift, a_entryClass, a_entrySelector, a_entryOwner, a_entryMethod, a_rowOwner, a_down)) : wpX_send post (nI n, f_built, f_lineLength, f_colourCount, a_above, a_defined, a_known, a_meets, a_colour, a_best, a_line, a_shift, a_entryClass, a_entrySelector, a_entryOwner, a_entryMethod, a_rowOwner, a_down) x s := by
  unfold wpX_send
  dsimp only
  exact zx_entryN s hx (br_f (by decide) hp)
theorem zx_sendS {post : Int32 → SX → Prop} {c : Nat} {s : Int32} (hn : n ≤ 10) (hc : c < n) (hs : s < 0 ∨ nI 8 ≤ s) (hp : post 0 (nI n, f_built, f_lineLength, f_colourCount, a_above, a_defined, a_known, a_meets, a_colour, a_best, a_line, a_shift, a_entryClass, a_entrySelector, a_entryOwner, a_entryMethod, a_rowOwner, a_down)) : wpX_send post (nI n, f_built, f_lineLength, f_colourCount, a_above, a_defined, a_known, a_meets, a_colour, a_best, a_line, a_shift, a_entryClass, a_entrySelector, a_entryOwner, a_entryMethod, a_rowOwner, a_down) (nI c) s := by
  unfold wpX_send
  dsimp only
  exact zx_entryS hn hc hs (br_f (by decide) hp)
theorem zx_h36 {post : Int32 → SX → Prop} {c s : Nat} (hn : n ≤ 10) (hF : zf_F n a_above) (hR : zf_R n a_above rk) (hO : zf_O n a_defined) (hc : c < n) (hs : s < 8)
    (hp : ∀ bu ll cc kn me co be li sha ec es eo em ro dn, zp_be be → (bu = 0 ∨ zr_T n a_above a_defined kn me be sha ec es eo em cc) →
      post (nI (zb_mk (fun d => decide (zf_W a_above a_defined d s = nI c)) n)) (nI n, bu, ll, cc, a_above, a_defined, kn, me, co, be, li, sha, ec, es, eo, em, ro, dn)) :
    ∀ k i f bu ll cc kn me co be li sha ec es eo em ro dn, i + k = n → k < f → zp_be be → (bu = 0 ∨ zr_T n a_above a_defined kn me be sha ec es eo em cc) →
      wX_heirs_36 post (nI c) (nI s) f (nI (zb_mk (fun d => decide (zf_W a_above a_defined d s = nI c)) i)) (nI i) (nI n) bu ll cc a_above a_defined kn me co be li sha ec es eo em ro dn := by
  intro k
  induction k with
  | zero =>
    intro i f bu ll cc kn me co be li sha ec es eo em ro dn hi hf hb hB
    obtain ⟨f, rfl, _⟩ := zy_fu hf
    have e : i = n := by omega
    subst e
    exact br_t (nI_le (by omega) (by omega)) (hp _ _ _ _ _ _ _ _ _ _ _ _ _ _ _ hb hB)
  | succ k ih =>
    intro i f bu ll cc kn me co be li sha ec es eo em ro dn hi hf hb hB
    obtain ⟨f, rfl, hf'⟩ := zy_fu hf
    refine br_f (nI_ge (a := i) (b := n) (by omega) (by omega)) ?_
    refine zx_entry hn hF hR hO hb hB (by omega) hs (fun bu' ll' cc' kn' me' co' be' li' sha' ec' es' eo' em' ro' dn' hbe hT r hr => ?_)
    dsimp only
    have hK := ih (i + 1) f bu' ll' cc' kn' me' co' be' li' sha' ec' es' eo' em' ro' dn' (by omega) (by omega) hbe (Or.inr hT)
    by_cases hz : zf_W a_above a_defined i s = nI c
    · rcases hr with ⟨e, _⟩ | ⟨i', d, hi', hd, rfl, e, e1, e2⟩
      · exact absurd (hz.symm.trans e) (zb_m1ne (by omega))
      · refine br_f (nI_pos (by omega)) ⟨vp_in_nI hi' (by omega), ?_⟩
        rw [nI_clamp (by omega), e1]
        exact br_t (e.symm.trans hz) (nm_r (zb_mk_1 (fun d => decide (zf_W a_above a_defined d s = nI c)) (by omega) (decide_eq_true hz)) (nm_r (nI_1 i) hK))
    · rw [zb_mk_0 (fun d => decide (zf_W a_above a_defined d s = nI c)) (decide_eq_false hz)] at hK
      rcases hr with ⟨e, rfl⟩ | ⟨i', d, hi', hd, rfl, e, e1, e2⟩
      · exact br_t zb_m1lt (nm_r (nI_1 i) hK)
      · refine br_f (nI_pos (by omega)) ⟨vp_in_nI hi' (by omega), ?_⟩
        rw [nI_clamp (by omega), e1]
        exact br_f (fun z => hz (e.trans z)) (nm_r (nI_1 i) hK)
end
end
section
/-! the relation, and what is owed -/
def zr_C (n : Nat) (rk : Nat → Nat) (up own : Nat → Int32) : Prop := n ≤ 10 ∧ zf_F n up ∧ zf_R n up rk ∧ zf_O n own
def i_Rel (k : Nat) (u : SX) (v : SY) : Prop := match u, v with
  | (f_count, f_built, f_lineLength, f_colourCount, a_above, a_defined, a_known, a_meets, a_colour, a_best, a_line, a_shift, a_entryClass, a_entrySelector, a_entryOwner, a_entryMethod, a_rowOwner, a_down), (g_count, a_up, a_own, a_mates, a_alone, a_least) => ∃ n rk, f_count = nI n ∧ g_count = nI n ∧ a_up = a_above ∧ a_own = a_defined ∧ zr_C n rk a_above a_defined ∧ zp_be a_best ∧
    (f_built = 0 ∨ zr_T n a_above a_defined a_known a_meets a_best a_shift a_entryClass a_entrySelector a_entryOwner a_entryMethod f_colourCount)
theorem i_up {k : Nat} {u : SX} {v : SY} (h : i_Rel k u v) : i_Rel (k + 4) u v := h
theorem zr_el {k : Nat} {u : SX} {v : SY} {P : SX → SY → Prop}
    (h : ∀ (n : Nat) (rk : Nat → Nat) (f_built f_lineLength f_colourCount : Int32) (a_above a_defined a_known a_meets a_colour a_best a_line a_shift a_entryClass a_entrySelector a_entryOwner a_entryMethod a_rowOwner a_down a_mates a_alone a_least : Nat → Int32), n ≤ 10 → zf_F n a_above → zf_R n a_above rk → zf_O n a_defined → zp_be a_best →
      (f_built = 0 ∨ zr_T n a_above a_defined a_known a_meets a_best a_shift a_entryClass a_entrySelector a_entryOwner a_entryMethod f_colourCount) →
      P (nI n, f_built, f_lineLength, f_colourCount, a_above, a_defined, a_known, a_meets, a_colour, a_best, a_line, a_shift, a_entryClass, a_entrySelector, a_entryOwner, a_entryMethod, a_rowOwner, a_down) (nI n, a_above, a_defined, a_mates, a_alone, a_least)) (I : i_Rel k u v) : P u v := by
  obtain ⟨f_count, f_built, f_lineLength, f_colourCount, a_above, a_defined, a_known, a_meets, a_colour, a_best, a_line, a_shift, a_entryClass, a_entrySelector, a_entryOwner, a_entryMethod, a_rowOwner, a_down⟩ := u
  obtain ⟨g_count, a_up, a_own, a_mates, a_alone, a_least⟩ := v
  obtain ⟨n, rk, e1, e2, e3, e4, ⟨hn, hF, hR, hO⟩, hb, hB⟩ := I
  subst e1 e2 e3 e4
  exact h n rk _ _ _ _ _ _ _ _ _ _ _ _ _ _ _ _ _ _ _ _ hn hF hR hO hb hB
theorem zr_in {k n : Nat} {rk : Nat → Nat} {f_built f_lineLength f_colourCount : Int32} {a_above a_defined a_known a_meets a_colour a_best a_line a_shift a_entryClass a_entrySelector a_entryOwner a_entryMethod a_rowOwner a_down a_mates a_alone a_least : Nat → Int32} (hn : n ≤ 10) (hF : zf_F n a_above) (hR : zf_R n a_above rk) (hO : zf_O n a_defined) (hb : zp_be a_best)
    (hB : f_built = 0 ∨ zr_T n a_above a_defined a_known a_meets a_best a_shift a_entryClass a_entrySelector a_entryOwner a_entryMethod f_colourCount) :
    i_Rel k (nI n, f_built, f_lineLength, f_colourCount, a_above, a_defined, a_known, a_meets, a_colour, a_best, a_line, a_shift, a_entryClass, a_entrySelector, a_entryOwner, a_entryMethod, a_rowOwner, a_down) (nI n, a_above, a_defined, a_mates, a_alone, a_least) := ⟨n, rk, rfl, rfl, rfl, rfl, ⟨hn, hF, hR, hO⟩, hb, hB⟩
theorem i_vc0 : wpX_init (fun u => wpY_init (fun v => i_Rel 0 u v)) :=
  ⟨0, fun _ => 0, rfl, rfl, rfl, rfl, ⟨by omega, fun c hc => by omega, fun c hc => by omega, fun j => ⟨0, by omega, rfl⟩, fun j _ => rfl⟩, fun s _ => ⟨0, by omega, rfl⟩, Or.inl rfl⟩
theorem zr_ix (x : Int32) {n : Nat} (hn : n ≤ 10) : (x < 0 ∨ nI n ≤ x) ∨ ∃ j, j < n ∧ x = nI j := by
  rcases pk_ix x (n := n) (by omega) with h | h | h
  · exact Or.inl (Or.inl h)
  · exact Or.inl (Or.inr h)
  · exact Or.inr h
theorem i_vc_addClass {k : Nat} {u : SX} {v : SY} (I : i_Rel k u v) (hk : k + 4 ≤ 2048) (v1 : Int32) : wpX_addClass (fun r u' => wpY_addClass (fun r' v' => r' = r ∧ i_Rel (k + 4) u' v') v v1) u v1 := by
  refine zr_el (P := fun u v => wpX_addClass (fun r u' => wpY_addClass (fun r' v' => r' = r ∧ i_Rel (k + 4) u' v') v v1) u v1) ?_ I
  intro n rk f_built f_lineLength f_colourCount a_above a_defined a_known a_meets a_colour a_best a_line a_shift a_entryClass a_entrySelector a_entryOwner a_entryMethod a_rowOwner a_down a_mates a_alone a_least hn hF hR hO hb hB
  have hval : zf_V n v1 → wpX_addClass (fun r u' => wpY_addClass (fun r' v' => r' = r ∧ i_Rel (k + 4) u' v') (nI n, a_above, a_defined, a_mates, a_alone, a_least) v1) (nI n, f_built, f_lineLength, f_colourCount, a_above, a_defined, a_known, a_meets, a_colour, a_best, a_line, a_shift, a_entryClass, a_entrySelector, a_entryOwner, a_entryMethod, a_rowOwner, a_down) v1 := by
    intro hx
    refine zx_add hn hx hO (fun h => zy_add hn hx (fun _ => ⟨rfl, ?_⟩) (fun z => by omega)) (fun h => zy_add hn hx (fun z => by omega) (fun _ => ⟨rfl, zr_in hn hF hR hO hb hB⟩))
    obtain ⟨rk', hR'⟩ := zf_addR hn hF hR hx
    exact zr_in (by omega) (zf_addF hF hx) hR' (zf_Os hO) hb (Or.inl rfl)
  rcases zr_ix v1 hn with h | ⟨p, hp, e⟩
  · by_cases e : v1 = -1
    · exact hval (Or.inl e)
    · exact zx_addN h e (zy_addN h e ⟨rfl, zr_in hn hF hR hO hb hB⟩)
  · exact hval (Or.inr ⟨p, hp, e⟩)
theorem i_vc_define {k : Nat} {u : SX} {v : SY} (I : i_Rel k u v) (hk : k + 4 ≤ 2048) (v1 : Int32) (v2 : Int32) (v3 : Int32) : wpX_define (fun r u' => wpY_define (fun r' v' => r' = r ∧ i_Rel (k + 4) u' v') v v1 v2 v3) u v1 v2 v3 := by
  refine zr_el (P := fun u v => wpX_define (fun r u' => wpY_define (fun r' v' => r' = r ∧ i_Rel (k + 4) u' v') v v1 v2 v3) u v1 v2 v3) ?_ I
  intro n rk f_built f_lineLength f_colourCount a_above a_defined a_known a_meets a_colour a_best a_line a_shift a_entryClass a_entrySelector a_entryOwner a_entryMethod a_rowOwner a_down a_mates a_alone a_least hn hF hR hO hb hB
  have hsame : i_Rel (k + 4) (nI n, f_built, f_lineLength, f_colourCount, a_above, a_defined, a_known, a_meets, a_colour, a_best, a_line, a_shift, a_entryClass, a_entrySelector, a_entryOwner, a_entryMethod, a_rowOwner, a_down) (nI n, a_above, a_defined, a_mates, a_alone, a_least) := zr_in hn hF hR hO hb hB
  unfold wpX_define wpY_define
  dsimp only
  rcases zr_ix v1 hn with h1 | ⟨c, hc, rfl⟩
  · exact zx_isF h1 (br_t rfl (zy_isF h1 (br_t rfl ⟨rfl, hsame⟩)))
  · refine zx_isT hn hc (br_f (by decide) ?_)
    rcases zr_ix v2 (n := 8) (by omega) with h2 | ⟨s, hs, rfl⟩
    · exact zx_slF h2 (br_t rfl (zy_isT hn hc (br_f (by decide) (zy_slF h2 ⟨rfl, hsame⟩))))
    · refine zx_slT hs (br_f (by decide) ?_)
      refine br_c (fun h3 => zy_isT hn hc (br_f (by decide) (zy_slT hs (br_t h3 ⟨rfl, hsame⟩)))) (fun h3 => br_c (fun h4 => ?_) (fun h4 => zy_isT hn hc (br_f (by decide) (zy_slT hs (br_f h3 (br_f h4 ⟨rfl, hsame⟩))))))
      obtain ⟨m, hm, rfl⟩ : ∃ m, m ≤ 1000 ∧ v3 = nI m := nI_of2 (M := 1000) (by decide) (fun z => h3 (Int32.lt_trans z (by decide))) h4
      have ex : vp_in (nI c * 8 + nI s) 80 := by rw [zb_ix]; exact vp_in_nI (by omega) (by omega)
      have ey : vp_in (8 * nI c + nI s) 80 := by rw [zb_ix']; exact vp_in_nI (by omega) (by omega)
      refine ⟨ex, nm_r (e' := upd a_defined (8 * c + s) (nI m)) (by rw [zb_ix, nI_clamp (by omega), zb_nss (by omega)]) (zy_isT hn hc (br_f (by decide) (zy_slT hs (br_f h3 (br_t h4 ⟨ey, nm_r (e' := upd a_defined (8 * c + s) (nI m)) (by rw [zb_ix', nI_clamp (by omega)]) ⟨rfl, ?_⟩⟩)))))⟩
      exact zr_in hn hF hR (zf_Ou hO hc hs hm) hb (Or.inl rfl)
theorem i_vc_drop {k : Nat} {u : SX} {v : SY} (I : i_Rel k u v) (hk : k + 4 ≤ 2048) (v1 : Int32) (v2 : Int32) : wpX_drop (fun r u' => wpY_drop (fun r' v' => r' = r ∧ i_Rel (k + 4) u' v') v v1 v2) u v1 v2 := by
  refine zr_el (P := fun u v => wpX_drop (fun r u' => wpY_drop (fun r' v' => r' = r ∧ i_Rel (k + 4) u' v') v v1 v2) u v1 v2) ?_ I
  intro n rk f_built f_lineLength f_colourCount a_above a_defined a_known a_meets a_colour a_best a_line a_shift a_entryClass a_entrySelector a_entryOwner a_entryMethod a_rowOwner a_down a_mates a_alone a_least hn hF hR hO hb hB
  have hsame : i_Rel (k + 4) (nI n, f_built, f_lineLength, f_colourCount, a_above, a_defined, a_known, a_meets, a_colour, a_best, a_line, a_shift, a_entryClass, a_entrySelector, a_entryOwner, a_entryMethod, a_rowOwner, a_down) (nI n, a_above, a_defined, a_mates, a_alone, a_least) := zr_in hn hF hR hO hb hB
  unfold wpX_drop wpY_drop
  dsimp only
  rcases zr_ix v1 hn with h1 | ⟨c, hc, rfl⟩
  · exact zx_isF h1 (br_t rfl (zy_isF h1 (br_t rfl ⟨rfl, hsame⟩)))
  · refine zx_isT hn hc (br_f (by decide) ?_)
    rcases zr_ix v2 (n := 8) (by omega) with h2 | ⟨s, hs, rfl⟩
    · exact zx_slF h2 (br_t rfl (zy_isT hn hc (br_f (by decide) (zy_slF h2 ⟨rfl, hsame⟩))))
    · have ex : vp_in (nI c * 8 + nI s) 80 := by rw [zb_ix]; exact vp_in_nI (by omega) (by omega)
      have ey : vp_in (8 * nI c + nI s) 80 := by rw [zb_ix']; exact vp_in_nI (by omega) (by omega)
      have cx : (nI c * 8 + nI s).toNatClampNeg = 8 * c + s := by rw [zb_ix, nI_clamp (by omega)]
      have cy : (8 * nI c + nI s).toNatClampNeg = 8 * c + s := by rw [zb_ix', nI_clamp (by omega)]
      refine zx_slT hs (br_f (by decide) ⟨ex, ?_⟩)
      have hY : ∀ {A B : Prop}, B → wpY_is (fun r_1 => (r_1 = 0 → A) ∧ (¬ r_1 = 0 → B)) (nI n, a_above, a_defined, a_mates, a_alone, a_least) (nI c) := fun h => zy_isT hn hc (br_f (by decide) h)
      by_cases hz : a_defined (8 * c + s) = 0
      · exact br_t (by rw [cx]; exact hz) (hY (zy_slT hs ⟨ey, br_t (by rw [cy]; exact hz) ⟨rfl, hsame⟩⟩))
      · refine br_f (by rw [cx]; exact hz) ⟨ex, nm_r (e' := upd a_defined (8 * c + s) (nI 0)) (by rw [cx]; exact congrArg _ (zb_ns (c := 0) (by omega))) (hY (zy_slT hs ⟨ey, br_f (by rw [cy]; exact hz) ⟨ey, nm_r (e' := upd a_defined (8 * c + s) (nI 0)) (by rw [cy]; rfl) ⟨rfl, ?_⟩⟩⟩))⟩
        exact zr_in hn hF hR (zf_Ou hO hc hs (by omega)) hb (Or.inl rfl)
theorem i_vc_move {k : Nat} {u : SX} {v : SY} (I : i_Rel k u v) (hk : k + 4 ≤ 2048) (v1 : Int32) (v2 : Int32) : wpX_move (fun r u' => wpY_move (fun r' v' => r' = r ∧ i_Rel (k + 4) u' v') v v1 v2) u v1 v2 := by
  refine zr_el (P := fun u v => wpX_move (fun r u' => wpY_move (fun r' v' => r' = r ∧ i_Rel (k + 4) u' v') v v1 v2) u v1 v2) ?_ I
  intro n rk f_built f_lineLength f_colourCount a_above a_defined a_known a_meets a_colour a_best a_line a_shift a_entryClass a_entrySelector a_entryOwner a_entryMethod a_rowOwner a_down a_mates a_alone a_least hn hF hR hO hb hB
  have hsame : i_Rel (k + 4) (nI n, f_built, f_lineLength, f_colourCount, a_above, a_defined, a_known, a_meets, a_colour, a_best, a_line, a_shift, a_entryClass, a_entrySelector, a_entryOwner, a_entryMethod, a_rowOwner, a_down) (nI n, a_above, a_defined, a_mates, a_alone, a_least) := zr_in hn hF hR hO hb hB
  rcases zr_ix v1 hn with h1 | ⟨c, hc, rfl⟩
  · unfold wpX_move wpY_move
    dsimp only
    exact zx_isF h1 (br_t rfl (zy_isF h1 (br_t rfl ⟨rfl, hsame⟩)))
  · have hval : zf_V n v2 → wpX_move (fun r u' => wpY_move (fun r' v' => r' = r ∧ i_Rel (k + 4) u' v') (nI n, a_above, a_defined, a_mates, a_alone, a_least) (nI c) v2) (nI n, f_built, f_lineLength, f_colourCount, a_above, a_defined, a_known, a_meets, a_colour, a_best, a_line, a_shift, a_entryClass, a_entrySelector, a_entryOwner, a_entryMethod, a_rowOwner, a_down) (nI c) v2 := by
      intro hx
      refine zx_mv hn hF hc hx (fun h => zy_mv hn hF hc hx (fun _ => ⟨rfl, ?_⟩) (fun z => absurd h z)) (fun h => zy_mv hn hF hc hx (fun z => absurd z h) (fun _ => ⟨rfl, hsame⟩))
      obtain ⟨rk', hR'⟩ := zf_movR hn hF hR hx h
      exact zr_in hn (zf_movF hF hx) hR' hO hb (Or.inl rfl)
    rcases zr_ix v2 hn with h | ⟨p, hp, e⟩
    · by_cases e : v2 = -1
      · exact hval (Or.inl e)
      · unfold wpX_move wpY_move
        dsimp only
        exact zx_isT hn hc (br_f (by decide) (br_f e (zx_isF h (br_t rfl (zy_isT hn hc (br_f (by decide) (br_f e (zy_isF h (br_t rfl ⟨rfl, hsame⟩)))))))))
    · exact hval (Or.inr ⟨p, hp, e⟩)
theorem i_vc_classes {k : Nat} {u : SX} {v : SY} (I : i_Rel k u v) (hk : k + 4 ≤ 2048) : wpX_classes (fun r => wpY_classes (fun r' => r' = r ∧ i_Rel (k + 4) u v) v) u := by
  refine zr_el (P := fun u v => wpX_classes (fun r => wpY_classes (fun r' => r' = r ∧ i_Rel (k + 4) u v) v) u) ?_ I
  intro n rk f_built f_lineLength f_colourCount a_above a_defined a_known a_meets a_colour a_best a_line a_shift a_entryClass a_entrySelector a_entryOwner a_entryMethod a_rowOwner a_down a_mates a_alone a_least hn hF hR hO hb hB
  exact ⟨rfl, zr_in hn hF hR hO hb hB⟩
theorem i_vc_parent {k : Nat} {u : SX} {v : SY} (I : i_Rel k u v) (hk : k + 4 ≤ 2048) (v1 : Int32) : wpX_parent (fun r => wpY_parent (fun r' => r' = r ∧ i_Rel (k + 4) u v) v v1) u v1 := by
  refine zr_el (P := fun u v => wpX_parent (fun r => wpY_parent (fun r' => r' = r ∧ i_Rel (k + 4) u v) v v1) u v1) ?_ I
  intro n rk f_built f_lineLength f_colourCount a_above a_defined a_known a_meets a_colour a_best a_line a_shift a_entryClass a_entrySelector a_entryOwner a_entryMethod a_rowOwner a_down a_mates a_alone a_least hn hF hR hO hb hB
  have hsame : i_Rel (k + 4) (nI n, f_built, f_lineLength, f_colourCount, a_above, a_defined, a_known, a_meets, a_colour, a_best, a_line, a_shift, a_entryClass, a_entrySelector, a_entryOwner, a_entryMethod, a_rowOwner, a_down) (nI n, a_above, a_defined, a_mates, a_alone, a_least) := zr_in hn hF hR hO hb hB
  unfold wpX_parent
  dsimp only
  rcases zr_ix v1 hn with h1 | ⟨c, hc, rfl⟩
  · exact zx_isF h1 (br_t rfl (zy_parF h1 ⟨rfl, hsame⟩))
  · refine zx_isT hn hc (br_f (by decide) ⟨vp_in_nI (by omega) (by omega), zy_parT hn hc ⟨?_, hsame⟩⟩)
    rw [nI_clamp (by omega)]
theorem i_vc_send {k : Nat} {u : SX} {v : SY} (I : i_Rel k u v) (hk : k + 4 ≤ 2048) (v1 : Int32) (v2 : Int32) : wpX_send (fun r u' => wpY_send (fun r' => r' = r ∧ i_Rel (k + 4) u' v) v v1 v2) u v1 v2 := by
  refine zr_el (P := fun u v => wpX_send (fun r u' => wpY_send (fun r' => r' = r ∧ i_Rel (k + 4) u' v) v v1 v2) u v1 v2) ?_ I
  intro n rk f_built f_lineLength f_colourCount a_above a_defined a_known a_meets a_colour a_best a_line a_shift a_entryClass a_entrySelector a_entryOwner a_entryMethod a_rowOwner a_down a_mates a_alone a_least hn hF hR hO hb hB
  have hsame : i_Rel (k + 4) (nI n, f_built, f_lineLength, f_colourCount, a_above, a_defined, a_known, a_meets, a_colour, a_best, a_line, a_shift, a_entryClass, a_entrySelector, a_entryOwner, a_entryMethod, a_rowOwner, a_down) (nI n, a_above, a_defined, a_mates, a_alone, a_least) := zr_in hn hF hR hO hb hB
  rcases zr_ix v1 hn with h1 | ⟨c, hc, rfl⟩
  · exact zx_sendN v2 h1 (zy_sendN v2 h1 ⟨rfl, hsame⟩)
  · rcases zr_ix v2 (n := 8) (by omega) with h2 | ⟨s, hs, rfl⟩
    · exact zx_sendS hn hc h2 (zy_sendS hn hc h2 ⟨rfl, hsame⟩)
    · exact zx_send hn hF hR hO hb hB hc hs (fun bu ll cc kn me co be li sha ec es eo em ro dn hbe hT => zy_send hn hF hO hc hs ⟨rfl, zr_in hn hF hR hO hbe (Or.inr hT)⟩)
theorem i_vc_sendSuper {k : Nat} {u : SX} {v : SY} (I : i_Rel k u v) (hk : k + 4 ≤ 2048) (v1 : Int32) (v2 : Int32) : wpX_sendSuper (fun r u' => wpY_sendSuper (fun r' => r' = r ∧ i_Rel (k + 4) u' v) v v1 v2) u v1 v2 := by
  refine zr_el (P := fun u v => wpX_sendSuper (fun r u' => wpY_sendSuper (fun r' => r' = r ∧ i_Rel (k + 4) u' v) v v1 v2) u v1 v2) ?_ I
  intro n rk f_built f_lineLength f_colourCount a_above a_defined a_known a_meets a_colour a_best a_line a_shift a_entryClass a_entrySelector a_entryOwner a_entryMethod a_rowOwner a_down a_mates a_alone a_least hn hF hR hO hb hB
  have hsame : i_Rel (k + 4) (nI n, f_built, f_lineLength, f_colourCount, a_above, a_defined, a_known, a_meets, a_colour, a_best, a_line, a_shift, a_entryClass, a_entrySelector, a_entryOwner, a_entryMethod, a_rowOwner, a_down) (nI n, a_above, a_defined, a_mates, a_alone, a_least) := zr_in hn hF hR hO hb hB
  unfold wpX_sendSuper wpY_sendSuper
  dsimp only
  rcases zr_ix v1 hn with h1 | ⟨c, hc, rfl⟩
  · exact zx_isF h1 (br_t rfl (zy_parF h1 (zy_sendN v2 (Or.inl zb_m1lt) ⟨rfl, hsame⟩)))
  · refine zx_isT hn hc (br_f (by decide) ⟨vp_in_nI (by omega) (by omega), ?_⟩)
    rw [nI_clamp (by omega)]
    rcases hF c hc with e | ⟨p, hp, e⟩
    · rw [e]
      refine br_f (by decide) (zy_parT hn hc ?_)
      rw [e]
      exact zy_sendN v2 (Or.inl zb_m1lt) ⟨rfl, hsame⟩
    · rw [e]
      refine br_t (nI_pos' (by omega)) ⟨vp_in_nI (by omega) (by omega), ?_⟩
      rcases zr_ix v2 (n := 8) (by omega) with h2 | ⟨s, hs, rfl⟩
      · refine zx_sendS hn hp h2 (zy_parT hn hc ?_)
        rw [e]
        exact zy_sendS hn hp h2 ⟨rfl, hsame⟩
      · refine zx_send hn hF hR hO hb hB hp hs (fun bu ll cc kn me co be li sha ec es eo em ro dn hbe hT => zy_parT hn hc ?_)
        rw [e]
        exact zy_send hn hF hO hp hs ⟨rfl, zr_in hn hF hR hO hbe (Or.inr hT)⟩
theorem i_vc_owner {k : Nat} {u : SX} {v : SY} (I : i_Rel k u v) (hk : k + 4 ≤ 2048) (v1 : Int32) (v2 : Int32) : wpX_owner (fun r u' => wpY_owner (fun r' => r' = r ∧ i_Rel (k + 4) u' v) v v1 v2) u v1 v2 := by
  refine zr_el (P := fun u v => wpX_owner (fun r u' => wpY_owner (fun r' => r' = r ∧ i_Rel (k + 4) u' v) v v1 v2) u v1 v2) ?_ I
  intro n rk f_built f_lineLength f_colourCount a_above a_defined a_known a_meets a_colour a_best a_line a_shift a_entryClass a_entrySelector a_entryOwner a_entryMethod a_rowOwner a_down a_mates a_alone a_least hn hF hR hO hb hB
  have hsame : i_Rel (k + 4) (nI n, f_built, f_lineLength, f_colourCount, a_above, a_defined, a_known, a_meets, a_colour, a_best, a_line, a_shift, a_entryClass, a_entrySelector, a_entryOwner, a_entryMethod, a_rowOwner, a_down) (nI n, a_above, a_defined, a_mates, a_alone, a_least) := zr_in hn hF hR hO hb hB
  unfold wpX_owner
  dsimp only
  rcases zr_ix v1 hn with h1 | ⟨c, hc, rfl⟩
  · exact zx_entryN v2 h1 (br_f (by decide) (zy_ownerN v2 h1 ⟨rfl, hsame⟩))
  · rcases zr_ix v2 (n := 8) (by omega) with h2 | ⟨s, hs, rfl⟩
    · exact zx_entryS hn hc h2 (br_f (by decide) (zy_ownerS hn hc h2 ⟨rfl, hsame⟩))
    · refine zx_entry hn hF hR hO hb hB hc hs (fun bu ll cc kn me co be li sha ec es eo em ro dn hbe hT r hr => ?_)
      dsimp only
      have hnew : i_Rel (k + 4) (nI n, bu, ll, cc, a_above, a_defined, kn, me, co, be, li, sha, ec, es, eo, em, ro, dn) (nI n, a_above, a_defined, a_mates, a_alone, a_least) := zr_in hn hF hR hO hbe (Or.inr hT)
      rcases hr with ⟨e, rfl⟩ | ⟨i, d, hi, hd, rfl, e, e1, e2⟩
      · exact br_f (by decide) (zy_owner hn hF hO hc hs ⟨e, hnew⟩)
      · refine br_t (nI_pos' (by omega)) ⟨vp_in_nI hi (by omega), ?_⟩
        rw [nI_clamp (by omega), e1]
        exact zy_owner hn hF hO hc hs ⟨e, hnew⟩
theorem i_vc_understands {k : Nat} {u : SX} {v : SY} (I : i_Rel k u v) (hk : k + 4 ≤ 2048) (v1 : Int32) : wpX_understands (fun r u' => wpY_understands (fun r' => r' = r ∧ i_Rel (k + 4) u' v) v v1) u v1 := by
  refine zr_el (P := fun u v => wpX_understands (fun r u' => wpY_understands (fun r' => r' = r ∧ i_Rel (k + 4) u' v) v v1) u v1) ?_ I
  intro n rk f_built f_lineLength f_colourCount a_above a_defined a_known a_meets a_colour a_best a_line a_shift a_entryClass a_entrySelector a_entryOwner a_entryMethod a_rowOwner a_down a_mates a_alone a_least hn hF hR hO hb hB
  have hsame : i_Rel (k + 4) (nI n, f_built, f_lineLength, f_colourCount, a_above, a_defined, a_known, a_meets, a_colour, a_best, a_line, a_shift, a_entryClass, a_entrySelector, a_entryOwner, a_entryMethod, a_rowOwner, a_down) (nI n, a_above, a_defined, a_mates, a_alone, a_least) := zr_in hn hF hR hO hb hB
  unfold wpX_understands
  dsimp only
  rcases zr_ix v1 hn with h1 | ⟨c, hc, rfl⟩
  · exact zx_isF h1 (br_t rfl (zy_unN h1 ⟨rfl, hsame⟩))
  · refine zx_isT hn hc (br_f (by decide) (zx_build hn hF hR hO hb hB (fun bu ll cc kn me co be li sha ec es eo em ro dn hbe hT => ?_)))
    dsimp only
    refine ⟨vp_in_nI (by omega) (by omega), ?_⟩
    rw [nI_clamp (by omega), hT.1 c hc]
    exact zy_un hn hF hO hc ⟨rfl, zr_in hn hF hR hO hbe (Or.inr hT)⟩
theorem i_vc_heirs {k : Nat} {u : SX} {v : SY} (I : i_Rel k u v) (hk : k + 4 ≤ 2048) (v1 : Int32) (v2 : Int32) : wpX_heirs (fun r u' => wpY_heirs (fun r' => r' = r ∧ i_Rel (k + 4) u' v) v v1 v2) u v1 v2 := by
  refine zr_el (P := fun u v => wpX_heirs (fun r u' => wpY_heirs (fun r' => r' = r ∧ i_Rel (k + 4) u' v) v v1 v2) u v1 v2) ?_ I
  intro n rk f_built f_lineLength f_colourCount a_above a_defined a_known a_meets a_colour a_best a_line a_shift a_entryClass a_entrySelector a_entryOwner a_entryMethod a_rowOwner a_down a_mates a_alone a_least hn hF hR hO hb hB
  have hsame : i_Rel (k + 4) (nI n, f_built, f_lineLength, f_colourCount, a_above, a_defined, a_known, a_meets, a_colour, a_best, a_line, a_shift, a_entryClass, a_entrySelector, a_entryOwner, a_entryMethod, a_rowOwner, a_down) (nI n, a_above, a_defined, a_mates, a_alone, a_least) := zr_in hn hF hR hO hb hB
  unfold wpX_heirs
  dsimp only
  rcases zr_ix v1 hn with h1 | ⟨c, hc, rfl⟩
  · exact zx_isF h1 (br_t rfl (zy_heirsN v2 h1 ⟨rfl, hsame⟩))
  · refine zx_isT hn hc (br_f (by decide) ?_)
    rcases zr_ix v2 (n := 8) (by omega) with h2 | ⟨s, hs, rfl⟩
    · refine zx_slF h2 (br_t rfl (zy_heirs (p := fun _ => false) hn hc (fun d hd post h => zy_ownerS hn hd h2 (h _ ⟨fun z => absurd z.symm (zb_m1ne (by omega)), fun z => absurd z (by decide)⟩)) ⟨?_, hsame⟩))
      rw [zf_mk0 (fun _ _ => rfl)]; rfl
    · have hYs : ∀ (post : Int32 → Prop), post (nI (zb_mk (fun d => decide (zf_W a_above a_defined d s = nI c)) n)) → wpY_heirs post (nI n, a_above, a_defined, a_mates, a_alone, a_least) (nI c) (nI s) := by
        intro post hp
        refine zy_heirs (p := fun d => decide (zf_W a_above a_defined d s = nI c)) hn hc (fun d hd post h => zy_owner hn hF hO hd hs (h _ ?_)) hp
        rw [decide_eq_true_iff]
      have ex : vp_in (nI c * 8 + nI s) 80 := by rw [zb_ix]; exact vp_in_nI (by omega) (by omega)
      refine zx_slT hs (br_f (by decide) ⟨ex, ?_⟩)
      rw [zb_ix, nI_clamp (by omega)]
      by_cases hz : a_defined (8 * c + s) = 0
      · refine br_t hz (hYs _ ⟨?_, hsame⟩)
        rw [zf_mk0]
        · rfl
        · intro d hd
          refine decide_eq_false (fun e => ?_)
          rcases zf_W4 (own := a_defined) hn hF hd s with e' | ⟨q, hq, e', h⟩
          · exact absurd (e.symm.trans e') (zb_m1ne (by omega))
          · have : c = q := (nI_eq (by omega) (by omega)).mp (e.symm.trans e')
            subst this
            exact h hz
      · refine br_f hz ⟨n + 1, ?_⟩
        exact zx_h36 hn hF hR hO hc hs (fun bu ll cc kn me co be li sha ec es eo em ro dn hbe hT => hYs _ ⟨rfl, zr_in hn hF hR hO hbe hT⟩) n 0 (n + 1) _ _ _ _ _ _ _ _ _ _ _ _ _ _ _ (by omega) (by omega) hb hB
theorem i_vc_apart {k : Nat} {u : SX} {v : SY} (I : i_Rel k u v) (hk : k + 4 ≤ 2048) (v1 : Int32) : wpX_apart (fun r u' => wpY_apart (fun r' => r' = r ∧ i_Rel (k + 4) u' v) v v1) u v1 := by
  refine zr_el (P := fun u v => wpX_apart (fun r u' => wpY_apart (fun r' => r' = r ∧ i_Rel (k + 4) u' v) v v1) u v1) ?_ I
  intro n rk f_built f_lineLength f_colourCount a_above a_defined a_known a_meets a_colour a_best a_line a_shift a_entryClass a_entrySelector a_entryOwner a_entryMethod a_rowOwner a_down a_mates a_alone a_least hn hF hR hO hb hB
  have hsame : i_Rel (k + 4) (nI n, f_built, f_lineLength, f_colourCount, a_above, a_defined, a_known, a_meets, a_colour, a_best, a_line, a_shift, a_entryClass, a_entrySelector, a_entryOwner, a_entryMethod, a_rowOwner, a_down) (nI n, a_above, a_defined, a_mates, a_alone, a_least) := zr_in hn hF hR hO hb hB
  unfold wpX_apart wpY_apart
  dsimp only
  rcases zr_ix v1 (n := 8) (by omega) with h2 | ⟨s, hs, rfl⟩
  · refine zx_slF h2 (br_t rfl (br_c (fun _ => ⟨rfl, hsame⟩) (fun h0 => br_c (fun h7 => ?_) (fun _ => ⟨rfl, hsame⟩))))
    rcases h2 with h | h
    · exact absurd h h0
    · have h8 : (8 : Int32) ≤ 7 := Int32.le_trans h h7
      exact absurd h8 (by decide)
  · refine zx_slT hs (br_f (by decide) (zx_build hn hF hR hO hb hB (fun bu ll cc kn me co be li sha ec es eo em ro dn hbe hT => ?_)))
    dsimp only
    refine ⟨vp_in_nI (by omega) (by omega), br_f (nI_pos (by omega)) (br_t (nI_le (a := s) (b := 7) (by omega) (by omega)) (zy_with hs hn hF hO ⟨?_, zr_in hn hF hR hO hbe (Or.inr hT)⟩))⟩
    rw [nI_clamp (by omega), hT.2.1 s hs]
theorem i_vc_crowd {k : Nat} {u : SX} {v : SY} (I : i_Rel k u v) (hk : k + 4 ≤ 2048) : wpX_crowd (fun r u' => wpY_crowd (fun r' v' => r' = r ∧ i_Rel (k + 4) u' v') v) u := by
  refine zr_el (P := fun u v => wpX_crowd (fun r u' => wpY_crowd (fun r' v' => r' = r ∧ i_Rel (k + 4) u' v') v) u) ?_ I
  intro n rk f_built f_lineLength f_colourCount a_above a_defined a_known a_meets a_colour a_best a_line a_shift a_entryClass a_entrySelector a_entryOwner a_entryMethod a_rowOwner a_down a_mates a_alone a_least hn hF hR hO hb hB
  unfold wpX_crowd
  dsimp only
  refine zx_build hn hF hR hO hb hB (fun bu ll cc kn me co be li sha ec es eo em ro dn hbe hT => ?_)
  dsimp only
  exact ⟨256, zx_crowd8 (M := zg_M n a_above a_defined) hT.2.1 (zy_crowd hn hF hO (fun mt => ⟨rfl, zr_in hn hF hR hO hbe (Or.inr hT)⟩)) 255 0 256 rfl (by omega)⟩
theorem i_vc_colours {k : Nat} {u : SX} {v : SY} (I : i_Rel k u v) (hk : k + 4 ≤ 2048) : wpX_colours (fun r u' => wpY_colours (fun r' v' => r' = r ∧ i_Rel (k + 4) u' v') v) u := by
  refine zr_el (P := fun u v => wpX_colours (fun r u' => wpY_colours (fun r' v' => r' = r ∧ i_Rel (k + 4) u' v') v) u) ?_ I
  intro n rk f_built f_lineLength f_colourCount a_above a_defined a_known a_meets a_colour a_best a_line a_shift a_entryClass a_entrySelector a_entryOwner a_entryMethod a_rowOwner a_down a_mates a_alone a_least hn hF hR hO hb hB
  unfold wpX_colours
  dsimp only
  refine zx_build hn hF hR hO hb hB (fun bu ll cc kn me co be li sha ec es eo em ro dn hbe hT => ?_)
  dsimp only
  refine zy_colours hn hF hO (fun mt al le q hq hchi => ⟨?_, zr_in hn hF hR hO hbe (Or.inr hT)⟩)
  obtain ⟨q', hq', e, hchi'⟩ := hT.2.2.1
  rw [e, zc_Chi_u hchi hchi']
end
