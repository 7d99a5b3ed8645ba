section
theorem pk_us {f : Nat → Int32} {k : Nat} {x : Int32} : upd f k x k = x := if_pos rfl
theorem pk_un {f : Nat → Int32} {k j : Nat} {x : Int32} (h : j ≠ k) : upd f k x j = f j := if_neg h
theorem pk_sub {a b : Nat} (h : b ≤ a) : nI a - nI b = nI (a - b) := by
  obtain ⟨c, rfl⟩ : ∃ c, a = c + b := ⟨a - b, by omega⟩
  rw [← nI_add, Int32.add_sub_cancel, Nat.add_sub_cancel]
theorem pk_m1 (n : Nat) : nI (n + 1) + (-1) = nI n := by
  rw [← nI_1, Int32.add_assoc, show (1 : Int32) + (-1) = 0 from rfl, Int32.add_zero]
theorem pk_mul (a b : Nat) : nI a * nI b = nI (a * b) := (Int32.ofNat_mul a b).symm
theorem pk_div {a d : Nat} (ha : a < 2 ^ 31) (h0 : 0 < d) (hd : d < 2 ^ 31) : nI a / nI d = nI (a / d) := by
  apply Int32.toInt_inj.mp
  rw [lg_idiv_nonneg (by rw [nI_toInt ha]; omega) (by rw [nI_toInt hd]; omega), nI_toInt ha, nI_toInt hd, nI_toInt (Nat.lt_of_le_of_lt (Nat.div_le_self a d) ha)]
  first | rfl | exact (Int.natCast_ediv _ _).symm
theorem pk_rem {a d : Nat} (ha : a < 2 ^ 31) (h0 : 0 < d) (hd : d < 2 ^ 31) : nI a - nI a / nI d * nI d = nI (a % d) := by
  rw [pk_div ha h0 hd, pk_mul, pk_sub (Nat.div_mul_le_self a d)]
  exact congrArg nI (by have := Nat.div_add_mod' a d; omega)
theorem pk_sub_toInt {a b : Nat} (ha : a < 2 ^ 30) (hb : b < 2 ^ 30) : (nI a - nI b).toInt = (a : Int) - b := by
  rw [Int32.toInt_sub, nI_toInt (by omega), nI_toInt (by omega)]
  exact Int.bmod_eq_of_le (by omega) (by omega)
theorem pk_sneg {a b : Nat} (hb : b < 2 ^ 30) (h : a < b) : nI a - nI b < 0 := by
  rw [Int32.lt_iff_toInt_lt, pk_sub_toInt (by omega) hb, show (0 : Int32).toInt = 0 from by decide]
  omega
theorem pk_ix (x : Int32) {n : Nat} (hn : n < 2 ^ 31) : x < 0 ∨ nI n ≤ x ∨ ∃ j : Nat, j < n ∧ x = nI j := by
  by_cases h : x < 0
  · exact Or.inl h
  · obtain ⟨j, hj, rfl⟩ := nI_of h
    by_cases h2 : j < n
    · exact Or.inr (Or.inr ⟨j, h2, rfl⟩)
    · exact Or.inr (Or.inl (nI_le (by omega) hj))
theorem pk_le {x y : Int32} {A B : Prop} (a b : Nat) (f : a ≤ b → A) (g : b < a → B) (hx : x = nI a := by rfl) (hy : y = nI b := by rfl) (ha : a < 2 ^ 31 := by omega) (hb : b < 2 ^ 31 := by omega) : (x ≤ y → A) ∧ (¬ x ≤ y → B) := by
  subst hx hy
  rw [nI_leI ha hb]
  exact ⟨f, fun z => g (by omega)⟩
theorem pk_lt {x y : Int32} {A B : Prop} (a b : Nat) (f : a < b → A) (g : b ≤ a → B) (hx : x = nI a := by rfl) (hy : y = nI b := by rfl) (ha : a < 2 ^ 31 := by omega) (hb : b < 2 ^ 31 := by omega) : (x < y → A) ∧ (¬ x < y → B) := by
  subst hx hy
  rw [nI_ltI ha hb]
  exact ⟨f, fun z => g (by omega)⟩
theorem pk_eq {x y : Int32} {A B : Prop} (a b : Nat) (f : a = b → A) (g : a ≠ b → B) (hx : x = nI a := by rfl) (hy : y = nI b := by rfl) (ha : a < 2 ^ 31 := by omega) (hb : b < 2 ^ 31 := by omega) : (x = y → A) ∧ (¬ x = y → B) := by
  subst hx hy
  rw [nI_eq ha hb]
  exact ⟨f, g⟩
theorem pk_in {x : Int32} (n N : Nat) (h : n < N) (hx : x = nI n := by rfl) (hN : N < 2 ^ 31 := by omega) : vp_in x N := by
  subst hx
  exact vp_in_nI h hN
theorem pk_cl {x : Int32} (n : Nat) (hx : x = nI n := by rfl) (h : n < 2 ^ 31 := by omega) : x.toNatClampNeg = n := by
  subst hx
  exact nI_clamp h
theorem pk_tn {n : Nat} (h : n < 2 ^ 32) : (nI n).toBitVec.toNat = n := Nat.mod_eq_of_lt h
theorem pk_and (x : Int32) {m : Int32} (k : Nat) (hm : m.toBitVec.toNat = 2 ^ k - 1) : x &&& m = nI (x.toBitVec.toNat % 2 ^ k) := by
  apply Int32.toBitVec_inj.mp
  apply BitVec.eq_of_toNat_eq
  rw [Int32.toBitVec_and, BitVec.toNat_and, hm, Nat.and_two_pow_sub_one_eq_mod]
  show _ = (BitVec.ofNat 32 _).toNat
  rw [BitVec.toNat_ofNat]
  exact (Nat.mod_eq_of_lt (Nat.lt_of_le_of_lt (Nat.mod_le _ _) x.toBitVec.isLt)).symm
theorem pk_andN {n : Nat} (h : n < 2 ^ 32) {m : Int32} (k : Nat) (hm : m.toBitVec.toNat = 2 ^ k - 1) : nI n &&& m = nI (n % 2 ^ k) := by
  rw [pk_and _ k hm, pk_tn h]
theorem pk_andE (x : Int32) {m : Int32} (k : Nat) (hm : m.toBitVec.toNat = 2 ^ k - 1) : ∃ j : Nat, j < 2 ^ k ∧ x &&& m = nI j := ⟨_, Nat.mod_lt _ (Nat.two_pow_pos k), pk_and x k hm⟩
theorem pk_andIn (x : Int32) {m : Int32} (k : Nat) (hm : m.toBitVec.toNat = 2 ^ k - 1) (hk : k ≤ 30) : vp_in (x &&& m) (2 ^ k) := by
  obtain ⟨j, hj, e⟩ := pk_andE x k hm
  rw [e]
  exact vp_in_nI hj (Nat.lt_of_le_of_lt (Nat.pow_le_pow_right (by decide) hk) (by decide))
theorem pk_shl (a s : Int32) (k : Nat) (hs : (s.toBitVec.smod 32).toNat = k) : (a <<< s).toBitVec.toNat = a.toBitVec.toNat * 2 ^ k % 2 ^ 32 := by
  show (a.toBitVec <<< (s.toBitVec.smod 32).toNat).toNat = _
  rw [hs, BitVec.toNat_shiftLeft, Nat.shiftLeft_eq]
theorem pk_shlN {n : Nat} (s : Int32) (k : Nat) (hs : (s.toBitVec.smod 32).toNat = k) (h : n * 2 ^ k < 2 ^ 32) : nI n <<< s = nI (n * 2 ^ k) := by
  apply Int32.toBitVec_inj.mp
  apply BitVec.eq_of_toNat_eq
  have hn : n < 2 ^ 32 := Nat.lt_of_le_of_lt (Nat.le_mul_of_pos_right n (Nat.two_pow_pos k)) h
  rw [pk_shl _ _ k hs, pk_tn hn, pk_tn h, Nat.mod_eq_of_lt h]
theorem pk_shr (a s : Int32) (k : Nat) (hs : (s.toBitVec.smod 32).toNat = k) : (a >>> s).toInt = a.toInt >>> k := by
  show (a.toBitVec.sshiftRight (s.toBitVec.smod 32).toNat).toInt = _
  rw [hs, BitVec.toInt_sshiftRight]
  rfl
theorem pk_shrN {n : Nat} (h : n < 2 ^ 31) (s : Int32) (k : Nat) (hs : (s.toBitVec.smod 32).toNat = k) : nI n >>> s = nI (n / 2 ^ k) := by
  apply Int32.toInt_inj.mp
  have h2 : n / 2 ^ k ≤ n := Nat.div_le_self _ _
  rw [pk_shr _ _ k hs, nI_toInt h, nI_toInt (by omega), Int.shiftRight_eq_div_pow]
  rfl
theorem pk_ushr (x s : Int32) (k : Nat) (hs : ((s.toUInt32 &&& Int32.toUInt32 31).toBitVec % 32).toNat = k) : (x.toUInt32 >>> (s.toUInt32 &&& Int32.toUInt32 31)).toInt32.toBitVec.toNat = x.toBitVec.toNat / 2 ^ k := by
  have e : (x.toUInt32 >>> (s.toUInt32 &&& Int32.toUInt32 31)).toInt32.toBitVec = x.toBitVec >>> k := by
    rw [← hs]
    exact UInt32.toBitVec_shiftRight _ _
  rw [e, BitVec.toNat_ushiftRight, Nat.shiftRight_eq_div_pow]
theorem pk_ushrN {n : Nat} (hn : n < 2 ^ 32) (s : Int32) (k : Nat) (hs : ((s.toUInt32 &&& Int32.toUInt32 31).toBitVec % 32).toNat = k) : ((nI n).toUInt32 >>> (s.toUInt32 &&& Int32.toUInt32 31)).toInt32 = nI (n / 2 ^ k) := by
  apply Int32.toBitVec_inj.mp
  apply BitVec.eq_of_toNat_eq
  rw [pk_ushr _ s k hs, pk_tn hn, pk_tn (Nat.lt_of_le_of_lt (Nat.div_le_self _ _) hn)]
def bt (x : Int32) (i : Nat) : Bool := x.toBitVec.getLsbD i
theorem b_ext {x y : Int32} (h : ∀ i, i < 32 → bt x i = bt y i) : x = y := Int32.toBitVec_inj.mp (BitVec.eq_of_getLsbD_eq (fun i hi => h i hi))
theorem b_or (x y : Int32) (i : Nat) : bt (x ||| y) i = (bt x i || bt y i) := by unfold bt; rw [Int32.toBitVec_or, BitVec.getLsbD_or]
theorem b_and (x y : Int32) (i : Nat) : bt (x &&& y) i = (bt x i && bt y i) := by unfold bt; rw [Int32.toBitVec_and, BitVec.getLsbD_and]
theorem b_xor (x y : Int32) (i : Nat) : bt (x ^^^ y) i = (bt x i ^^ bt y i) := by unfold bt; rw [Int32.toBitVec_xor, BitVec.getLsbD_xor]
theorem b_big {x : Int32} {i : Nat} (h : 32 ≤ i) : bt x i = false := BitVec.getLsbD_of_ge _ _ h
theorem b_255 (i : Nat) : bt 255 i = decide (i < 8) := by
  rcases Nat.lt_or_ge i 32 with h | h
  · exact (by decide +kernel : ∀ i, i < 32 → bt 255 i = decide (i < 8)) i h
  · rw [b_big h, decide_eq_false (by omega)]
theorem b_65535 (i : Nat) : bt 65535 i = decide (i < 16) := by
  rcases Nat.lt_or_ge i 32 with h | h
  · exact (by decide +kernel : ∀ i, i < 32 → bt 65535 i = decide (i < 16)) i h
  · rw [b_big h, decide_eq_false (by omega)]
theorem b_m1 : ∀ i, i < 32 → bt (-1) i = true := by decide +kernel
theorem b_0 (i : Nat) : bt 0 i = false := BitVec.getLsbD_zero
theorem s_l : ∀ n, n < 32 → ((nI n &&& 31).toBitVec.smod 32).toNat = n := by decide +kernel
theorem s_u : ∀ n, n < 32 → (((nI n).toUInt32 &&& Int32.toUInt32 31).toBitVec % 32).toNat = n := by decide +kernel
theorem b_shl (n : Nat) (hn : n < 32) (x : Int32) {i : Nat} (hi : i < 32) : bt (x <<< (nI n &&& 31)) i = (decide (n ≤ i) && bt x (i - n)) := by
  unfold bt
  rw [Int32.toBitVec_shiftLeft]
  show (x.toBitVec <<< ((nI n &&& 31).toBitVec.smod 32).toNat).getLsbD i = _
  rw [s_l n hn, BitVec.getLsbD_shiftLeft]
  rcases Nat.lt_or_ge i n with h | h
  · simp [h, Nat.not_le.mpr h]
  · simp [hi, h, Nat.not_lt.mpr h]
theorem b_ushr (n : Nat) (hn : n < 32) (x : Int32) (i : Nat) : bt ((x.toUInt32 >>> ((nI n).toUInt32 &&& Int32.toUInt32 31)).toInt32) i = bt x (n + i) := by
  show (x.toUInt32 >>> ((nI n).toUInt32 &&& Int32.toUInt32 31)).toBitVec.getLsbD i = x.toUInt32.toBitVec.getLsbD (n + i)
  rw [UInt32.toBitVec_shiftRight]
  show (x.toUInt32.toBitVec >>> (((nI n).toUInt32 &&& Int32.toUInt32 31).toBitVec % 32).toNat).getLsbD i = _
  rw [s_u n hn, BitVec.getLsbD_ushiftRight]
theorem b_sshr (n : Nat) (hn : n < 32) (x : Int32) {i : Nat} (hi : i < 32) : bt (x >>> (nI n &&& 31)) i = if n + i < 32 then bt x (n + i) else bt x 31 := by
  unfold bt
  rw [Int32.toBitVec_shiftRight]
  show (x.toBitVec.sshiftRight ((nI n &&& 31).toBitVec.smod 32).toNat).getLsbD i = _
  rw [s_l n hn, BitVec.getLsbD_sshiftRight, BitVec.msb_eq_getLsbD_last]
  simp [hi]
theorem b_shl8 (x : Int32) {i : Nat} (hi : i < 32) : bt (x <<< ((8 : Int32) &&& 31)) i = (decide (8 ≤ i) && bt x (i - 8)) := b_shl 8 (by omega) x hi
theorem b_shl16 (x : Int32) {i : Nat} (hi : i < 32) : bt (x <<< ((16 : Int32) &&& 31)) i = (decide (16 ≤ i) && bt x (i - 16)) := b_shl 16 (by omega) x hi
theorem b_shl24 (x : Int32) {i : Nat} (hi : i < 32) : bt (x <<< ((24 : Int32) &&& 31)) i = (decide (24 ≤ i) && bt x (i - 24)) := b_shl 24 (by omega) x hi
theorem b_sshr8 (x : Int32) {i : Nat} (hi : i < 32) : bt (x >>> ((8 : Int32) &&& 31)) i = if 8 + i < 32 then bt x (8 + i) else bt x 31 := b_sshr 8 (by omega) x hi
end
section
/-- bit i of r is set just where p i holds -/
def nw_is (r : Int32) (p : Nat → Prop) : Prop := ∀ i, i < 32 → (bt r i = true ↔ p i)
theorem nw_is_eq {r s : Int32} {p : Nat → Prop} (h : nw_is r p) (g : nw_is s p) : r = s :=
  b_ext (fun i hi => Bool.eq_iff_iff.mpr ((h i hi).trans (g i hi).symm))
theorem nw_is_to {r : Int32} {p q : Nat → Prop} (h : nw_is r p) (e : ∀ i, i < 32 → (p i ↔ q i)) : nw_is r q :=
  fun i hi => (h i hi).trans (e i hi)
theorem nw_is_0 : nw_is 0 (fun _ => False) := fun i _ => by
  rw [b_0]
  exact ⟨fun h => absurd h (by decide), fun h => h.elim⟩
theorem nw_is_or {r s : Int32} {p q : Nat → Prop} (h : nw_is r p) (g : nw_is s q) : nw_is (r ||| s) (fun i => p i ∨ q i) := fun i hi => by
  rw [b_or, Bool.or_eq_true]
  exact or_congr (h i hi) (g i hi)
theorem nw_bt1 : ∀ i, i < 32 → bt 1 i = decide (i = 0) := by decide +kernel
theorem nw_bt31 : ∀ i, i < 32 → bt 31 i = decide (i < 5) := by decide +kernel
theorem nw_is_1 {k : Nat} (hk : k < 32) : nw_is ((1 : Int32) <<< (nI k &&& 31)) (fun i => i = k) := fun i hi => by
  rw [b_shl k hk _ hi, nw_bt1 _ (by omega), Bool.and_eq_true, decide_eq_true_eq, decide_eq_true_eq]
  show k ≤ i ∧ i - k = 0 ↔ i = k
  omega
theorem nw_is_shl {r : Int32} {p : Nat → Prop} {n : Nat} (h : nw_is r p) (hn : n < 32) : nw_is (r <<< (nI n &&& 31)) (fun i => n ≤ i ∧ p (i - n)) := fun i hi => by
  rw [b_shl n hn _ hi, Bool.and_eq_true, decide_eq_true_eq]
  exact and_congr Iff.rfl (h (i - n) (by omega))
theorem nw_or0 (x : Int32) : x ||| 0 = x := b_ext (fun i _ => by rw [b_or, b_0, Bool.or_false])
theorem nw_0or (x : Int32) : 0 ||| x = x := b_ext (fun i _ => by rw [b_or, b_0, Bool.false_or])
theorem nw_a1 (y : Int32) : y &&& 1 = if bt y 0 = true then 1 else 0 := by
  apply b_ext
  intro i hi
  rw [b_and, nw_bt1 i hi]
  rcases Nat.eq_zero_or_pos i with h | h
  · subst h
    cases bt y 0
    · decide
    · decide
  · rw [decide_eq_false (show ¬ i = 0 by omega), Bool.and_false]
    cases bt y 0
    · rw [if_neg (by decide), b_0]
    · rw [if_pos rfl, nw_bt1 i hi, decide_eq_false (show ¬ i = 0 by omega)]
/-- a bit tested, as the class does it -/
theorem nw_tx (x : Int32) {q : Nat} (hq : q < 32) : (((x.toUInt32 >>> ((nI q).toUInt32 &&& Int32.toUInt32 31)).toInt32) &&& 1) = 0 ↔ bt x q = false := by
  rw [nw_a1, b_ushr q hq, Nat.add_zero]
  generalize bt x q = b
  cases b <;> decide
/-- a bit tested, as the reference does it -/
theorem nw_ty (x : Int32) {q : Nat} (hq : q < 32) : ((x >>> (nI q &&& 31)) &&& 1) = 1 ↔ bt x q = true := by
  rw [nw_a1, b_sshr q hq x (show 0 < 32 by omega), if_pos (show q + 0 < 32 by omega), Nat.add_zero]
  generalize bt x q = b
  cases b <;> decide
theorem nw_vx (x : Int32) {q : Nat} (hq : q < 32) : (((x.toUInt32 >>> ((nI q).toUInt32 &&& Int32.toUInt32 31)).toInt32) &&& 1) = if bt x q = true then 1 else 0 := by
  rw [nw_a1, b_ushr q hq, Nat.add_zero]
theorem nw_vy (x : Int32) {q : Nat} (hq : q < 32) : ((x >>> (nI q &&& 31)) &&& 1) = if bt x q = true then 1 else 0 := by
  rw [nw_a1, b_sshr q hq x (show 0 < 32 by omega), if_pos (show q + 0 < 32 by omega), Nat.add_zero]
theorem nw_nf {x : Bool} (h : ¬ x = false) : x = true := by cases x <;> simp_all
theorem nw_nt {x : Bool} (h : ¬ x = true) : x = false := by cases x <;> simp_all
/-- five bits from 5 * q on -/
theorem nw_is_sh (a : Int32) {q : Nat} (hq : 5 * q < 32) : nw_is (((a.toUInt32 >>> ((5 * nI q).toUInt32 &&& Int32.toUInt32 31)).toInt32) &&& 31) (fun i => i < 5 ∧ bt a (5 * q + i) = true) := fun i hi => by
  rw [show (5 : Int32) * nI q = nI (5 * q) from pk_mul 5 q, b_and, b_ushr (5 * q) hq, nw_bt31 i hi, Bool.and_eq_true, decide_eq_true_eq]
  exact And.comm
/-- an or of single bits: bit g j for each j below n with c j -/
def nw_acc (c : Nat → Bool) (g : Nat → Nat) : Nat → Int32
  | 0 => 0
  | n + 1 => if c n = true then nw_acc c g n ||| ((1 : Int32) <<< (nI (g n) &&& 31)) else nw_acc c g n
theorem nw_acc_t {c : Nat → Bool} (g : Nat → Nat) {n : Nat} (h : c n = true) : nw_acc c g n ||| ((1 : Int32) <<< (nI (g n) &&& 31)) = nw_acc c g (n + 1) := (if_pos h).symm
theorem nw_acc_f {c : Nat → Bool} (g : Nat → Nat) {n : Nat} (h : c n = false) : nw_acc c g n = nw_acc c g (n + 1) := (if_neg (by rw [h]; decide)).symm
theorem nw_acc_is (c : Nat → Bool) (g : Nat → Nat) (n : Nat) (h : ∀ j, j < n → g j < 32) : nw_is (nw_acc c g n) (fun i => ∃ j, j < n ∧ c j = true ∧ g j = i) := by
  induction n with
  | zero => exact nw_is_to nw_is_0 (fun i _ => ⟨fun h => h.elim, fun ⟨j, h, _⟩ => absurd h (Nat.not_lt_zero j)⟩)
  | succ n ih =>
    have ih' := ih (fun j hj => h j (by omega))
    by_cases hc : c n = true
    · rw [← nw_acc_t g hc]
      refine nw_is_to (nw_is_or ih' (nw_is_1 (h n (by omega)))) (fun i _ => ⟨?_, ?_⟩)
      · rintro (⟨j, hj, e⟩ | e)
        · exact ⟨j, by omega, e⟩
        · exact ⟨n, by omega, hc, Eq.symm e⟩
      · rintro ⟨j, hj, e1, e2⟩
        rcases Nat.lt_or_ge j n with z | z
        · exact Or.inl ⟨j, z, e1, e2⟩
        · obtain rfl : j = n := by omega
          exact Or.inr e2.symm
    · rw [← nw_acc_f g (nw_nt hc)]
      refine nw_is_to ih' (fun i _ => ⟨fun ⟨j, hj, e⟩ => ⟨j, by omega, e⟩, ?_⟩)
      rintro ⟨j, hj, e1, e2⟩
      rcases Nat.lt_or_ge j n with z | z
      · exact ⟨j, z, e1, e2⟩
      · obtain rfl : j = n := by omega
        exact absurd e1 hc
/-- the pairs (q, r) with (q, s) in a and (s, r) in b for some s -/
def nw_comp (a b : Int32) : Int32 := nw_acc (fun j => bt a (5 * (j / 25) + j / 5 % 5) && bt b (5 * (j / 5 % 5) + j % 5)) (fun j => 5 * (j / 25) + j % 5) 125
theorem nw_comp_is (a b : Int32) : nw_is (nw_comp a b) (fun i => i < 25 ∧ ∃ s, s < 5 ∧ bt a (5 * (i / 5) + s) = true ∧ bt b (5 * s + i % 5) = true) := by
  refine nw_is_to (nw_acc_is _ _ 125 (fun j hj => by show 5 * (j / 25) + j % 5 < 32; omega)) (fun i hi => ⟨?_, ?_⟩)
  · rintro ⟨j, hj, hc, e⟩
    have hc' : (bt a (5 * (j / 25) + j / 5 % 5) && bt b (5 * (j / 5 % 5) + j % 5)) = true := hc
    have e' : 5 * (j / 25) + j % 5 = i := e
    rw [Bool.and_eq_true] at hc'
    have e1 : i / 5 = j / 25 := by omega
    have e2 : i % 5 = j % 5 := by omega
    refine ⟨by omega, j / 5 % 5, by omega, ?_, ?_⟩
    · rw [e1]; exact hc'.1
    · rw [e2]; exact hc'.2
  · rintro ⟨h25, s, hs, ha, hb⟩
    have e1 : (25 * (i / 5) + 5 * s + i % 5) / 25 = i / 5 := by omega
    have e2 : (25 * (i / 5) + 5 * s + i % 5) / 5 % 5 = s := by omega
    have e3 : (25 * (i / 5) + 5 * s + i % 5) % 5 = i % 5 := by omega
    refine ⟨25 * (i / 5) + 5 * s + i % 5, by omega, ?_, ?_⟩
    · show (bt a (5 * ((25 * (i / 5) + 5 * s + i % 5) / 25) + (25 * (i / 5) + 5 * s + i % 5) / 5 % 5) && bt b (5 * ((25 * (i / 5) + 5 * s + i % 5) / 5 % 5) + (25 * (i / 5) + 5 * s + i % 5) % 5)) = true
      rw [e1, e2, e3, ha, hb]
      rfl
    · show 5 * ((25 * (i / 5) + 5 * s + i % 5) / 25) + (25 * (i / 5) + 5 * s + i % 5) % 5 = i
      rw [e1, e3]
      omega
/-- the states to which the pairs of a lead from those of s -/
def nw_img (s a : Int32) : Int32 := nw_acc (fun j => bt s (j / 5) && bt a j) (fun j => j % 5) 25
theorem nw_img_is (s a : Int32) : nw_is (nw_img s a) (fun i => i < 5 ∧ ∃ q, q < 5 ∧ bt s q = true ∧ bt a (5 * q + i) = true) := by
  refine nw_is_to (nw_acc_is _ _ 25 (fun j hj => by show j % 5 < 32; omega)) (fun i hi => ⟨?_, ?_⟩)
  · rintro ⟨j, hj, hc, e⟩
    have hc' : (bt s (j / 5) && bt a j) = true := hc
    have e' : j % 5 = i := e
    rw [Bool.and_eq_true] at hc'
    refine ⟨by omega, j / 5, by omega, hc'.1, ?_⟩
    rw [show 5 * (j / 5) + i = j by omega]
    exact hc'.2
  · rintro ⟨h5, q, hq, hs, ha⟩
    refine ⟨5 * q + i, by omega, ?_, ?_⟩
    · show (bt s ((5 * q + i) / 5) && bt a (5 * q + i)) = true
      rw [show (5 * q + i) / 5 = q by omega, hs, ha]
      rfl
    · show (5 * q + i) % 5 = i
      omega
/-- the pairs of states that the moves with letter l and mark m join -/
def nw_pairs (mv : Nat → Int32) (l m : Nat) : Int32 := nw_acc (fun i => !decide (mv (120 * (i / 5) + 20 * l + 4 * (i % 5) + m) = 0)) (fun i => i) 25
/-- the states whose cell is not 0 -/
def nw_bits (st : Nat → Int32) : Int32 := nw_acc (fun q => !decide (st q = 0)) (fun q => q) 5
theorem nw_nz {x : Int32} (h : ¬ x = 0) : (!decide (x = 0)) = true := by rw [decide_eq_false h]; rfl
theorem nw_z {x : Int32} (h : x = 0) : (!decide (x = 0)) = false := by rw [decide_eq_true h]; rfl
theorem nw_nzI {x : Int32} : (!decide (x = 0)) = true ↔ ¬ x = 0 := ⟨fun h z => (by rw [nw_z z] at h; exact absurd h (by decide)), nw_nz⟩
theorem nw_pairs_is (mv : Nat → Int32) (l m : Nat) : nw_is (nw_pairs mv l m) (fun i => i < 25 ∧ ¬ mv (120 * (i / 5) + 20 * l + 4 * (i % 5) + m) = 0) := by
  refine nw_is_to (nw_acc_is _ _ 25 (fun j hj => by show j < 32; omega)) (fun i hi => ⟨?_, ?_⟩)
  · rintro ⟨j, hj, hc, e⟩
    obtain rfl : j = i := e
    exact ⟨hj, nw_nzI.mp hc⟩
  · rintro ⟨h, z⟩
    exact ⟨i, h, nw_nz z, rfl⟩
theorem nw_bits_is (st : Nat → Int32) : nw_is (nw_bits st) (fun i => i < 5 ∧ ¬ st i = 0) := by
  refine nw_is_to (nw_acc_is _ _ 5 (fun j hj => by show j < 32; omega)) (fun i hi => ⟨?_, ?_⟩)
  · rintro ⟨j, hj, hc, e⟩
    obtain rfl : j = i := e
    exact ⟨hj, nw_nzI.mp hc⟩
  · rintro ⟨h, z⟩
    exact ⟨i, h, nw_nz z, rfl⟩
/-- how many of the bits below n are set -/
def nw_cnt (x : Int32) : Nat → Int32
  | 0 => 0
  | q + 1 => nw_cnt x q + (if bt x q = true then 1 else 0)
end
section
/-! the machine that reads a word: no program in sight -/
/-- an opening letter, what lay in between, a closing letter with the same mark, for the marks below n -/
def nw_clN (P : Nat → Nat → Int32) (o c : Nat) (b : Int32) : Nat → Int32
  | 0 => 0
  | m + 1 => nw_clN P o c b m ||| nw_comp (nw_comp (P o m) b) (P c m)
def nw_cl (P : Nat → Nat → Int32) (o c : Nat) (b : Int32) : Int32 := nw_clN P o c b 3
def nw_sm : Int32 := 17043521
/-- a pending opening letter: its place, the letter, way and live states ahead of it -/
abbrev nw_E : Type := Nat × Nat × Int32 × Int32
/-- the pending ones, way, live states -/
abbrev nw_C : Type := List nw_E × Int32 × Int32
def nw_pp (P : Nat → Nat → Int32) (l : Nat) (y a : Int32) : List nw_E → nw_C
  | [] => ([], nw_comp y (P l 3), nw_img a (P l 3))
  | e :: t => (t, nw_comp e.2.2.1 (nw_cl P e.2.1 l y), nw_img e.2.2.2 (nw_cl P e.2.1 l y))
/-- one letter read -/
def nw_st (P : Nat → Nat → Int32) (l k : Nat) (c : nw_C) : nw_C :=
  if 4 ≤ l then (c.1, nw_comp c.2.1 (P l 0), nw_img c.2.2 (P l 0))
  else if l < 2 then ((k, l, c.2.1, c.2.2) :: c.1, nw_sm, nw_img c.2.2 ((P l 0 ||| P l 1) ||| P l 2))
  else nw_pp P l c.2.1 c.2.2 c.1
/-- k letters read -/
def nw_cf (P : Nat → Nat → Int32) (S : Int32) (w : Nat → Nat) : Nat → nw_C
  | 0 => ([], nw_sm, S)
  | k + 1 => nw_st P (w k) k (nw_cf P S w k)
theorem nw_cf_cong {P : Nat → Nat → Int32} {S : Int32} {w w' : Nat → Nat} : ∀ k, (∀ j, j < k → w j = w' j) → nw_cf P S w k = nw_cf P S w' k
  | 0, _ => rfl
  | k + 1, h => by
    show nw_st P (w k) k (nw_cf P S w k) = nw_st P (w' k) k (nw_cf P S w' k)
    rw [nw_cf_cong k (fun j hj => h j (by omega)), h k (by omega)]
section
variable {P : Nat → Nat → Int32} {S : Int32} {w : Nat → Nat}
theorem nw_cf_p {k : Nat} (h : 4 ≤ w k) : nw_cf P S w (k + 1) = ((nw_cf P S w k).1, nw_comp (nw_cf P S w k).2.1 (P (w k) 0), nw_img (nw_cf P S w k).2.2 (P (w k) 0)) := if_pos h
theorem nw_cf_o {k : Nat} (h : w k < 2) : nw_cf P S w (k + 1) = ((k, w k, (nw_cf P S w k).2.1, (nw_cf P S w k).2.2) :: (nw_cf P S w k).1, nw_sm, nw_img (nw_cf P S w k).2.2 ((P (w k) 0 ||| P (w k) 1) ||| P (w k) 2)) :=
  (if_neg (by omega)).trans (if_pos h)
theorem nw_cf_c {k : Nat} (h2 : 2 ≤ w k) (h4 : w k < 4) : nw_cf P S w (k + 1) = nw_pp P (w k) (nw_cf P S w k).2.1 (nw_cf P S w k).2.2 (nw_cf P S w k).1 :=
  (if_neg (by omega)).trans (if_neg (by omega))
theorem nw_cf_e {k : Nat} (h2 : 2 ≤ w k) (h4 : w k < 4) (he : (nw_cf P S w k).1 = []) : nw_cf P S w (k + 1) = ([], nw_comp (nw_cf P S w k).2.1 (P (w k) 3), nw_img (nw_cf P S w k).2.2 (P (w k) 3)) := by
  rw [nw_cf_c h2 h4, he]
  rfl
theorem nw_cf_b {k : Nat} (h2 : 2 ≤ w k) (h4 : w k < 4) {e : nw_E} {t : List nw_E} (he : (nw_cf P S w k).1 = e :: t) : nw_cf P S w (k + 1) = (t, nw_comp e.2.2.1 (nw_cl P e.2.1 (w k) (nw_cf P S w k).2.1), nw_img e.2.2.2 (nw_cl P e.2.1 (w k) (nw_cf P S w k).2.1)) := by
  rw [nw_cf_c h2 h4, he]
  rfl
/-- what lies on top was laid when its letter came -/
theorem nw_inv : ∀ n k, k ≤ n → ∀ e t, (nw_cf P S w k).1 = e :: t → e.1 < k ∧ w e.1 < 2 ∧ e = (e.1, w e.1, (nw_cf P S w e.1).2.1, (nw_cf P S w e.1).2.2) ∧ (nw_cf P S w e.1).1 = t := by
  intro n
  induction n with
  | zero =>
    intro k hk e t h
    obtain rfl : k = 0 := by omega
    exact absurd h.symm (List.cons_ne_nil e t)
  | succ n ih =>
    intro k hk e t h
    rcases Nat.eq_zero_or_pos k with z | z
    · subst z
      exact absurd h.symm (List.cons_ne_nil e t)
    · obtain ⟨j, rfl⟩ : ∃ j, k = j + 1 := ⟨k - 1, by omega⟩
      rcases Nat.lt_or_ge (w j) 2 with h2 | h2
      · rw [nw_cf_o h2] at h
        have h' : (j, w j, (nw_cf P S w j).2.1, (nw_cf P S w j).2.2) :: (nw_cf P S w j).1 = e :: t := h
        rw [List.cons.injEq] at h'
        obtain ⟨rfl, rfl⟩ := h'
        exact ⟨Nat.lt_succ_self j, h2, rfl, rfl⟩
      · rcases Nat.lt_or_ge (w j) 4 with h4 | h4
        · cases hs : (nw_cf P S w j).1 with
          | nil =>
            rw [nw_cf_e h2 h4 hs] at h
            exact absurd h.symm (List.cons_ne_nil e t)
          | cons e' t' =>
            rw [nw_cf_b h2 h4 hs] at h
            have h' : t' = e :: t := h
            obtain ⟨a1, a2, a3, a4⟩ := ih j (by omega) e' t' hs
            obtain ⟨b1, b2, b3, b4⟩ := ih e'.1 (by omega) e t (a4.trans h')
            exact ⟨by omega, b2, b3, b4⟩
        · rw [nw_cf_p h4] at h
          obtain ⟨a1, a2, a3, a4⟩ := ih j (by omega) e t h
          exact ⟨by omega, a2, a3, a4⟩
theorem nw_lt : ∀ n k, k ≤ n → ∀ e, e ∈ (nw_cf P S w k).1 → e.1 < k := by
  intro n
  induction n with
  | zero =>
    intro k hk e h
    obtain rfl : k = 0 := by omega
    exact absurd (show e ∈ ([] : List nw_E) from h) (by simp)
  | succ n ih =>
    intro k hk e h
    cases hs : (nw_cf P S w k).1 with
    | nil =>
      rw [hs] at h
      exact absurd h (by simp)
    | cons e' t' =>
      obtain ⟨a1, a2, a3, a4⟩ := nw_inv k k (Nat.le_refl k) e' t' hs
      rw [hs] at h
      rcases List.mem_cons.mp h with z | z
      · rw [z]; exact a1
      · have := ih e'.1 (by omega) e (by rw [a4]; exact z)
        omega
theorem nw_len : ∀ k, (nw_cf P S w k).1.length ≤ k := by
  intro k
  induction k with
  | zero => exact Nat.le_refl 0
  | succ j ih =>
    rcases Nat.lt_or_ge (w j) 2 with h2 | h2
    · rw [nw_cf_o h2]
      exact Nat.succ_le_succ ih
    · rcases Nat.lt_or_ge (w j) 4 with h4 | h4
      · cases hs : (nw_cf P S w j).1 with
        | nil =>
          rw [nw_cf_e h2 h4 hs]
          exact Nat.zero_le _
        | cons e' t' =>
          rw [nw_cf_b h2 h4 hs]
          rw [hs] at ih
          have ih' : t'.length + 1 ≤ j := ih
          show t'.length ≤ j + 1
          omega
      · rw [nw_cf_p h4]
        exact Nat.le_succ_of_le ih
end
/-- the letter at c closes the one at b -/
def nw_pop (P : Nat → Nat → Int32) (S : Int32) (w : Nat → Nat) (c b : Nat) : Prop :=
  2 ≤ w c ∧ w c < 4 ∧ b < c ∧ w b < 2 ∧ (nw_cf P S w c).1 = (b, w b, (nw_cf P S w b).2.1, (nw_cf P S w b).2.2) :: (nw_cf P S w b).1
section
variable {P : Nat → Nat → Int32} {S : Int32} {w : Nat → Nat}
theorem nw_pop_of {c : Nat} (h2 : 2 ≤ w c) (h4 : w c < 4) {e : nw_E} {t : List nw_E} (he : (nw_cf P S w c).1 = e :: t) : nw_pop P S w c e.1 := by
  obtain ⟨a1, a2, a3, a4⟩ := nw_inv c c (Nat.le_refl c) e t he
  refine ⟨h2, h4, a1, a2, ?_⟩
  rw [he, ← a3, a4]
theorem nw_pop_no {c : Nat} (he : (nw_cf P S w c).1 = []) (b : Nat) : ¬ nw_pop P S w c b := by
  rintro ⟨_, _, _, _, h⟩
  rw [he] at h
  exact absurd h.symm (List.cons_ne_nil _ _)
theorem nw_pop_head {c b : Nat} (h : nw_pop P S w c b) {e : nw_E} {t : List nw_E} (he : (nw_cf P S w c).1 = e :: t) : e.1 = b := by
  have h' := h.2.2.2.2
  rw [he, List.cons.injEq] at h'
  rw [h'.1]
theorem nw_pop_b {c b b' : Nat} (h : nw_pop P S w c b) (h' : nw_pop P S w c b') : b = b' := by
  have e := h.2.2.2.2.symm.trans h'.2.2.2.2
  rw [List.cons.injEq] at e
  exact congrArg Prod.fst e.1
/-- the machine behind a closing letter -/
theorem nw_pop_cf {c b : Nat} (h : nw_pop P S w c b) : nw_cf P S w (c + 1) = ((nw_cf P S w b).1, nw_comp (nw_cf P S w b).2.1 (nw_cl P (w b) (w c) (nw_cf P S w c).2.1), nw_img (nw_cf P S w b).2.2 (nw_cl P (w b) (w c) (nw_cf P S w c).2.1)) := by
  have A := nw_cf_b h.1 h.2.1 h.2.2.2.2
  dsimp only at A
  exact A
/-- what has been closed never lies there again -/
theorem nw_out {c b : Nat} (h : nw_pop P S w c b) : ∀ d, ∀ e, e ∈ (nw_cf P S w (c + 1 + d)).1 → ¬ e.1 = b := by
  have hb := h.2.2.1
  intro d
  induction d with
  | zero =>
    intro e he z
    rw [Nat.add_zero, nw_pop_cf h] at he
    have := nw_lt b b (Nat.le_refl b) e he
    omega
  | succ d ih =>
    intro e he
    rw [← Nat.add_assoc] at he
    rcases Nat.lt_or_ge (w (c + 1 + d)) 2 with h2 | h2
    · rw [nw_cf_o h2] at he
      rcases List.mem_cons.mp he with z | z
      · rw [z]
        show ¬ c + 1 + d = b
        omega
      · exact ih e z
    · rcases Nat.lt_or_ge (w (c + 1 + d)) 4 with h4 | h4
      · cases hs : (nw_cf P S w (c + 1 + d)).1 with
        | nil =>
          rw [nw_cf_e h2 h4 hs] at he
          exact absurd he (by simp)
        | cons e' t' =>
          rw [nw_cf_b h2 h4 hs] at he
          exact ih e (by rw [hs]; exact List.mem_cons_of_mem _ he)
      · rw [nw_cf_p h4] at he
        exact ih e he
theorem nw_pop_lt {c c' b : Nat} (h : nw_pop P S w c b) (h' : nw_pop P S w c' b) : ¬ c < c' := by
  intro z
  obtain ⟨d, rfl⟩ : ∃ d, c' = c + 1 + d := ⟨c' - (c + 1), by omega⟩
  exact nw_out h d (b, w b, (nw_cf P S w b).2.1, (nw_cf P S w b).2.2) (by rw [h'.2.2.2.2]; exact List.mem_cons_self ..) rfl
/-- an opening letter lies there until it is closed -/
theorem nw_stay {p : Nat} (hp : w p < 2) : ∀ d, (∃ e, e ∈ (nw_cf P S w (p + 1 + d)).1 ∧ e.1 = p) ∨ (∃ c, p < c ∧ c < p + 1 + d ∧ nw_pop P S w c p) := by
  intro d
  induction d with
  | zero =>
    refine Or.inl ⟨(p, w p, (nw_cf P S w p).2.1, (nw_cf P S w p).2.2), ?_, rfl⟩
    rw [Nat.add_zero, nw_cf_o hp]
    exact List.mem_cons_self ..
  | succ d ih =>
    rw [← Nat.add_assoc]
    rcases ih with ⟨e, he, ep⟩ | ⟨c, h1, h2, h3⟩
    · rcases Nat.lt_or_ge (w (p + 1 + d)) 2 with h2 | h2
      · refine Or.inl ⟨e, ?_, ep⟩
        rw [nw_cf_o h2]
        exact List.mem_cons_of_mem _ he
      · rcases Nat.lt_or_ge (w (p + 1 + d)) 4 with h4 | h4
        · cases hs : (nw_cf P S w (p + 1 + d)).1 with
          | nil =>
            rw [hs] at he
            exact absurd he (by simp)
          | cons e' t' =>
            rw [hs] at he
            rcases List.mem_cons.mp he with z | z
            · refine Or.inr ⟨p + 1 + d, by omega, by omega, ?_⟩
              have q := nw_pop_of h2 h4 hs
              rw [← z, ep] at q
              exact q
            · refine Or.inl ⟨e, ?_, ep⟩
              rw [nw_cf_b h2 h4 hs]
              exact z
        · refine Or.inl ⟨e, ?_, ep⟩
          rw [nw_cf_p h4]
          exact he
    · exact Or.inr ⟨c, h1, by omega, h3⟩
theorem nw_closes {p t : Nat} (hp : w p < 2) (h : p < t) (he : (nw_cf P S w p).1 = (nw_cf P S w t).1) : ∃ c, p < c ∧ c < t ∧ nw_pop P S w c p := by
  obtain ⟨d, rfl⟩ : ∃ d, t = p + 1 + d := ⟨t - (p + 1), by omega⟩
  rcases nw_stay (P := P) (S := S) hp d with ⟨e, h1, h2⟩ | h1
  · rw [← he] at h1
    have := nw_lt p p (Nat.le_refl p) e h1
    omega
  · exact h1
end
/-! the class's picture of it: three arrays -/
def nw_top : List nw_E → Int32
  | [] => -1
  | e :: _ => nI e.1
def nw_ok (P : Nat → Nat → Int32) (S : Int32) (w : Nat → Nat) (L : Nat) (ay al ao : Nat → Int32) : Prop :=
  ∀ k, k ≤ L → ay k = (nw_cf P S w k).2.1 ∧ al k = (nw_cf P S w k).2.2 ∧ ao k = nw_top (nw_cf P S w k).1
theorem nw_ok_0 {P : Nat → Nat → Int32} {S : Int32} {w : Nat → Nat} {ay al ao : Nat → Int32} : nw_ok P S w 0 (upd ay 0 17043521) (upd al 0 S) (upd ao 0 (-1)) := by
  intro k hk
  obtain rfl : k = 0 := by omega
  exact ⟨pk_us, pk_us, pk_us⟩
theorem nw_ok_s {P : Nat → Nat → Int32} {S : Int32} {w : Nat → Nat} {L : Nat} {ay al ao : Nat → Int32} (h : nw_ok P S w L ay al ao) {t : List nw_E} {y a o : Int32} (e : nw_cf P S w (L + 1) = (t, y, a)) (eo : o = nw_top t) : nw_ok P S w (L + 1) (upd ay (L + 1) y) (upd al (L + 1) a) (upd ao (L + 1) o) := by
  intro k hk
  rcases Nat.lt_or_ge L k with z | z
  · obtain rfl : k = L + 1 := by omega
    rw [e, pk_us, pk_us, pk_us]
    exact ⟨rfl, rfl, eo⟩
  · rw [pk_un (by omega), pk_un (by omega), pk_un (by omega)]
    exact h k z
theorem nw_ok_le {P : Nat → Nat → Int32} {S : Int32} {w : Nat → Nat} {L M : Nat} {ay al ao : Nat → Int32} (h : nw_ok P S w L ay al ao) (hM : M ≤ L) : nw_ok P S w M ay al ao :=
  fun k hk => h k (Nat.le_trans hk hM)
theorem nw_ok_w {P : Nat → Nat → Int32} {S : Int32} {w w' : Nat → Nat} {L : Nat} {ay al ao : Nat → Int32} (h : nw_ok P S w L ay al ao) (e : ∀ j, j < L → w j = w' j) : nw_ok P S w' L ay al ao := by
  intro k hk
  rw [← nw_cf_cong (P := P) (S := S) k (fun j hj => e j (by omega))]
  exact h k hk
/-! the reference's picture of it: partners and waiting ones -/
def nw_mt (P : Nat → Nat → Int32) (S : Int32) (w : Nat → Nat) (i : Nat) (pa : Nat → Int32) : Prop :=
  (∀ c b, c < i → nw_pop P S w c b → pa c = nI b ∧ pa b = nI c) ∧ (∀ j, j < i → (∀ c, c < i → ¬ nw_pop P S w c j) → (∀ b, ¬ nw_pop P S w j b) → pa j = -1)
theorem nw_mt_0 {P : Nat → Nat → Int32} {S : Int32} {w : Nat → Nat} {pa : Nat → Int32} : nw_mt P S w 0 pa :=
  ⟨fun c b h => absurd h (Nat.not_lt_zero c), fun j h => absurd h (Nat.not_lt_zero j)⟩
theorem nw_mt_n {P : Nat → Nat → Int32} {S : Int32} {w : Nat → Nat} {i : Nat} {pa : Nat → Int32} (h : nw_mt P S w i pa) (hn : ∀ b, ¬ nw_pop P S w i b) : nw_mt P S w (i + 1) (upd pa i (-1)) := by
  refine ⟨fun c b hc hp => ?_, fun j hj h1 h2 => ?_⟩
  · have hc' : c < i := by
      rcases Nat.lt_or_ge c i with z | z
      · exact z
      · obtain rfl : c = i := by omega
        exact absurd hp (hn b)
    have hb := hp.2.2.1
    rw [pk_un (by omega), pk_un (by omega)]
    exact h.1 c b hc' hp
  · rcases Nat.lt_or_ge j i with z | z
    · rw [pk_un (by omega)]
      exact h.2 j z (fun c hc => h1 c (by omega)) h2
    · obtain rfl : j = i := by omega
      exact pk_us
theorem nw_mt_p {P : Nat → Nat → Int32} {S : Int32} {w : Nat → Nat} {i b0 : Nat} {pa : Nat → Int32} (h : nw_mt P S w i pa) (h0 : nw_pop P S w i b0) : nw_mt P S w (i + 1) (upd (upd (upd pa i (-1)) i (nI b0)) b0 (nI i)) := by
  have q1 := h0.2.2.1
  have q2 := h0.2.2.2.1
  refine ⟨fun c b hc hp => ?_, fun j hj h1 h2 => ?_⟩
  · have hb := hp.2.2.1
    have hc2 := hp.1
    rcases Nat.lt_or_ge c i with z | z
    · have n1 : c ≠ b0 := fun e => by rw [e] at hc2; omega
      have n2 : b ≠ b0 := fun e => by rw [e] at hp; exact nw_pop_lt hp h0 z
      rw [pk_un n1, pk_un (by omega), pk_un (by omega), pk_un n2, pk_un (by omega), pk_un (by omega)]
      exact h.1 c b z hp
    · obtain rfl : c = i := by omega
      obtain rfl : b = b0 := nw_pop_b hp h0
      rw [pk_un (by omega), pk_us, pk_us]
      exact ⟨rfl, rfl⟩
  · have n1 : j ≠ b0 := fun e => by rw [e] at h1; exact h1 i (by omega) h0
    have n2 : j ≠ i := fun e => by rw [e] at h2; exact h2 b0 h0
    rw [pk_un n1, pk_un n2, pk_un n2]
    exact h.2 j (by omega) (fun c hc => h1 c (by omega)) h2
def nw_wt (a : Nat → Int32) : List nw_E → Prop
  | [] => True
  | e :: t => a t.length = nI e.1 ∧ nw_wt a t
theorem nw_wt_u {a : Nat → Int32} {j : Nat} {x : Int32} : ∀ t : List nw_E, t.length ≤ j → nw_wt a t → nw_wt (upd a j x) t
  | [], _, _ => True.intro
  | e :: t, hj, h => by
    have hj' : t.length + 1 ≤ j := hj
    exact ⟨(pk_un (by omega)).trans h.1, nw_wt_u t (by omega) h.2⟩
/-- the pieces that the reference has worked out -/
def nw_ld (P : Nat → Nat → Int32) (S : Int32) (w : Nat → Nat) (p : Nat) (le : Nat → Int32) : Prop :=
  ∀ c b, c < p → nw_pop P S w c b → le c = nw_cl P (w b) (w c) (nw_cf P S w c).2.1
/-- the two tables of moves -/
def nw_tab (sm pm mv : Nat → Int32) : Prop :=
  (∀ l i m, l < 4 → i < 25 → m < 4 → sm (100 * l + 4 * i + m) = mv (120 * (i / 5) + 20 * l + 4 * (i % 5) + m)) ∧
  (∀ l i, 4 ≤ l → l < 6 → i < 25 → pm (25 * (l - 4) + i) = mv (120 * (i / 5) + 20 * l + 4 * (i % 5) + 0))
end
section
/-! the class's own tables of steps -/
theorem nw_leadL (post : Int32 → Prop) (s a : Int32) (hp : post (nw_img s a)) : ∀ d q x, q + d = 5 → nw_is x (fun i => i < 5 ∧ ∃ p, p < q ∧ bt s p = true ∧ bt a (5 * p + i) = true) → wX_lead_4 post s a (d + 1) x (nI q) := by
  intro d
  induction d with
  | zero =>
    intro q x hq hx
    obtain rfl : q = 5 := by omega
    refine pk_le 5 5 (fun _ => ?_) (fun h => absurd h (by omega))
    rw [nw_is_eq hx (nw_img_is s a)]
    exact hp
  | succ d ih =>
    intro q x hq hx
    refine pk_le 5 q (fun h => absurd h (by omega)) (fun _ => ?_)
    by_cases hb : bt s q = false
    · refine br_t ((nw_tx s (by omega)).mpr hb) (nm_r (nw_or0 x) (nm_r (nI_1 q) (ih (q + 1) x (by omega) ?_)))
      refine nw_is_to hx (fun i _ => ⟨fun ⟨z, p, h, e⟩ => ⟨z, p, by omega, e⟩, fun ⟨z, p, h, e1, e2⟩ => ⟨z, p, ?_, e1, e2⟩⟩)
      rcases Nat.lt_or_ge p q with y | y
      · exact y
      · obtain rfl : p = q := by omega
        rw [hb] at e1
        exact absurd e1 (by decide)
    · refine br_f (fun z => hb ((nw_tx s (by omega)).mp z)) (nm_e (nm_r (nI_1 q) (ih (q + 1) _ (by omega) ?_)))
      refine nw_is_to (nw_is_or hx (nw_is_sh a (by omega))) (fun i _ => ⟨?_, ?_⟩)
      · rintro (⟨z, p, h, e⟩ | ⟨z, e⟩)
        · exact ⟨z, p, by omega, e⟩
        · exact ⟨z, q, by omega, nw_nf hb, e⟩
      · rintro ⟨z, p, h, e1, e2⟩
        rcases Nat.lt_or_ge p q with y | y
        · exact Or.inl ⟨z, p, y, e1, e2⟩
        · obtain rfl : p = q := by omega
          exact Or.inr ⟨z, e2⟩
theorem nw_lead (post : Int32 → Prop) (s a : Int32) (hp : post (nw_img s a)) : wpX_lead post s a :=
  ⟨6, nw_leadL post s a hp 5 0 0 rfl (nw_is_to nw_is_0 (fun i _ => ⟨fun h => h.elim, fun ⟨_, p, h, _⟩ => absurd h (Nat.not_lt_zero p)⟩))⟩
theorem nw_joinL (post : Int32 → Prop) (a b : Int32) (hp : post (nw_comp a b)) : ∀ d q x, q + d = 5 → nw_is x (fun i => i < 5 * q ∧ ∃ s, s < 5 ∧ bt a (5 * (i / 5) + s) = true ∧ bt b (5 * s + i % 5) = true) → wX_join_4 post a b (d + 1) x (nI q) := by
  intro d
  induction d with
  | zero =>
    intro q x hq hx
    obtain rfl : q = 5 := by omega
    refine pk_le 5 5 (fun _ => ?_) (fun h => absurd h (by omega))
    rw [nw_is_eq hx (nw_comp_is a b)]
    exact hp
  | succ d ih =>
    intro q x hq hx
    refine pk_le 5 q (fun h => absurd h (by omega)) (fun _ => ?_)
    refine nm_e (nw_lead _ _ _ (nm_e (nm_r (nI_1 q) (ih (q + 1) _ (by omega) ?_))))
    have hy := nw_is_sh a (q := q) (by omega)
    generalize (((a.toUInt32 >>> ((5 * nI q).toUInt32 &&& Int32.toUInt32 31)).toInt32) &&& 31) = y at hy ⊢
    rw [show (5 : Int32) * nI q = nI (5 * q) from pk_mul 5 q]
    refine nw_is_to (nw_is_or hx (nw_is_shl (nw_img_is y b) (n := 5 * q) (by omega))) (fun i _ => ⟨?_, ?_⟩)
    · rintro (⟨z, e⟩ | ⟨z, z2, s, hs, e1, e2⟩)
      · exact ⟨by omega, e⟩
      · refine ⟨by omega, s, hs, ?_, ?_⟩
        · rw [show i / 5 = q by omega]
          exact ((hy s (by omega)).mp e1).2
        · rw [show i % 5 = i - 5 * q by omega]
          exact e2
    · rintro ⟨z, s, hs, e1, e2⟩
      rcases Nat.lt_or_ge i (5 * q) with y | y
      · exact Or.inl ⟨y, s, hs, e1, e2⟩
      · rw [show i / 5 = q by omega] at e1
        rw [show i % 5 = i - 5 * q by omega] at e2
        exact Or.inr ⟨y, by omega, s, hs, (hy s (by omega)).mpr ⟨hs, e1⟩, e2⟩
theorem nw_join (post : Int32 → Prop) (a b : Int32) (hp : post (nw_comp a b)) : wpX_join post a b :=
  ⟨6, nw_joinL post a b hp 5 0 0 rfl (nw_is_to nw_is_0 (fun i _ => ⟨fun h => h.elim, fun ⟨h, _⟩ => absurd h (by omega)⟩))⟩
theorem nw_same (post : Int32 → Prop) (hp : post 17043521) : wpX_same post :=
  ⟨6, br_f (by decide) (nm_r (e' := 1) (by decide) (nm_r (e' := 1) (by decide)
    (br_f (by decide) (nm_r (e' := 65) (by decide) (nm_r (e' := 2) (by decide)
    (br_f (by decide) (nm_r (e' := 4161) (by decide) (nm_r (e' := 3) (by decide)
    (br_f (by decide) (nm_r (e' := 266305) (by decide) (nm_r (e' := 4) (by decide)
    (br_f (by decide) (nm_r (e' := 17043521) (by decide) (nm_r (e' := 5) (by decide)
    (br_t (by decide) hp)))))))))))))))⟩
theorem nw_onesL (post : Int32 → Prop) (s : Int32) (hp : post (nw_cnt s 5)) : ∀ d q, q + d = 5 → wX_ones_4 post s (d + 1) (nw_cnt s q) (nI q) := by
  intro d
  induction d with
  | zero =>
    intro q hq
    obtain rfl : q = 5 := by omega
    exact pk_le 5 5 (fun _ => hp) (fun h => absurd h (by omega))
  | succ d ih =>
    intro q hq
    refine pk_le 5 q (fun h => absurd h (by omega)) (fun _ => ?_)
    exact nm_r (e' := nw_cnt s (q + 1)) (congrArg (fun z => nw_cnt s q + z) (nw_vx s (by omega))) (nm_r (nI_1 q) (ih (q + 1) (by omega)))
theorem nw_ones (post : Int32 → Prop) (s : Int32) (hp : post (nw_cnt s 5)) : wpX_ones post s := ⟨6, nw_onesL post s hp 5 0 rfl⟩
section
variable {fs fe fk fl : Int32} {sm pm mv aw ay al ao : Nat → Int32}
theorem nw_plainL (post : Int32 → Prop) {l : Nat} (h4 : 4 ≤ l) (h6 : l < 6) (ht : nw_tab sm pm mv) (hp : post (nw_pairs mv l 0)) : ∀ d i, i + d = 25 → wX_plainSteps_4 post (nI l) fs fe fk fl sm pm aw ay al ao (d + 1) (nw_acc (fun i => !decide (mv (120 * (i / 5) + 20 * l + 4 * (i % 5) + 0) = 0)) (fun i => i) i) (nI i) := by
  intro d
  induction d with
  | zero =>
    intro i hi
    obtain rfl : i = 25 := by omega
    exact pk_le 25 25 (fun _ => hp) (fun h => absurd h (by omega))
  | succ d ih =>
    intro i hi
    refine pk_le 25 i (fun h => absurd h (by omega)) (fun _ => ?_)
    have e : (25 : Int32) * (nI l - 4) + nI i = nI (25 * (l - 4) + i) := by
      show nI 25 * (nI l - nI 4) + nI i = _
      rw [pk_sub h4, pk_mul, nI_add]
    rw [e, nI_clamp (by omega), ht.2 l i h4 h6 (by omega)]
    refine ⟨vp_in_nI (by omega) (by omega), br_c (fun z => ?_) (fun z => ?_)⟩
    · refine nm_r (nw_or0 _) (nm_r (nI_1 i) ?_)
      rw [nw_acc_f (fun i => i) (n := i) (nw_z z)]
      exact ih (i + 1) (by omega)
    · exact nm_r (nw_acc_t (c := fun i => !decide (mv (120 * (i / 5) + 20 * l + 4 * (i % 5) + 0) = 0)) (fun i => i) (n := i) (nw_nz z)) (nm_r (nI_1 i) (ih (i + 1) (by omega)))
theorem nw_plain (post : Int32 → Prop) {l : Nat} (h4 : 4 ≤ l) (h6 : l < 6) (ht : nw_tab sm pm mv) (hp : post (nw_pairs mv l 0)) : wpX_plainSteps post (fs, fe, fk, fl, sm, pm, aw, ay, al, ao) (nI l) :=
  ⟨26, nw_plainL post h4 h6 ht hp 25 0 rfl⟩
theorem nw_ssI (post : Int32 → Prop) (J : Int32 → Int32 → Prop) {l a : Nat} (mk : Int32) (hl : l < 4) (ha : a < 25) (p : Nat → Prop) (hJ : ∀ r, nw_is r (fun i => p i ∨ (i = a ∧ ∃ m, m < 4 ∧ bt mk m = true ∧ ¬ sm (100 * l + 4 * a + m) = 0)) → J r (nI (a + 1))) : ∀ d m x, m + d = 4 → nw_is x (fun i => p i ∨ (i = a ∧ ∃ k, k < m ∧ bt mk k = true ∧ ¬ sm (100 * l + 4 * a + k) = 0)) → wX_stackSteps_15 post J (nI l) mk (nI a) fs fe fk fl sm pm aw ay al ao (d + 1) x (nI m) := by
  intro d
  induction d with
  | zero =>
    intro m x hm hx
    obtain rfl : m = 4 := by omega
    exact pk_le 4 4 (fun _ => nm_r (nI_1 a) (hJ x hx)) (fun h => absurd h (by omega))
  | succ d ih =>
    intro m x hm hx
    have keep : (¬ (bt mk m = true ∧ ¬ sm (100 * l + 4 * a + m) = 0)) → nw_is x (fun i => p i ∨ (i = a ∧ ∃ k, k < m + 1 ∧ bt mk k = true ∧ ¬ sm (100 * l + 4 * a + k) = 0)) := by
      intro hn
      refine nw_is_to hx (fun i _ => or_congr Iff.rfl (and_congr Iff.rfl ⟨fun ⟨k, h, e⟩ => ⟨k, by omega, e⟩, fun ⟨k, h, e⟩ => ⟨k, ?_, e⟩⟩))
      rcases Nat.lt_or_ge k m with y | y
      · exact y
      · obtain rfl : k = m := by omega
        exact absurd e hn
    refine pk_le 4 m (fun h => absurd h (by omega)) (fun _ => ?_)
    by_cases hb : bt mk m = false
    · exact br_t ((nw_tx mk (by omega)).mpr hb) (nm_r (nw_or0 x) (nm_r (nI_1 m) (ih (m + 1) x (by omega) (keep (fun z => by rw [hb] at z; exact absurd z.1 (by decide))))))
    · refine br_f (fun z => hb ((nw_tx mk (by omega)).mp z)) ?_
      have e : (100 : Int32) * nI l + 4 * nI a + nI m = nI (100 * l + 4 * a + m) := by
        show nI 100 * nI l + nI 4 * nI a + nI m = _
        rw [pk_mul, pk_mul, nI_add, nI_add]
      rw [e, nI_clamp (by omega)]
      refine ⟨vp_in_nI (by omega) (by omega), br_c (fun z => ?_) (fun z => ?_)⟩
      · exact nm_r (nw_or0 x) (nm_r (nI_1 m) (ih (m + 1) x (by omega) (keep (fun y => y.2 z))))
      · refine nm_e (nm_r (nI_1 m) (ih (m + 1) _ (by omega) ?_))
        refine nw_is_to (nw_is_or hx (nw_is_1 (k := a) (by omega))) (fun i _ => ⟨?_, ?_⟩)
        · rintro ((y | ⟨y, k, h, e⟩) | y)
          · exact Or.inl y
          · exact Or.inr ⟨y, k, by omega, e⟩
          · exact Or.inr ⟨y, m, by omega, nw_nf hb, z⟩
        · rintro (y | ⟨y, k, h, e⟩)
          · exact Or.inl (Or.inl y)
          · exact Or.inr y
theorem nw_ssL (post : Int32 → Prop) {l : Nat} (mk : Int32) (hl : l < 4) (hp : ∀ r, nw_is r (fun i => i < 25 ∧ ∃ m, m < 4 ∧ bt mk m = true ∧ ¬ sm (100 * l + 4 * i + m) = 0) → post r) : ∀ d a x, a + d = 25 → nw_is x (fun i => i < a ∧ ∃ m, m < 4 ∧ bt mk m = true ∧ ¬ sm (100 * l + 4 * i + m) = 0) → wX_stackSteps_5 post (nI l) mk fs fe fk fl sm pm aw ay al ao (d + 1) x (nI a) := by
  intro d
  induction d with
  | zero =>
    intro a x ha hx
    obtain rfl : a = 25 := by omega
    exact pk_le 25 25 (fun _ => hp x hx) (fun h => absurd h (by omega))
  | succ d ih =>
    intro a x ha hx
    refine pk_le 25 a (fun h => absurd h (by omega)) (fun _ => ⟨5, ?_⟩)
    refine nw_ssI post _ mk hl (a := a) (by omega) (fun i => i < a ∧ ∃ m, m < 4 ∧ bt mk m = true ∧ ¬ sm (100 * l + 4 * i + m) = 0) (fun r hr => ih (a + 1) r (by omega) ?_) 4 0 x rfl ?_
    · refine nw_is_to hr (fun i _ => ⟨?_, ?_⟩)
      · rintro (⟨y, e⟩ | ⟨y, e⟩)
        · exact ⟨by omega, e⟩
        · have y' : i = a := y
          subst y'
          exact ⟨by omega, e⟩
      · rintro ⟨y, e⟩
        rcases Nat.lt_or_ge i a with z | z
        · exact Or.inl ⟨z, e⟩
        · obtain rfl : i = a := by omega
          exact Or.inr ⟨rfl, e⟩
    · exact nw_is_to hx (fun i _ => ⟨fun h => Or.inl h, fun h => h.elim id (fun ⟨_, k, h, _⟩ => absurd h (Nat.not_lt_zero k))⟩)
theorem nw_ss (post : Int32 → Prop) {l : Nat} (mk : Int32) (hl : l < 4) (ht : nw_tab sm pm mv) (hp : ∀ r, nw_is r (fun i => i < 25 ∧ ∃ m, m < 4 ∧ bt mk m = true ∧ ¬ mv (120 * (i / 5) + 20 * l + 4 * (i % 5) + m) = 0) → post r) : wpX_stackSteps post (fs, fe, fk, fl, sm, pm, aw, ay, al, ao) (nI l) mk := by
  refine ⟨26, nw_ssL post mk hl (fun r hr => hp r (nw_is_to hr (fun i _ => and_congr_right (fun h25 => ⟨?_, ?_⟩)))) 25 0 0 rfl (nw_is_to nw_is_0 (fun i _ => ⟨fun h => h.elim, fun ⟨h, _⟩ => absurd h (Nat.not_lt_zero i)⟩))⟩
  · rintro ⟨m, hm, e1, e2⟩
    rw [ht.1 l i m hl h25 hm] at e2
    exact ⟨m, hm, e1, e2⟩
  · rintro ⟨m, hm, e1, e2⟩
    rw [← ht.1 l i m hl h25 hm] at e2
    exact ⟨m, hm, e1, e2⟩
theorem nw_ss1 (post : Int32 → Prop) {l m : Nat} (hl : l < 4) (hm : m < 4) (ht : nw_tab sm pm mv) (hp : post (nw_pairs mv l m)) : wpX_stackSteps post (fs, fe, fk, fl, sm, pm, aw, ay, al, ao) (nI l) ((1 : Int32) <<< (nI m &&& 31)) := by
  refine nw_ss post _ hl ht (fun r hr => ?_)
  rw [nw_is_eq hr (nw_is_to (nw_pairs_is mv l m) (fun i _ => and_congr_right (fun _ => ⟨fun h => ⟨m, hm, (nw_is_1 (k := m) (by omega) m (by omega)).mpr rfl, h⟩, fun ⟨k, hk, e1, e2⟩ => ?_⟩)))]
  · exact hp
  · have e : k = m := (nw_is_1 (k := m) (by omega) k (by omega)).mp e1
    rw [e] at e2
    exact e2
theorem nw_bt7 : ∀ i, i < 4 → (bt 7 i = true ↔ i < 3) := by decide +kernel
theorem nw_ss7 (post : Int32 → Prop) {l : Nat} (hl : l < 4) (ht : nw_tab sm pm mv) (hp : post ((nw_pairs mv l 0 ||| nw_pairs mv l 1) ||| nw_pairs mv l 2)) : wpX_stackSteps post (fs, fe, fk, fl, sm, pm, aw, ay, al, ao) (nI l) 7 := by
  refine nw_ss post _ hl ht (fun r hr => ?_)
  rw [nw_is_eq hr (nw_is_to (nw_is_or (nw_is_or (nw_pairs_is mv l 0) (nw_pairs_is mv l 1)) (nw_pairs_is mv l 2)) (fun i _ => ⟨?_, ?_⟩))]
  · exact hp
  · rintro ((⟨h, e⟩ | ⟨h, e⟩) | ⟨h, e⟩)
    · exact ⟨h, 0, by omega, by decide, e⟩
    · exact ⟨h, 1, by omega, by decide, e⟩
    · exact ⟨h, 2, by omega, by decide, e⟩
  · rintro ⟨h, m, hm, e1, e2⟩
    have h3 := (nw_bt7 m hm).mp e1
    rcases (show m = 0 ∨ m = 1 ∨ m = 2 by omega) with z | z | z
    · subst z; exact Or.inl (Or.inl ⟨h, e2⟩)
    · subst z; exact Or.inl (Or.inr ⟨h, e2⟩)
    · subst z; exact Or.inr ⟨h, e2⟩
theorem nw_ss8 (post : Int32 → Prop) {l : Nat} (hl : l < 4) (ht : nw_tab sm pm mv) (hp : post (nw_pairs mv l 3)) : wpX_stackSteps post (fs, fe, fk, fl, sm, pm, aw, ay, al, ao) (nI l) 8 :=
  nw_ss1 post (m := 3) hl (by omega) ht hp
theorem nw_closedL (post : Int32 → Prop) {o c : Nat} (b : Int32) (ho : o < 4) (hc : c < 4) (ht : nw_tab sm pm mv) (hp : post (nw_cl (nw_pairs mv) o c b)) : ∀ d m, m + d = 3 → wX_closedSteps_6 post (nI o) b (nI c) fs fe fk fl sm pm aw ay al ao (d + 1) (nw_clN (nw_pairs mv) o c b m) (nI m) := by
  intro d
  induction d with
  | zero =>
    intro m hm
    obtain rfl : m = 3 := by omega
    exact pk_le 3 3 (fun _ => hp) (fun h => absurd h (by omega))
  | succ d ih =>
    intro m hm
    refine pk_le 3 m (fun h => absurd h (by omega)) (fun _ => ?_)
    exact nw_ss1 _ ho (by omega) ht (nw_ss1 _ hc (by omega) ht (nw_join _ _ _ (nw_join _ _ _ (nm_e (nm_r (nI_1 m) (ih (m + 1) (by omega)))))))
theorem nw_closed (post : Int32 → Prop) {o c : Nat} (b : Int32) (ho : o < 4) (hc : c < 4) (ht : nw_tab sm pm mv) (hp : post (nw_cl (nw_pairs mv) o c b)) : wpX_closedSteps post (fs, fe, fk, fl, sm, pm, aw, ay, al, ao) (nI o) b (nI c) :=
  ⟨4, nw_closedL post b ho hc ht hp 3 0 rfl⟩
end
end
section
/-! the class's reading -/
/-- the word w with the letter l at L -/
def nw_up (w : Nat → Nat) (L l : Nat) : Nat → Nat := fun j => if j = L then l else w j
theorem nw_up_s (w : Nat → Nat) (L l : Nat) : nw_up w L l L = l := if_pos rfl
theorem nw_up_n {w : Nat → Nat} {L l j : Nat} (h : j < L) : nw_up w L l j = w j := if_neg (by omega)
/-- the word w with letters 2 from L on -/
def nw_w2 (w : Nat → Nat) (L : Nat) : Nat → Nat := fun j => if j < L then w j else 2
theorem nw_w2_n {w : Nat → Nat} {L j : Nat} (h : j < L) : nw_w2 w L j = w j := if_pos h
theorem nw_w2_s {w : Nat → Nat} {L j : Nat} (h : L ≤ j) : nw_w2 w L j = 2 := if_neg (by omega)
/-- may the letter l follow -/
def nw_nx (P : Nat → Nat → Int32) (S : Int32) (w : Nat → Nat) (L l : Nat) : Bool := !decide ((nw_cf P S (nw_up w L l) (L + 1)).2.2 = 0)
/-- is the word with n letters 2 behind it taken -/
def nw_tk (P : Nat → Nat → Int32) (S E : Int32) (w : Nat → Nat) (L n : Nat) : Bool := !decide ((nw_cf P S (nw_w2 w L) (L + n)).2.2 &&& E = 0)
/-- the first place below n, or -1 -/
def nw_fd (f : Nat → Bool) : Nat → Int32
  | 0 => -1
  | n + 1 => if 0 ≤ nw_fd f n then nw_fd f n else if f n = true then nI n else nw_fd f n
section
variable {fs fe fk S : Int32} {sm pm mv : Nat → Int32} {w : Nat → Nat}
theorem nw_add (post : SX → Prop) {L l : Nat} {aw ay al ao : Nat → Int32} (hL : L ≤ 20) (el : w L = l) (h6 : l < 6) (ht : nw_tab sm pm mv) (hw : ∀ j, j < L → aw j = nI (w j)) (hok : nw_ok (nw_pairs mv) S w L ay al ao) (hp : ∀ ay' al' ao', nw_ok (nw_pairs mv) S w (L + 1) ay' al' ao' → post (fs, fe, fk, nI (L + 1), sm, pm, upd aw L (nI l), ay', al', ao')) : wpX_add post (fs, fe, fk, nI L, sm, pm, aw, ay, al, ao) (nI l) := by
  subst el
  have c0 : (nI L).toNatClampNeg = L := nI_clamp (by omega)
  have c1 : (nI (L + 1)).toNatClampNeg = L + 1 := nI_clamp (by omega)
  obtain ⟨k1, k2, k3⟩ := hok L (Nat.le_refl L)
  have i22 : vp_in (nI L) 22 := vp_in_nI (by omega) (by omega)
  have j22 : vp_in (nI (L + 1)) 22 := vp_in_nI (by omega) (by omega)
  unfold wpX_add
  simp only [nI_1, c0, c1]
  refine ⟨vp_in_nI (by omega) (by omega), nm_e (nm_e (pk_lt (w L) 4 (fun h4 => pk_le 2 (w L) (fun h2 => ⟨i22, ?_⟩) (fun h2 => ?_)) (fun h4 => ?_)))⟩
  · cases hs : (nw_cf (nw_pairs mv) S w L).1 with
    | nil =>
      rw [hs] at k3
      have k3' : ao L = -1 := k3
      refine br_f (by rw [k3']; decide) (nw_ss8 _ h4 ht ⟨i22, nw_join _ _ _ ⟨j22, nm_e ⟨i22, nw_lead _ _ _ ⟨j22, nm_e ⟨j22, nm_e (hp _ _ _ ?_)⟩⟩⟩⟩⟩)
      rw [k1, k2]
      exact nw_ok_s hok (nw_cf_e h2 h4 hs) rfl
    | cons e t =>
      rw [hs] at k3
      have k3' : ao L = nI e.1 := k3
      obtain ⟨a1, a2, a3, a4⟩ := nw_inv L L (Nat.le_refl L) e t hs
      obtain ⟨m1, m2, m3⟩ := hok e.1 (by omega)
      have cb : (nI e.1).toNatClampNeg = e.1 := nI_clamp (by omega)
      have b22 : vp_in (nI e.1) 22 := vp_in_nI (by omega) (by omega)
      refine br_t (by rw [k3']; exact nI_pos' (by omega)) ⟨i22, nm_r k3' ⟨vp_in_nI (by omega) (by omega), i22, ?_⟩⟩
      rw [cb, pk_un (show e.1 ≠ L by omega), hw e.1 a1]
      refine nw_closed _ _ (by omega) h4 ht ⟨b22, nw_join _ _ _ ⟨j22, nm_e ⟨b22, nw_lead _ _ _ ⟨j22, nm_e ⟨b22, j22, nm_e (hp _ _ _ ?_)⟩⟩⟩⟩⟩
      rw [k1, m1, m2]
      exact nw_ok_s hok (nw_pop_cf (nw_pop_of h2 h4 hs)) m3
  · refine nw_ss7 _ (by omega) ht (nw_same _ ⟨j22, nm_e ⟨i22, nw_lead _ _ _ ⟨j22, nm_e ⟨j22, nm_e (hp _ _ _ ?_)⟩⟩⟩⟩)
    rw [k2]
    exact nw_ok_s hok (nw_cf_o h2) rfl
  · refine nw_plain _ h4 h6 ht ⟨i22, nw_join _ _ _ ⟨j22, nm_e ⟨i22, nw_lead _ _ _ ⟨j22, nm_e ⟨i22, j22, nm_e (hp _ _ _ ?_)⟩⟩⟩⟩⟩
    rw [k1, k2]
    exact nw_ok_s hok (nw_cf_p h4) k3
theorem nw_readL (post : SX → Prop) {L : Nat} (hL : L ≤ 16) (ht : nw_tab sm pm mv) (h6 : ∀ j, j < L → w j < 6) (hp : ∀ aw' ay' al' ao', (∀ j, j < L → aw' j = nI (w j)) → nw_ok (nw_pairs mv) S w L ay' al' ao' → post (fs, fe, fk, nI L, sm, pm, aw', ay', al', ao')) : ∀ d k aw ay al ao, k + d = L → (∀ j, j < L → aw j = nI (w j)) → nw_ok (nw_pairs mv) S w k ay al ao → wX_readAll_51 post (nI L) (d + 1) (nI k) fs fe fk (nI k) sm pm aw ay al ao := by
  intro d
  induction d with
  | zero =>
    intro k aw ay al ao hk hw hok
    obtain rfl : k = L := by omega
    exact pk_le k k (fun _ => hp aw ay al ao hw hok) (fun h => absurd h (by omega))
  | succ d ih =>
    intro k aw ay al ao hk hw hok
    refine pk_le L k (fun h => absurd h (by omega)) (fun _ => ⟨vp_in_nI (by omega) (by omega), ?_⟩)
    rw [nI_clamp (n := k) (by omega), hw k (by omega)]
    refine nw_add _ (by omega) rfl (h6 k (by omega)) ht (fun j hj => hw j (by omega)) hok (fun ay' al' ao' ok' => ?_)
    refine nm_r (nI_1 k) (ih (k + 1) _ _ _ _ (by omega) (fun j hj => ?_) ok')
    rcases Nat.lt_or_ge j k with z | z
    · rw [pk_un (by omega)]; exact hw j hj
    · rcases Nat.eq_or_lt_of_le z with y | y
      · rw [← y, pk_us]
      · rw [pk_un (by omega)]; exact hw j hj
theorem nw_read (post : SX → Prop) {L : Nat} {aw ay al ao : Nat → Int32} (hL : L ≤ 16) (ht : nw_tab sm pm mv) (h6 : ∀ j, j < L → w j < 6) (hw : ∀ j, j < L → aw j = nI (w j)) (hc : fk = 0 ∨ nw_ok (nw_pairs mv) fs w L ay al ao) (hp : ∀ fk' aw' ay' al' ao', (∀ j, j < L → aw' j = nI (w j)) → nw_ok (nw_pairs mv) fs w L ay' al' ao' → post (fs, fe, fk', nI L, sm, pm, aw', ay', al', ao')) : wpX_readAll post (fs, fe, fk, nI L, sm, pm, aw, ay, al, ao) := by
  unfold wpX_readAll
  dsimp only
  refine br_c (fun z => ?_) (fun z => ?_)
  · refine nw_same _ (nm_e (nm_e (nm_e ⟨L + 1, ?_⟩)))
    exact nw_readL post hL ht h6 (hp 1) L 0 _ _ _ _ (by omega) hw nw_ok_0
  · rcases hc with y | y
    · exact absurd y z
    · exact hp _ _ _ _ _ hw y
theorem nw_opnL (post : Int32 → SX → Prop) {L r : Nat} {fl : Int32} {aw ay al ao : Nat → Int32} (hL : L ≤ 16) (hr : r ≤ 16) (hok : nw_ok (nw_pairs mv) S w L ay al ao) (hp : post (nI r) (fs, fe, fk, fl, sm, pm, aw, ay, al, ao)) : ∀ d k s, k ≤ L → (nw_cf (nw_pairs mv) S w k).1.length = d → s + d = r → wX_open_18 post fs fe fk fl sm pm aw ay al ao (d + 1) (nI s) (ao k) (nI s) := by
  intro d
  induction d with
  | zero =>
    intro k s hk hd hs
    obtain rfl : s = r := by omega
    have e := (hok k hk).2.2
    rw [List.length_eq_zero_iff.mp hd] at e
    have e' : ao k = -1 := e
    exact pk_le 16 s (fun _ => hp) (fun _ => br_t (by rw [e']; decide) hp)
  | succ d ih =>
    intro k s hk hd hs
    have e := (hok k hk).2.2
    cases hc : (nw_cf (nw_pairs mv) S w k).1 with
    | nil => rw [hc] at hd; exact absurd hd (by simp)
    | cons a t =>
      rw [hc] at hd e
      have hd' : t.length + 1 = d + 1 := hd
      have e' : ao k = nI a.1 := e
      obtain ⟨a1, a2, a3, a4⟩ := nw_inv k k (Nat.le_refl k) a t hc
      rw [e']
      refine pk_le 16 s (fun h => absurd h (by omega)) (fun _ => br_f (nI_pos (by omega)) (nm_r (nI_1 s) ⟨vp_in_nI (by omega) (by omega), nm_r (e' := ao a.1) (by rw [nI_clamp (n := a.1) (by omega)]) (nm_r (nI_1 s) (ih a.1 (s + 1) (by omega) (by rw [a4]; omega) (by omega)))⟩))
theorem nw_nextL (post : Int32 → SX → Prop) {L : Nat} (hL : L ≤ 16) (ht : nw_tab sm pm mv) (hp : ∀ aw' ay' al' ao', (∀ j, j < L → aw' j = nI (w j)) → nw_ok (nw_pairs mv) S w L ay' al' ao' → post (nw_acc (nw_nx (nw_pairs mv) S w L) (fun l => l) 6) (fs, fe, fk, nI L, sm, pm, aw', ay', al', ao')) : ∀ d l aw ay al ao, l + d = 6 → (∀ j, j < L → aw j = nI (w j)) → nw_ok (nw_pairs mv) S w L ay al ao → wX_next_8 post (d + 1) (nw_acc (nw_nx (nw_pairs mv) S w L) (fun l => l) l) (nI l) fs fe fk (nI L) sm pm aw ay al ao := by
  intro d
  induction d with
  | zero =>
    intro l aw ay al ao hl hw hok
    obtain rfl : l = 6 := by omega
    exact pk_le 6 6 (fun _ => hp aw ay al ao hw hok) (fun h => absurd h (by omega))
  | succ d ih =>
    intro l aw ay al ao hl hw hok
    refine pk_le 6 l (fun h => absurd h (by omega)) (fun _ => ?_)
    refine nw_add (w := nw_up w L l) (S := S) (mv := mv) _ (by omega) (nw_up_s w L l) (by omega) ht (fun j hj => (hw j hj).trans (congrArg nI (nw_up_n hj).symm)) (nw_ok_w hok (fun j hj => (nw_up_n hj).symm)) (fun ay' al' ao' ok' => ?_)
    have hw' : ∀ j, j < L → upd aw L (nI l) j = nI (w j) := fun j hj => (pk_un (by omega)).trans (hw j hj)
    have ok2 : nw_ok (nw_pairs mv) S w L ay' al' ao' := nw_ok_w (nw_ok_le ok' (Nat.le_succ L)) (fun j hj => nw_up_n hj)
    refine ⟨vp_in_nI (by omega) (by omega), ?_⟩
    rw [nI_clamp (n := L + 1) (by omega), (ok' (L + 1) (Nat.le_refl _)).2.1]
    refine br_c (fun z => ?_) (fun z => ?_)
    · refine nm_r (nw_or0 _) (nm_r (nI_pred L) (nm_r (nI_1 l) ?_))
      rw [nw_acc_f (c := nw_nx (nw_pairs mv) S w L) (fun l => l) (n := l) (nw_z z)]
      exact ih (l + 1) _ _ _ _ (by omega) hw' ok2
    · exact nm_r (nw_acc_t (c := nw_nx (nw_pairs mv) S w L) (fun l => l) (n := l) (nw_nz z)) (nm_r (nI_pred L) (nm_r (nI_1 l) (ih (l + 1) _ _ _ _ (by omega) hw' ok2)))
theorem nw_cloL (post : Int32 → SX → Prop) {L : Nat} (hL : L ≤ 16) (ht : nw_tab sm pm mv) (hp : ∀ aw' ay' al' ao', (∀ j, j < L → aw' j = nI (w j)) → nw_ok (nw_pairs mv) S w L ay' al' ao' → post (nw_fd (nw_tk (nw_pairs mv) S fe w L) 5) (fs, fe, fk, nI L, sm, pm, aw', ay', al', ao')) : ∀ d n aw ay al ao, n + d = 5 → (∀ j, j < L + n → aw j = nI (nw_w2 w L j)) → nw_ok (nw_pairs mv) S (nw_w2 w L) (L + n) ay al ao → wX_close_13 post (nI L) (d + 1) (nw_fd (nw_tk (nw_pairs mv) S fe w L) n) (nI n) fs fe fk (nI (L + n)) sm pm aw ay al ao := by
  intro d
  induction d with
  | zero =>
    intro n aw ay al ao hn hw hok
    obtain rfl : n = 5 := by omega
    exact pk_lt 4 5 (fun _ => hp aw ay al ao (fun j hj => (hw j (by omega)).trans (congrArg nI (nw_w2_n hj))) (nw_ok_w (nw_ok_le hok (by omega)) (fun j hj => nw_w2_n hj))) (fun h => absurd h (by omega))
  | succ d ih =>
    intro n aw ay al ao hn hw hok
    have go : ∀ x, x = nw_fd (nw_tk (nw_pairs mv) S fe w L) (n + 1) → wX_close_41 post (wX_close_13 post (nI L) (d + 1)) (nI L) x (nI n) fs fe fk (nI (L + n)) sm pm aw ay al ao := by
      intro x ex
      subst ex
      unfold wX_close_41
      refine nw_add (w := nw_w2 w L) (S := S) (mv := mv) (l := 2) _ (by omega) (nw_w2_s (by omega)) (by omega) ht hw hok (fun ay' al' ao' ok' => ?_)
      refine nm_r (nI_1 n) (ih (n + 1) _ _ _ _ (by omega) (fun j hj => ?_) ok')
      rcases Nat.lt_or_ge j (L + n) with z | z
      · rw [pk_un (by omega)]; exact hw j z
      · obtain rfl : j = L + n := by omega
        rw [pk_us, nw_w2_s (by omega)]
    refine pk_lt 4 n (fun h => absurd h (by omega)) (fun _ => br_c (fun z => ?_) (fun z => ⟨vp_in_nI (by omega) (by omega), ?_⟩))
    · exact go _ (if_pos z).symm
    · rw [nI_clamp (n := L + n) (by omega), (hok (L + n) (Nat.le_refl _)).2.1]
      refine br_c (fun y => ?_) (fun y => ?_)
      · exact go _ ((if_neg z).trans (if_neg (fun h => by rw [show nw_tk (nw_pairs mv) S fe w L n = false from nw_z y] at h; exact absurd h (by decide)))).symm
      · exact go _ ((if_neg z).trans (if_pos (nw_nz y))).symm
end
theorem nw_fd_0 {f : Nat → Bool} : ∀ n, (∀ j, j < n → f j = false) → nw_fd f n = -1
  | 0, _ => rfl
  | n + 1, h => by
    have ih := nw_fd_0 n (fun j hj => h j (by omega))
    show (if 0 ≤ nw_fd f n then nw_fd f n else if f n = true then nI n else nw_fd f n) = -1
    rw [ih, if_neg (by decide), h n (by omega)]
    rfl
theorem nw_fd_1 {f : Nat → Bool} {n : Nat} (hn : n < 1000) (h : ∀ j, j < n → f j = false) (h1 : f n = true) : ∀ d, nw_fd f (n + 1 + d) = nI n
  | 0 => by
    show (if 0 ≤ nw_fd f n then nw_fd f n else if f n = true then nI n else nw_fd f n) = nI n
    rw [nw_fd_0 n h, if_neg (by decide), if_pos h1]
  | d + 1 => by
    show (if 0 ≤ nw_fd f (n + 1 + d) then nw_fd f (n + 1 + d) else if f (n + 1 + d) = true then nI (n + 1 + d) else nw_fd f (n + 1 + d)) = nI n
    rw [nw_fd_1 hn h h1 d, if_pos (nI_pos' (by omega))]
end
section
/-! the reference's tables of steps -/
theorem nw_thenL (post : Int32 → Prop) (a b : Int32) (hp : post (nw_comp a b)) : ∀ d j, j + d = 125 → wY_then_4 post a b (d + 1) (nw_acc (fun j => bt a (5 * (j / 25) + j / 5 % 5) && bt b (5 * (j / 5 % 5) + j % 5)) (fun j => 5 * (j / 25) + j % 5) j) (nI j) := by
  intro d
  induction d with
  | zero =>
    intro j hj
    obtain rfl : j = 125 := by omega
    exact pk_le 125 125 (fun _ => hp) (fun h => absurd h (by omega))
  | succ d ih =>
    intro j hj
    refine pk_le 125 j (fun h => absurd h (by omega)) (fun _ => ?_)
    have e1 : nI j / 25 = nI (j / 25) := pk_div (d := 25) (by omega) (by omega) (by omega)
    have e2 : (nI j / 5) - (nI j / 5) / 5 * 5 = nI (j / 5 % 5) := by
      rw [show nI j / 5 = nI (j / 5) from pk_div (d := 5) (by omega) (by omega) (by omega)]
      exact pk_rem (d := 5) (by omega) (by omega) (by omega)
    have e3 : nI j - nI j / 5 * 5 = nI (j % 5) := pk_rem (d := 5) (by omega) (by omega) (by omega)
    have f1 : 5 * nI (j / 25) + nI (j / 5 % 5) = nI (5 * (j / 25) + j / 5 % 5) := by
      show nI 5 * nI (j / 25) + nI (j / 5 % 5) = _
      rw [pk_mul, nI_add]
    have f2 : 5 * nI (j / 5 % 5) + nI (j % 5) = nI (5 * (j / 5 % 5) + j % 5) := by
      show nI 5 * nI (j / 5 % 5) + nI (j % 5) = _
      rw [pk_mul, nI_add]
    have f3 : 5 * nI (j / 25) + nI (j % 5) = nI (5 * (j / 25) + j % 5) := by
      show nI 5 * nI (j / 25) + nI (j % 5) = _
      rw [pk_mul, nI_add]
    refine ⟨by decide, nm_r e1 ⟨by decide, by decide, nm_r e2 ⟨by decide, nm_r e3 ?_⟩⟩⟩
    rw [f1, f2, f3]
    by_cases ha : bt a (5 * (j / 25) + j / 5 % 5) = true
    · refine br_t ((nw_ty a (by omega)).mpr ha) ?_
      by_cases hb : bt b (5 * (j / 5 % 5) + j % 5) = true
      · refine br_t ((nw_ty b (by omega)).mpr hb) ?_
        exact nm_r (nw_acc_t (c := fun j => bt a (5 * (j / 25) + j / 5 % 5) && bt b (5 * (j / 5 % 5) + j % 5)) (fun j => 5 * (j / 25) + j % 5) (n := j) (by show (bt a (5 * (j / 25) + j / 5 % 5) && bt b (5 * (j / 5 % 5) + j % 5)) = true; rw [ha, hb]; rfl)) (nm_r (nI_1 j) (ih (j + 1) (by omega)))
      · refine br_f (fun z => hb ((nw_ty b (by omega)).mp z)) (nm_r (nI_1 j) ?_)
        rw [nw_acc_f (c := fun j => bt a (5 * (j / 25) + j / 5 % 5) && bt b (5 * (j / 5 % 5) + j % 5)) (fun j => 5 * (j / 25) + j % 5) (n := j) (by show (bt a (5 * (j / 25) + j / 5 % 5) && bt b (5 * (j / 5 % 5) + j % 5)) = false; rw [nw_nt hb, Bool.and_false])]
        exact ih (j + 1) (by omega)
    · refine br_f (fun z => ha ((nw_ty a (by omega)).mp z)) (nm_r (nI_1 j) ?_)
      rw [nw_acc_f (c := fun j => bt a (5 * (j / 25) + j / 5 % 5) && bt b (5 * (j / 5 % 5) + j % 5)) (fun j => 5 * (j / 25) + j % 5) (n := j) (by show (bt a (5 * (j / 25) + j / 5 % 5) && bt b (5 * (j / 5 % 5) + j % 5)) = false; rw [nw_nt ha, Bool.false_and])]
      exact ih (j + 1) (by omega)
theorem nw_then (post : Int32 → Prop) (a b : Int32) (hp : post (nw_comp a b)) : wpY_then post a b := ⟨126, nw_thenL post a b hp 125 0 rfl⟩
theorem nw_imageL (post : Int32 → Prop) (s a : Int32) (hp : post (nw_img s a)) : ∀ d j, j + d = 25 → wY_image_4 post s a (d + 1) (nw_acc (fun j => bt s (j / 5) && bt a j) (fun j => j % 5) j) (nI j) := by
  intro d
  induction d with
  | zero =>
    intro j hj
    obtain rfl : j = 25 := by omega
    exact pk_le 25 25 (fun _ => hp) (fun h => absurd h (by omega))
  | succ d ih =>
    intro j hj
    refine pk_le 25 j (fun h => absurd h (by omega)) (fun _ => ?_)
    have e3 : nI j - nI j / 5 * 5 = nI (j % 5) := pk_rem (d := 5) (by omega) (by omega) (by omega)
    have e1 : nI j / 5 = nI (j / 5) := pk_div (d := 5) (by omega) (by omega) (by omega)
    rw [e3, e1]
    refine ⟨by decide, ?_⟩
    by_cases ha : bt s (j / 5) = true
    · refine br_t ((nw_ty s (by omega)).mpr ha) ?_
      by_cases hb : bt a j = true
      · refine br_t ((nw_ty a (by omega)).mpr hb) ⟨by decide, ?_⟩
        exact nm_r (nw_acc_t (c := fun j => bt s (j / 5) && bt a j) (fun j => j % 5) (n := j) (by show (bt s (j / 5) && bt a j) = true; rw [ha, hb]; rfl)) (nm_r (nI_1 j) (ih (j + 1) (by omega)))
      · refine br_f (fun z => hb ((nw_ty a (by omega)).mp z)) (nm_r (nI_1 j) ?_)
        rw [nw_acc_f (c := fun j => bt s (j / 5) && bt a j) (fun j => j % 5) (n := j) (by show (bt s (j / 5) && bt a j) = false; rw [nw_nt hb, Bool.and_false])]
        exact ih (j + 1) (by omega)
    · refine br_f (fun z => ha ((nw_ty s (by omega)).mp z)) (nm_r (nI_1 j) ?_)
      rw [nw_acc_f (c := fun j => bt s (j / 5) && bt a j) (fun j => j % 5) (n := j) (by show (bt s (j / 5) && bt a j) = false; rw [nw_nt ha, Bool.false_and])]
      exact ih (j + 1) (by omega)
theorem nw_image (post : Int32 → Prop) (s a : Int32) (hp : post (nw_img s a)) : wpY_image post s a := ⟨26, nw_imageL post s a hp 25 0 rfl⟩
section
variable {fl : Int32} {mv st en aw pa le wa : Nat → Int32}
theorem nw_prL (post : Int32 → Prop) {l m : Nat} (h6 : l < 6) (hm : m < 4) (hp : post (nw_pairs mv l m)) : ∀ d i, i + d = 25 → wY_pairs_5 post (nI l) (nI m) fl mv st en aw pa le wa (d + 1) (nw_acc (fun i => !decide (mv (120 * (i / 5) + 20 * l + 4 * (i % 5) + m) = 0)) (fun i => i) i) (nI i) := by
  intro d
  induction d with
  | zero =>
    intro i hi
    obtain rfl : i = 25 := by omega
    exact pk_le 25 25 (fun _ => hp) (fun h => absurd h (by omega))
  | succ d ih =>
    intro i hi
    refine pk_le 25 i (fun h => absurd h (by omega)) (fun _ => ?_)
    have e : (((120 * (nI i / 5)) + (20 * nI l)) + (4 * (nI i - nI i / 5 * 5))) + nI m = nI (120 * (i / 5) + 20 * l + 4 * (i % 5) + m) := by
      rw [show nI i - nI i / 5 * 5 = nI (i % 5) from pk_rem (d := 5) (by omega) (by omega) (by omega), show nI i / 5 = nI (i / 5) from pk_div (d := 5) (by omega) (by omega) (by omega)]
      show nI 120 * nI (i / 5) + nI 20 * nI l + nI 4 * nI (i % 5) + nI m = _
      rw [pk_mul, pk_mul, pk_mul, nI_add, nI_add, nI_add]
    rw [e, nI_clamp (by omega)]
    refine ⟨by decide, by decide, vp_in_nI (by omega) (by omega), br_c (fun z => ?_) (fun z => ?_)⟩
    · refine nm_r (nI_1 i) ?_
      rw [nw_acc_f (fun i => i) (n := i) (nw_z z)]
      exact ih (i + 1) (by omega)
    · exact nm_r (nw_acc_t (c := fun i => !decide (mv (120 * (i / 5) + 20 * l + 4 * (i % 5) + m) = 0)) (fun i => i) (n := i) (nw_nz z)) (nm_r (nI_1 i) (ih (i + 1) (by omega)))
theorem nw_pr (post : Int32 → Prop) {l m : Nat} (h6 : l < 6) (hm : m < 4) (hp : post (nw_pairs mv l m)) : wpY_pairs post (fl, mv, st, en, aw, pa, le, wa) (nI l) (nI m) := ⟨26, nw_prL post h6 hm hp 25 0 rfl⟩
theorem nw_endL (post : Int32 → Prop) (hp : post (nw_bits en)) : ∀ d q, q + d = 5 → wY_endsOf_4 post fl mv st en aw pa le wa (d + 1) (nw_acc (fun q => !decide (en q = 0)) (fun q => q) q) (nI q) := by
  intro d
  induction d with
  | zero =>
    intro q hq
    obtain rfl : q = 5 := by omega
    exact pk_le 5 5 (fun _ => hp) (fun h => absurd h (by omega))
  | succ d ih =>
    intro q hq
    refine pk_le 5 q (fun h => absurd h (by omega)) (fun _ => ?_)
    rw [nI_clamp (n := q) (by omega)]
    refine ⟨vp_in_nI (by omega) (by omega), br_c (fun z => ?_) (fun z => ?_)⟩
    · refine nm_r (nw_or0 _) (nm_r (nI_1 q) ?_)
      rw [nw_acc_f (fun q => q) (n := q) (nw_z z)]
      exact ih (q + 1) (by omega)
    · exact nm_r (nw_acc_t (c := fun q => !decide (en q = 0)) (fun q => q) (n := q) (nw_nz z)) (nm_r (nI_1 q) (ih (q + 1) (by omega)))
theorem nw_end (post : Int32 → Prop) (hp : post (nw_bits en)) : wpY_endsOf post (fl, mv, st, en, aw, pa, le, wa) := ⟨6, nw_endL post hp 5 0 rfl⟩
theorem nw_ctL (post : Int32 → SY → Prop) (s : Int32) (hp : post (nw_cnt s 5) (fl, mv, st, en, aw, pa, le, wa)) : ∀ d q, q + d = 5 → wY_read_54 post s fl mv st en aw pa le wa (d + 1) (nw_cnt s q) (nI q) := by
  intro d
  induction d with
  | zero =>
    intro q hq
    obtain rfl : q = 5 := by omega
    exact pk_le 5 5 (fun _ => hp) (fun h => absurd h (by omega))
  | succ d ih =>
    intro q hq
    refine pk_le 5 q (fun h => absurd h (by omega)) (fun _ => ?_)
    exact nm_r (e' := nw_cnt s (q + 1)) (congrArg (fun z => nw_cnt s q + z) (nw_vy s (by omega))) (nm_r (nI_1 q) (ih (q + 1) (by omega)))
end
end
section
/-! the reference's reading -/
section
variable {fl S : Int32} {mv st en aw pa le wa : Nat → Int32} {w : Nat → Nat} {n : Nat}
theorem nw_mtL (post : Int32 → SY → Prop) (hn : n ≤ 20) (hw : ∀ j, j < n → aw j = nI (w j)) (h6 : ∀ j, j < n → w j < 6) (hp : ∀ pa wa, nw_mt (nw_pairs mv) S w n pa → post (nI (nw_cf (nw_pairs mv) S w n).1.length) (fl, mv, st, en, aw, pa, le, wa)) : ∀ d i pa wa t, (nw_cf (nw_pairs mv) S w i).1 = t → i + d = n → nw_mt (nw_pairs mv) S w i pa → nw_wt wa t → wY_match_4 post (nI n) fl (d + 1) (nI t.length) (nI i) mv st en aw pa le wa := by
  intro d
  induction d with
  | zero =>
    intro i pa wa t ht hi hm hwt
    obtain rfl : i = n := by omega
    rw [← ht]
    exact pk_le i i (fun _ => hp pa wa hm) (fun h => absurd h (by omega))
  | succ d ih =>
    intro i pa wa t ht hi hm hwt
    have h6i := h6 i (by omega)
    have i20 : vp_in (nI i) 20 := vp_in_nI (by omega) (by omega)
    have hl := nw_len (P := nw_pairs mv) (S := S) (w := w) i
    rw [ht] at hl
    refine pk_le n i (fun h => absurd h (by omega)) (fun _ => ?_)
    rw [nI_clamp (n := i) (by omega), hw i (by omega)]
    refine ⟨i20, nm_e ⟨i20, pk_lt 1 (w i) (fun h1 => ⟨i20, pk_lt 3 (w i) (fun h3 => ?_) (fun h3 => ?_)⟩) (fun h1 => ?_)⟩⟩
    · exact nm_r (nI_1 i) (ih (i + 1) _ wa t (by rw [nw_cf_p h3]; exact ht) (by omega) (nw_mt_n hm (fun b q => by have := q.2.1; omega)) hwt)
    · cases t with
      | nil => exact pk_le 0 0 (fun _ => nm_r (nI_1 i) (ih (i + 1) _ wa [] (by rw [nw_cf_e h1 (by omega) ht]) (by omega) (nw_mt_n hm (nw_pop_no ht)) True.intro)) (fun h => absurd h (by omega))
      | cons e t =>
        have hl' : t.length + 1 ≤ i := hl
        obtain ⟨a1, a2, a3, a4⟩ := nw_inv i i (Nat.le_refl i) e t ht
        refine pk_le (t.length + 1) 0 (fun h => absurd h (by omega)) (fun _ => nm_r (pk_m1 t.length) ?_)
        rw [nI_clamp (n := t.length) (by omega), hwt.1, nI_clamp (n := e.1) (by omega)]
        exact ⟨vp_in_nI (by omega) (by omega), i20, nm_e ⟨vp_in_nI (by omega) (by omega), vp_in_nI (by omega) (by omega), nm_e (nm_r (nI_1 i) (ih (i + 1) _ wa t (by rw [nw_cf_b h1 (by omega) ht]) (by omega) (nw_mt_p hm (nw_pop_of h1 (by omega) ht)) hwt.2))⟩⟩
    · rw [nI_clamp (n := t.length) (by omega)]
      refine ⟨vp_in_nI (by omega) (by omega), nm_e (nm_r (nI_1 t.length) (nm_r (nI_1 i) (ih (i + 1) _ _ ((i, w i, (nw_cf (nw_pairs mv) S w i).2.1, (nw_cf (nw_pairs mv) S w i).2.2) :: t) ?_ (by omega) (nw_mt_n hm (fun b q => by have := q.1; omega)) ⟨pk_us, nw_wt_u t (Nat.le_refl _) hwt⟩)))⟩
      rw [nw_cf_o (show w i < 2 by omega), ht]
theorem nw_match (post : Int32 → SY → Prop) (hn : n ≤ 20) (hw : ∀ j, j < n → aw j = nI (w j)) (h6 : ∀ j, j < n → w j < 6) (hp : ∀ pa wa, nw_mt (nw_pairs mv) S w n pa → post (nI (nw_cf (nw_pairs mv) S w n).1.length) (fl, mv, st, en, aw, pa, le, wa)) : wpY_match post (fl, mv, st, en, aw, pa, le, wa) (nI n) :=
  ⟨n + 1, nw_mtL post hn hw h6 hp n 0 pa wa [] rfl (by omega) nw_mt_0 True.intro⟩
theorem nw_btL (post : Int32 → Prop) {f t : Nat} (hn : n ≤ 20) (htn : t < n) (hw : ∀ j, j < n → aw j = nI (w j)) (h6 : ∀ j, j < n → w j < 6) (hq : nw_pop (nw_pairs mv) S w t f) (hm : nw_mt (nw_pairs mv) S w n pa) (hld : nw_ld (nw_pairs mv) S w t le) (hp : post (nw_cf (nw_pairs mv) S w t).2.1) : ∀ d p, p ≤ t → t - p < d → (nw_cf (nw_pairs mv) S w p).1 = (nw_cf (nw_pairs mv) S w t).1 → wY_between_8 post (nI t) fl mv st en aw pa le wa d (nw_cf (nw_pairs mv) S w p).2.1 (nI p) := by
  intro d
  induction d with
  | zero => intro p _ h; exact absurd h (Nat.not_lt_zero _)
  | succ d ih =>
    intro p hpt hd hs
    refine pk_le t p (fun h => ?_) (fun h => ?_)
    · obtain rfl : p = t := by omega
      exact hp
    · have h6p := h6 p (by omega)
      have p20 : vp_in (nI p) 20 := vp_in_nI (by omega) (by omega)
      rw [nI_clamp (n := p) (by omega), hw p (by omega)]
      refine ⟨p20, pk_lt (w p) 4 (fun h4 => ?_) (fun h4 => ⟨p20, nw_pr (m := 0) _ h6p (by omega) ?_⟩)⟩
      · have h2 : w p < 2 := by
          rcases Nat.lt_or_ge (w p) 2 with z | z
          · exact z
          · exfalso
            have q : nw_pop (nw_pairs mv) S w p f := nw_pop_of z h4 (hs.trans hq.2.2.2.2)
            exact nw_pop_lt q hq h
        obtain ⟨c, hc1, hc2, hc3⟩ := nw_closes h2 h hs
        have m1 := (hm.1 c p (by omega) hc3).2
        rw [m1, nI_clamp (n := c) (by omega), hld c p hc2 hc3]
        refine ⟨p20, vp_in_nI (by omega) (by omega), ?_⟩
        unfold wY_between_52
        refine nw_then _ _ _ ⟨p20, ?_⟩
        rw [nI_clamp (n := p) (by omega), hw p (by omega), m1]
        refine pk_lt 1 (w p) (fun h => absurd h (by omega)) (fun _ => ⟨p20, nm_e (nm_r (nI_1 c) ?_)⟩)
        have e := nw_pop_cf hc3
        have A := ih (c + 1) (by omega) (by omega) (by rw [e]; exact hs)
        rw [e] at A
        exact A
      · show wY_between_52 post _ _ _ _ _ _ _ _ _ _ _ _ _
        unfold wY_between_52
        refine nw_then _ _ _ ⟨p20, ?_⟩
        rw [nI_clamp (n := p) (by omega), hw p (by omega)]
        refine pk_lt 1 (w p) (fun _ => nm_r (nI_1 p) ?_) (fun h => absurd h (by omega))
        have e := nw_cf_p (P := nw_pairs mv) (S := S) h4
        have A := ih (p + 1) (by omega) (by omega) (by rw [e]; exact hs)
        rw [e] at A
        exact A
theorem nw_bt (post : Int32 → Prop) {f t : Nat} (hn : n ≤ 20) (htn : t < n) (hw : ∀ j, j < n → aw j = nI (w j)) (h6 : ∀ j, j < n → w j < 6) (hq : nw_pop (nw_pairs mv) S w t f) (hm : nw_mt (nw_pairs mv) S w n pa) (hld : nw_ld (nw_pairs mv) S w t le) (hp : post (nw_cf (nw_pairs mv) S w t).2.1) : wpY_between post (fl, mv, st, en, aw, pa, le, wa) (nI f) (nI t) := by
  have hf := hq.2.2.1
  have e := nw_cf_o (P := nw_pairs mv) (S := S) hq.2.2.2.1
  have A := nw_btL (fl := fl) (st := st) (en := en) (wa := wa) post hn htn hw h6 hq hm hld hp (t - f) (f + 1) (by omega) (by omega) (by rw [e]; exact hq.2.2.2.2.symm)
  rw [e] at A
  exact nm_r (nI_1 f) ⟨t - f, A⟩
theorem nw_pcL (post : Int32 → Prop) {f t : Nat} (b : Int32) (hn : n ≤ 20) (htn : t < n) (hf : f < t) (hw : ∀ j, j < n → aw j = nI (w j)) (h6 : ∀ j, j < n → w j < 6) (hp : post (nw_cl (nw_pairs mv) (w f) (w t) b)) : ∀ d m, m + d = 3 → wY_piece_13 post (nI f) (nI t) b fl mv st en aw pa le wa (d + 1) (nw_clN (nw_pairs mv) (w f) (w t) b m) (nI m) := by
  intro d
  induction d with
  | zero =>
    intro m hm
    obtain rfl : m = 3 := by omega
    exact pk_le 3 3 (fun _ => hp) (fun h => absurd h (by omega))
  | succ d ih =>
    intro m hm
    refine pk_le 3 m (fun h => absurd h (by omega)) (fun _ => ?_)
    rw [nI_clamp (n := f) (by omega), nI_clamp (n := t) (by omega), hw f (by omega), hw t (by omega)]
    exact ⟨vp_in_nI (by omega) (by omega), nw_pr _ (h6 f (by omega)) (by omega) ⟨vp_in_nI (by omega) (by omega), nw_pr _ (h6 t (by omega)) (by omega) (nw_then _ _ _ (nw_then _ _ _ (nm_e (nm_r (nI_1 m) (ih (m + 1) (by omega))))))⟩⟩
theorem nw_pc (post : Int32 → Prop) {f t : Nat} (hn : n ≤ 20) (htn : t < n) (hw : ∀ j, j < n → aw j = nI (w j)) (h6 : ∀ j, j < n → w j < 6) (hq : nw_pop (nw_pairs mv) S w t f) (hm : nw_mt (nw_pairs mv) S w n pa) (hld : nw_ld (nw_pairs mv) S w t le) (hp : post (nw_cl (nw_pairs mv) (w f) (w t) (nw_cf (nw_pairs mv) S w t).2.1)) : wpY_piece post (fl, mv, st, en, aw, pa, le, wa) (nI f) (nI t) := by
  unfold wpY_piece
  exact nw_bt _ hn htn hw h6 hq hm hld ⟨4, nw_pcL post _ hn htn hq.2.2.1 hw h6 hp 3 0 rfl⟩
theorem nw_42 (post : Int32 → SY → Prop) (x2 : Int32) (hn : n ≤ 20) (hw : ∀ j, j < n → aw j = nI (w j)) (h6 : ∀ j, j < n → w j < 6) (hm : nw_mt (nw_pairs mv) S w n pa) (hp : ∀ le', nw_ld (nw_pairs mv) S w n le' → ∃ k, wY_liveAfter_101 post (nI n) fl mv st en aw pa le' wa k x2 0) : ∀ d p le, p + d = n → nw_ld (nw_pairs mv) S w p le → wY_liveAfter_42 post (nI n) x2 fl (d + 1) (nI p) mv st en aw pa le wa := by
  intro d
  induction d with
  | zero =>
    intro p le hpn hld
    obtain rfl : p = n := by omega
    exact pk_le p p (fun _ => hp le hld) (fun h => absurd h (by omega))
  | succ d ih =>
    intro p le hpn hld
    have h6p := h6 p (by omega)
    have p20 : vp_in (nI p) 20 := vp_in_nI (by omega) (by omega)
    have go : 2 ≤ w p → w p < 4 → wY_liveAfter_67 post (wY_liveAfter_42 post (nI n) x2 fl (d + 1)) (nI n) x2 (nI p) fl mv st en aw pa le wa := by
      intro h2 h4
      unfold wY_liveAfter_67
      rw [nI_clamp (n := p) (by omega)]
      refine ⟨p20, ?_⟩
      cases hs : (nw_cf (nw_pairs mv) S w p).1 with
      | nil =>
        have e : pa p = -1 := hm.2 p (by omega) (fun c hc q => by have := q.2.2.2.1; omega) (nw_pop_no hs)
        refine br_t (by rw [e]; decide) (nm_r (nI_1 p) (ih (p + 1) le (by omega) (fun c b hc q => ?_)))
        rcases Nat.lt_or_ge c p with z | z
        · exact hld c b z q
        · obtain rfl : c = p := by omega
          exact absurd q (nw_pop_no hs b)
      | cons e t =>
        have q := nw_pop_of h2 h4 hs
        have hb := q.2.2.1
        have e1 := (hm.1 p e.1 (by omega) q).1
        rw [e1]
        refine br_f (nI_pos (by omega)) ⟨p20, nw_pc _ hn (by omega) hw h6 q hm hld ⟨p20, nm_e (nm_r (nI_1 p) (ih (p + 1) _ (by omega) (fun c b hc q' => ?_)))⟩⟩
        rcases Nat.lt_or_ge c p with z | z
        · rw [pk_un (by omega)]
          exact hld c b z q'
        · obtain rfl : c = p := by omega
          obtain rfl : b = e.1 := nw_pop_b q' q
          exact pk_us
    refine pk_le n p (fun h => absurd h (by omega)) (fun _ => ⟨p20, ?_⟩)
    rw [nI_clamp (n := p) (by omega), hw p (by omega)]
    refine pk_eq (w p) 2 (fun h => go (by omega) (by omega)) (fun h => ⟨p20, pk_eq (w p) 3 (fun h' => go (by omega) (by omega)) (fun h' => nm_r (nI_1 p) (ih (p + 1) le (by omega) (fun c b hc q => ?_)))⟩)
    rcases Nat.lt_or_ge c p with z | z
    · exact hld c b z q
    · obtain rfl : c = p := by omega
      have := q.1
      have := q.2.1
      omega
theorem nw_200 (post : Int32 → SY → Prop) (J : Int32 → Int32 → Prop) {x1 x2 x5 : Int32} {p : Nat} (h : J (nw_img x2 x5) (nI (p + 1))) : wY_liveAfter_200 post J x1 x2 (nI p) x5 fl mv st en aw pa le wa :=
  nw_image _ _ _ (nm_r (nI_1 p) h)
theorem nw_101 (post : Int32 → SY → Prop) (hn : n ≤ 20) (hw : ∀ j, j < n → aw j = nI (w j)) (h6 : ∀ j, j < n → w j < 6) (hm : nw_mt (nw_pairs mv) S w n pa) (hld : nw_ld (nw_pairs mv) S w n le) (hp : post (nw_cf (nw_pairs mv) S w n).2.2 (fl, mv, st, en, aw, pa, le, wa)) : ∀ d p, p ≤ n → n - p < d → (∀ e, e ∈ (nw_cf (nw_pairs mv) S w p).1 → ∀ c, c < n → ¬ nw_pop (nw_pairs mv) S w c e.1) → wY_liveAfter_101 post (nI n) fl mv st en aw pa le wa d (nw_cf (nw_pairs mv) S w p).2.2 (nI p) := by
  intro d
  induction d with
  | zero => intro p _ h; exact absurd h (Nat.not_lt_zero _)
  | succ d ih =>
    intro p hpn hd hst
    refine pk_le n p (fun h => ?_) (fun h => ?_)
    · obtain rfl : p = n := by omega
      exact hp
    · have h6p := h6 p (by omega)
      have p20 : vp_in (nI p) 20 := vp_in_nI (by omega) (by omega)
      rw [nI_clamp (n := p) (by omega), hw p (by omega)]
      refine ⟨p20, nm_e (pk_lt (w p) 4 (fun h4 => nw_pr (m := 3) _ h6p (by omega) ?_) (fun h4 => nw_pr (m := 0) _ h6p (by omega) ?_))⟩
      · refine pk_lt 1 (w p) (fun h1 => ?_) (fun h1 => nw_pr (m := 0) _ h6p (by omega) (nw_pr (m := 1) _ h6p (by omega) (nw_pr (m := 2) _ h6p (by omega) (nm_e ?_))))
        · refine pk_lt 1 (w p) (fun _ => nw_200 _ _ ?_) (fun z => absurd z (by omega))
          cases hs : (nw_cf (nw_pairs mv) S w p).1 with
          | nil =>
            have e := nw_cf_e h1 h4 hs
            have A := ih (p + 1) (by omega) (by omega) (by rw [e]; intro e' he'; exact absurd he' (by simp))
            rw [e] at A
            exact A
          | cons e t => exact absurd (nw_pop_of h1 h4 hs) (hst e (by rw [hs]; exact List.mem_cons_self ..) p h)
        · refine pk_lt 1 (w p) (fun z => absurd z (by omega)) (fun _ => ?_)
          rw [nI_clamp (n := p) (by omega)]
          refine ⟨p20, ?_⟩
          by_cases hc : ∃ c, c < n ∧ nw_pop (nw_pairs mv) S w c p
          · obtain ⟨c, hc1, hc2⟩ := hc
            have hc3 := hc2.2.2.1
            have m1 := (hm.1 c p hc1 hc2).2
            rw [m1]
            refine br_f (nI_pos (by omega)) ⟨p20, nm_e ⟨vp_in_nI (by omega) (by omega), nm_r (e' := nw_cl (nw_pairs mv) (w p) (w c) (nw_cf (nw_pairs mv) S w c).2.1) (by rw [nI_clamp (n := c) (by omega)]; exact hld c p hc1 hc2) (nw_200 _ _ ?_)⟩⟩
            have e := nw_pop_cf hc2
            have A := ih (c + 1) (by omega) (by omega) (by rw [e]; exact hst)
            rw [e] at A
            exact A
          · have m1 : pa p = -1 := hm.2 p (by omega) (fun c hc' q => hc ⟨c, hc', q⟩) (fun b q => by have := q.1; omega)
            refine br_t (by rw [m1]; decide) (nw_200 _ _ ?_)
            have e := nw_cf_o (P := nw_pairs mv) (S := S) (show w p < 2 by omega)
            have A := ih (p + 1) (by omega) (by omega) (by
              rw [e]
              intro e' he' c hc' q
              rcases List.mem_cons.mp he' with z | z
              · rw [z] at q
                exact hc ⟨c, hc', q⟩
              · exact hst e' z c hc' q)
            rw [e] at A
            exact A
      · refine pk_lt 1 (w p) (fun _ => pk_lt 1 (w p) (fun _ => nw_200 _ _ ?_) (fun z => absurd z (by omega))) (fun z => absurd z (by omega))
        have e := nw_cf_p (P := nw_pairs mv) (S := S) h4
        have A := ih (p + 1) (by omega) (by omega) (by rw [e]; exact hst)
        rw [e] at A
        exact A
theorem nw_10 (post : Int32 → SY → Prop) (x1 : Int32) (hp : ∃ k, wY_liveAfter_42 post x1 (nw_bits st) fl k 0 mv st en aw pa le wa) : ∀ d q, q + d = 5 → wY_liveAfter_10 post x1 fl mv st en aw pa le wa (d + 1) (nw_acc (fun q => !decide (st q = 0)) (fun q => q) q) (nI q) := by
  intro d
  induction d with
  | zero =>
    intro q hq
    obtain rfl : q = 5 := by omega
    exact pk_le 5 5 (fun _ => hp) (fun h => absurd h (by omega))
  | succ d ih =>
    intro q hq
    refine pk_le 5 q (fun h => absurd h (by omega)) (fun _ => ?_)
    rw [nI_clamp (n := q) (by omega)]
    refine ⟨vp_in_nI (by omega) (by omega), br_c (fun z => ?_) (fun z => ?_)⟩
    · refine nm_r (nw_or0 _) (nm_r (nI_1 q) ?_)
      rw [nw_acc_f (fun q => q) (n := q) (nw_z z)]
      exact ih (q + 1) (by omega)
    · exact nm_r (nw_acc_t (c := fun q => !decide (st q = 0)) (fun q => q) (n := q) (nw_nz z)) (nm_r (nI_1 q) (ih (q + 1) (by omega)))
/-- the live states behind n letters -/
theorem nw_live (post : Int32 → SY → Prop) (hn : n ≤ 20) (hw : ∀ j, j < n → aw j = nI (w j)) (h6 : ∀ j, j < n → w j < 6) (hp : ∀ pa' le' wa', post (nw_cf (nw_pairs mv) (nw_bits st) w n).2.2 (fl, mv, st, en, aw, pa', le', wa')) : wpY_liveAfter post (fl, mv, st, en, aw, pa, le, wa) (nI n) := by
  unfold wpY_liveAfter
  dsimp only
  refine nw_match (S := nw_bits st) _ hn hw h6 (fun pa' wa' hm => ⟨6, nw_10 post (nI n) ⟨n + 1, ?_⟩ 5 0 rfl⟩)
  refine nw_42 post _ hn hw h6 hm (fun le' hld => ⟨n + 1, ?_⟩) n 0 le (by omega) (fun c b hc => absurd hc (Nat.not_lt_zero c))
  exact nw_101 post hn hw h6 hm hld (hp pa' le' wa') (n + 1) 0 (by omega) (by omega) (fun e he => absurd (show e ∈ ([] : List nw_E) from he) (by simp))
end
end
section
/-! moves, states, and the reference's loops over whole readings -/
theorem nw_bX0 (post : Int32 → Prop) {x : Int32} (h : x < 0 ∨ 4 < x) (hp : post 1) : wpY_bad post x := by
  unfold wpY_bad
  by_cases h0 : x < 0
  · exact br_t h0 hp
  · rcases h with h | h
    · exact absurd h h0
    · exact br_f h0 (br_f (Int32.not_le.mpr h) hp)
theorem nw_bX1 (post : Int32 → Prop) {x : Int32} (h0 : ¬ x < 0) (h : ¬ 4 < x) (hp : post 0) : wpY_bad post x := by
  unfold wpY_bad
  exact br_f h0 (br_t (Int32.not_lt.mp h) hp)
theorem nw_st_of {x : Int32} (h0 : ¬ x < 0) (h : ¬ 4 < x) : ∃ q : Nat, q < 5 ∧ x = nI q := by
  obtain ⟨j, hj, e⟩ := nI_of2 (M := 4) (n := 4) (by decide) h0 (Int32.not_lt.mp h)
  exact ⟨j, by omega, e⟩
theorem nw_lt_of {x : Int32} (h0 : ¬ x < 0) (h : ¬ 5 < x) : ∃ q : Nat, q < 6 ∧ x = nI q := by
  obtain ⟨j, hj, e⟩ := nI_of2 (M := 5) (n := 5) (by decide) h0 (Int32.not_lt.mp h)
  exact ⟨j, by omega, e⟩
def nw_was (x : Int32) : Int32 := if x = 0 then 0 else 1
section
variable {fs fe fk fl x4 x5 : Int32} {sm pm aw ay al ao : Nat → Int32} {q l r m : Nat}
theorem nw_50p (post : Int32 → SX → Prop) (hq : q < 5) (hr : r < 5) (h4 : 4 ≤ l) (h6 : l < 6) (hp : post (nw_was (pm (25 * (l - 4) + 5 * q + r))) (fs, fe, 0, fl, sm, upd pm (25 * (l - 4) + 5 * q + r) (vp_nar .boolean x5), aw, ay, al, ao)) : wX_move_50 post (nI q) (nI l) (nI r) x4 x5 fs fe fk fl sm pm aw ay al ao := by
  have e : ((25 * (nI l - 4)) + (5 * nI q)) + nI r = nI (25 * (l - 4) + 5 * q + r) := by
    show nI 25 * (nI l - nI 4) + nI 5 * nI q + nI r = _
    rw [pk_sub h4, pk_mul, pk_mul, nI_add, nI_add]
  refine pk_lt l 4 (fun h => absurd h (by omega)) (fun _ => nm_r e ⟨vp_in_nI (by omega) (by omega), ?_⟩)
  rw [nI_clamp (by omega)]
  refine br_c (fun z => ?_) (fun z => ?_)
  · have hp' := hp
    rw [show nw_was (pm (25 * (l - 4) + 5 * q + r)) = 0 from if_pos z] at hp'
    exact ⟨vp_in_nI (by omega) (by omega), nm_r (e' := upd pm (25 * (l - 4) + 5 * q + r) (vp_nar .boolean x5)) (by rw [nI_clamp (by omega)]) hp'⟩
  · have hp' := hp
    rw [show nw_was (pm (25 * (l - 4) + 5 * q + r)) = 1 from if_neg z] at hp'
    exact ⟨vp_in_nI (by omega) (by omega), nm_r (e' := upd pm (25 * (l - 4) + 5 * q + r) (vp_nar .boolean x5)) (by rw [nI_clamp (by omega)]) hp'⟩
theorem nw_50s (post : Int32 → SX → Prop) (hq : q < 5) (hr : r < 5) (h4 : l < 4) (hm : m < 4) (hp : post (nw_was (sm (100 * l + 4 * (5 * q + r) + m))) (fs, fe, 0, fl, upd sm (100 * l + 4 * (5 * q + r) + m) (vp_nar .boolean x5), pm, aw, ay, al, ao)) : wX_move_50 post (nI q) (nI l) (nI r) (nI m) x5 fs fe fk fl sm pm aw ay al ao := by
  have e : ((100 * nI l) + (4 * ((5 * nI q) + nI r))) + nI m = nI (100 * l + 4 * (5 * q + r) + m) := by
    show nI 100 * nI l + nI 4 * (nI 5 * nI q + nI r) + nI m = _
    rw [pk_mul, pk_mul, nI_add, pk_mul, nI_add, nI_add]
  refine pk_lt l 4 (fun _ => nm_r e ⟨vp_in_nI (by omega) (by omega), ?_⟩) (fun h => absurd h (by omega))
  rw [nI_clamp (by omega)]
  refine br_c (fun z => ?_) (fun z => ?_)
  · have hp' := hp
    rw [show nw_was (sm (100 * l + 4 * (5 * q + r) + m)) = 0 from if_pos z] at hp'
    exact ⟨vp_in_nI (by omega) (by omega), nm_r (e' := upd sm (100 * l + 4 * (5 * q + r) + m) (vp_nar .boolean x5)) (by rw [nI_clamp (by omega)]) hp'⟩
  · have hp' := hp
    rw [show nw_was (sm (100 * l + 4 * (5 * q + r) + m)) = 1 from if_neg z] at hp'
    exact ⟨vp_in_nI (by omega) (by omega), nm_r (e' := upd sm (100 * l + 4 * (5 * q + r) + m) (vp_nar .boolean x5)) (by rw [nI_clamp (by omega)]) hp'⟩
end
section
variable {fl x4 x5 : Int32} {mv st en bw pa le wa : Nat → Int32} {q l r m : Nat}
theorem nw_76 (post : Int32 → SY → Prop) {k : Nat} {z0 z1 : Int32} (hk : k < 600) (e : z1 + z0 = nI k) (hp : post (nw_was (mv k)) (fl, upd mv k (vp_nar .boolean x5), st, en, bw, pa, le, wa)) : wY_move_76 post x5 z0 z1 fl mv st en bw pa le wa := by
  refine nm_r e ⟨vp_in_nI hk (by omega), ?_⟩
  rw [nI_clamp (by omega)]
  refine nm_e ⟨vp_in_nI hk (by omega), nm_e (br_c (fun z => ?_) (fun z => ?_))⟩
  · rw [show nw_was (mv k) = 0 from if_pos z] at hp
    exact hp
  · rw [show nw_was (mv k) = 1 from if_neg z] at hp
    exact hp
theorem nw_52p (post : Int32 → SY → Prop) (hq : q < 5) (hr : r < 5) (h4 : 4 ≤ l) (h6 : l < 6) (hp : post (nw_was (mv (120 * q + 20 * l + 4 * r + 0))) (fl, upd mv (120 * q + 20 * l + 4 * r + 0) (vp_nar .boolean x5), st, en, bw, pa, le, wa)) : wY_move_52 post (nI q) (nI l) (nI r) x4 x5 fl mv st en bw pa le wa := by
  refine pk_le 4 l (fun _ => nw_76 post (k := 120 * q + 20 * l + 4 * r + 0) (by omega) ?_ hp) (fun h => absurd h (by omega))
  show nI 120 * nI q + nI 20 * nI l + nI 4 * nI r + nI 0 = _
  rw [pk_mul, pk_mul, pk_mul, nI_add, nI_add, nI_add]
theorem nw_52s (post : Int32 → SY → Prop) (hq : q < 5) (hr : r < 5) (h4 : l < 4) (hm : m < 4) (hp : post (nw_was (mv (120 * q + 20 * l + 4 * r + m))) (fl, upd mv (120 * q + 20 * l + 4 * r + m) (vp_nar .boolean x5), st, en, bw, pa, le, wa)) : wY_move_52 post (nI q) (nI l) (nI r) (nI m) x5 fl mv st en bw pa le wa := by
  refine pk_le 4 l (fun h => absurd h (by omega)) (fun _ => nw_76 post (k := 120 * q + 20 * l + 4 * r + m) (by omega) ?_ hp)
  show nI 120 * nI q + nI 20 * nI l + nI 4 * nI r + nI m = _
  rw [pk_mul, pk_mul, pk_mul, nI_add, nI_add, nI_add]
end
theorem nw_tab_p {sm pm mv : Nat → Int32} {q l r : Nat} {x : Int32} (hq : q < 5) (hr : r < 5) (h4 : 4 ≤ l) (h6 : l < 6) (h : nw_tab sm pm mv) : nw_tab sm (upd pm (25 * (l - 4) + 5 * q + r) x) (upd mv (120 * q + 20 * l + 4 * r + 0) x) := by
  refine ⟨fun l' i m hl hi hm => ?_, fun l' i hl hl6 hi => ?_⟩
  · rw [pk_un (by omega)]
    exact h.1 l' i m hl hi hm
  · by_cases e : l' = l ∧ i = 5 * q + r
    · obtain ⟨rfl, rfl⟩ := e
      rw [show 120 * ((5 * q + r) / 5) + 20 * l' + 4 * ((5 * q + r) % 5) + 0 = 120 * q + 20 * l' + 4 * r + 0 by omega, ← Nat.add_assoc, pk_us, pk_us]
    · rw [pk_un (by omega), pk_un (by omega)]
      exact h.2 l' i hl hl6 hi
theorem nw_tab_s {sm pm mv : Nat → Int32} {q l r m : Nat} {x : Int32} (hq : q < 5) (hr : r < 5) (h4 : l < 4) (hm : m < 4) (h : nw_tab sm pm mv) : nw_tab (upd sm (100 * l + 4 * (5 * q + r) + m) x) pm (upd mv (120 * q + 20 * l + 4 * r + m) x) := by
  refine ⟨fun l' i m' hl hi hm' => ?_, fun l' i hl hl6 hi => ?_⟩
  · by_cases e : l' = l ∧ i = 5 * q + r ∧ m' = m
    · obtain ⟨rfl, rfl, rfl⟩ := e
      rw [show 120 * ((5 * q + r) / 5) + 20 * l' + 4 * ((5 * q + r) % 5) + m' = 120 * q + 20 * l' + 4 * r + m' by omega, pk_us, pk_us]
    · rw [pk_un (by omega), pk_un (by omega)]
      exact h.1 l' i m' hl hi hm'
  · rw [pk_un (by omega)]
    exact h.2 l' i hl hl6 hi
theorem nw_is_an {r : Int32} {p : Nat → Prop} {k : Nat} (h : nw_is r p) (hk : k < 32) : nw_is (r &&& (((1 : Int32) <<< (nI k &&& 31)) ^^^ (-1))) (fun i => p i ∧ ¬ i = k) := fun i hi => by
  have h1 : bt ((1 : Int32) <<< (nI k &&& 31)) i = true ↔ i = k := nw_is_1 hk i hi
  rw [b_and, b_xor, b_m1 i hi, Bool.and_eq_true, Bool.xor_true, Bool.not_eq_true']
  refine and_congr (h i hi) ⟨fun z e => ?_, fun z => ?_⟩
  · rw [h1.mpr e] at z
    exact absurd z (by decide)
  · exact nw_nt (fun y => z (h1.mp y))
theorem nw_bits_1 (st : Nat → Int32) {q : Nat} (hq : q < 5) : nw_bits st ||| ((1 : Int32) <<< (nI q &&& 31)) = nw_bits (upd st q 1) := by
  refine nw_is_eq (nw_is_or (nw_bits_is st) (nw_is_1 (k := q) (by omega))) (nw_is_to (nw_bits_is _) (fun i _ => ?_))
  by_cases e : i = q
  · subst e
    rw [pk_us]
    exact ⟨fun _ => Or.inr rfl, fun _ => ⟨hq, by decide⟩⟩
  · rw [pk_un e]
    exact ⟨fun h => Or.inl h, fun h => h.elim id (fun z => absurd z e)⟩
theorem nw_bits_0 (st : Nat → Int32) {q : Nat} (hq : q < 5) : nw_bits st &&& (((1 : Int32) <<< (nI q &&& 31)) ^^^ (-1)) = nw_bits (upd st q 0) := by
  refine nw_is_eq (nw_is_an (nw_bits_is st) (k := q) (by omega)) (nw_is_to (nw_bits_is _) (fun i _ => ?_))
  by_cases e : i = q
  · subst e
    rw [pk_us]
    exact ⟨fun h => absurd rfl h.2, fun h => absurd rfl h.2⟩
  · rw [pk_un e]
    exact ⟨fun h => ⟨h, e⟩, fun h => h.1⟩
section
variable {mv st en : Nat → Int32} {w : Nat → Nat} {L : Nat}
theorem nw_ynL (post : Int32 → SY → Prop) (hL : L ≤ 16) (h6 : ∀ j, j < L → w j < 6) (hp : ∀ bw pa le wa, (∀ j, j < L → bw j = nI (w j)) → post (nw_acc (nw_nx (nw_pairs mv) (nw_bits st) w L) (fun l => l) 6) (nI L, mv, st, en, bw, pa, le, wa)) : ∀ d l bw pa le wa, l + d = 6 → (∀ j, j < L → bw j = nI (w j)) → wY_next_4 post (d + 1) (nw_acc (nw_nx (nw_pairs mv) (nw_bits st) w L) (fun l => l) l) (nI l) (nI L) mv st en bw pa le wa := by
  intro d
  induction d with
  | zero =>
    intro l bw pa le wa hl hw
    obtain rfl : l = 6 := by omega
    exact pk_le 6 6 (fun _ => hp bw pa le wa hw) (fun h => absurd h (by omega))
  | succ d ih =>
    intro l bw pa le wa hl hw
    have hw' : ∀ j, j < L → upd bw L (nI l) j = nI (w j) := fun j hj => (pk_un (by omega)).trans (hw j hj)
    refine pk_le 6 l (fun h => absurd h (by omega)) (fun _ => ⟨vp_in_nI (by omega) (by omega), nm_r (e' := upd bw L (nI l)) (by rw [nI_clamp (n := L) (by omega)]) ?_⟩)
    rw [nI_1 L]
    refine nw_live (w := nw_up w L l) _ (by omega) (fun j hj => ?_) (fun j hj => ?_) (fun pa' le' wa' => ?_)
    · by_cases e : j = L
      · rw [e, pk_us, nw_up_s]
      · rw [pk_un e, nw_up_n (by omega)]
        exact hw j (by omega)
    · by_cases e : j = L
      · rw [e, nw_up_s]
        omega
      · rw [nw_up_n (by omega)]
        exact h6 j (by omega)
    · refine br_c (fun z => nm_r (nI_1 l) ?_) (fun z => ?_)
      · rw [nw_acc_f (c := nw_nx (nw_pairs mv) (nw_bits st) w L) (fun l => l) (n := l) (nw_z z)]
        exact ih (l + 1) _ _ _ _ (by omega) hw'
      · exact nm_r (nw_acc_t (c := nw_nx (nw_pairs mv) (nw_bits st) w L) (fun l => l) (n := l) (nw_nz z)) (nm_r (nI_1 l) (ih (l + 1) _ _ _ _ (by omega) hw'))
theorem nw_ycL (post : Int32 → SY → Prop) (hL : L ≤ 16) (h6 : ∀ j, j < L → w j < 6) (hp : ∀ bw pa le wa, (∀ j, j < L → bw j = nI (w j)) → post (nw_fd (nw_tk (nw_pairs mv) (nw_bits st) (nw_bits en) w L) 5) (nI L, mv, st, en, bw, pa, le, wa)) : ∀ d k bw pa le wa, k + d = 5 → (∀ j, j < L + k → j < L + 4 → bw j = nI (nw_w2 w L j)) → (∀ j, j < k → nw_tk (nw_pairs mv) (nw_bits st) (nw_bits en) w L j = false) → wY_close_2 post (d + 1) (nI k) (nI L) mv st en bw pa le wa := by
  intro d
  induction d with
  | zero =>
    intro k bw pa le wa hk hw hf
    obtain rfl : k = 5 := by omega
    refine pk_lt 4 5 (fun _ => ?_) (fun h => absurd h (by omega))
    rw [← nw_fd_0 5 hf]
    exact hp bw pa le wa (fun j hj => (hw j (by omega) (by omega)).trans (congrArg nI (nw_w2_n hj)))
  | succ d ih =>
    intro k bw pa le wa hk hw hf
    refine pk_lt 4 k (fun h => absurd h (by omega)) (fun _ => ?_)
    rw [nI_add L k]
    refine nw_live (w := nw_w2 w L) _ (by omega) (fun j hj => hw j hj (by omega)) (fun j hj => ?_) (fun pa' le' wa' => ?_)
    · by_cases e : j < L
      · rw [nw_w2_n e]
        exact h6 j e
      · rw [nw_w2_s (by omega)]
        omega
    · refine nw_end _ (br_c (fun z => ?_) (fun z => ?_))
      · have hf' : ∀ j, j < k + 1 → nw_tk (nw_pairs mv) (nw_bits st) (nw_bits en) w L j = false := by
          intro j hj
          by_cases e : j = k
          · rw [e]
            exact nw_z z
          · exact hf j (by omega)
        refine pk_le 4 k (fun h => nm_r (nI_1 k) (ih (k + 1) _ _ _ _ (by omega) (fun j hj hj4 => hw j (by omega) hj4) hf')) (fun h => ?_)
        rw [nI_add L k, nI_clamp (n := L + k) (by omega)]
        refine ⟨vp_in_nI (by omega) (by omega), nm_e (nm_r (nI_1 k) (ih (k + 1) _ _ _ _ (by omega) (fun j hj hj4 => ?_) hf'))⟩
        by_cases e : j = L + k
        · rw [e, pk_us, nw_w2_s (by omega)]
          rfl
        · rw [pk_un e]
          exact hw j (by omega) hj4
      · have e := nw_fd_1 (show k < 1000 by omega) hf (nw_nz z) (4 - k)
        rw [show k + 1 + (4 - k) = 5 by omega] at e
        rw [← e]
        exact hp bw pa' le' wa' (fun j hj => (hw j (by omega) (by omega)).trans (congrArg nI (nw_w2_n hj)))
end
end
section
/-! the relation, and what is owed -/
def nw_Q (fs fe fk fl : Int32) (sm pm aw ay al ao : Nat → Int32) (gl : Int32) (mv st en bw : Nat → Int32) : Prop :=
  ∃ (L : Nat) (w : Nat → Nat), fl = nI L ∧ gl = nI L ∧ L ≤ 16 ∧ nw_tab sm pm mv ∧ fs = nw_bits st ∧ fe = nw_bits en ∧ (∀ j, j < L → w j < 6) ∧ (∀ j, j < L → aw j = nI (w j)) ∧ (∀ j, j < L → bw j = nI (w j)) ∧ (fk = 0 ∨ nw_ok (nw_pairs mv) (nw_bits st) w L ay al ao)
def i_Rel (_ : Nat) (u : SX) (v : SY) : Prop :=
  match u, v with
  | (fs, fe, fk, fl, sm, pm, aw, ay, al, ao), (gl, mv, st, en, bw, _, _, _) => nw_Q fs fe fk fl sm pm aw ay al ao gl mv st en bw
theorem i_up {k : Nat} {u : SX} {v : SY} (h : i_Rel k u v) : i_Rel (k + 6) u v := h
theorem i_vc0 : wpX_init (fun u => wpY_init (fun v => i_Rel 0 u v)) :=
  ⟨0, fun _ => 0, rfl, rfl, by decide, ⟨fun _ _ _ _ _ _ => rfl, fun _ _ _ _ _ => rfl⟩, by decide +kernel, by decide +kernel, fun j h => absurd h (Nat.not_lt_zero j), fun j h => absurd h (Nat.not_lt_zero j), fun j h => absurd h (Nat.not_lt_zero j), Or.inl rfl⟩
theorem i_vc_erase {k : Nat} {u : SX} {v : SY} (I : i_Rel k u v) (hk : k + 6 ≤ 3072) : wpX_erase (fun u' => wpY_erase (fun v' => i_Rel (k + 6) u' v') v) u := by
  obtain ⟨fs, fe, fk, fl, sm, pm, aw, ay, al, ao⟩ := u
  obtain ⟨gl, mv, st, en, bw, pa, le, wa⟩ := v
  obtain ⟨L, w, rfl, rfl, hL, ht, rfl, rfl, h6, hw, hv, hc⟩ := I
  exact ⟨0, w, rfl, rfl, by omega, ht, rfl, rfl, fun j h => absurd h (Nat.not_lt_zero j), fun j h => absurd h (Nat.not_lt_zero j), fun j h => absurd h (Nat.not_lt_zero j), hc.elim Or.inl (fun h => Or.inr (nw_ok_le h (Nat.zero_le L)))⟩
theorem i_vc_back {k : Nat} {u : SX} {v : SY} (I : i_Rel k u v) (hk : k + 6 ≤ 3072) : wpX_back (fun r u' => wpY_back (fun r' v' => r' = r ∧ i_Rel (k + 6) u' v') v) u := by
  obtain ⟨fs, fe, fk, fl, sm, pm, aw, ay, al, ao⟩ := u
  obtain ⟨gl, mv, st, en, bw, pa, le, wa⟩ := v
  have I0 := I
  obtain ⟨L, w, rfl, rfl, hL, ht, rfl, rfl, h6, hw, hv, hc⟩ := I
  cases L with
  | zero => exact pk_eq 0 0 (fun _ => pk_eq 0 0 (fun _ => ⟨rfl, I0⟩) (fun h => absurd rfl h)) (fun h => absurd rfl h)
  | succ L =>
    refine pk_eq (L + 1) 0 (fun h => absurd h (by omega)) (fun _ => nm_r (nI_pred L) ⟨vp_in_nI (by omega) (by omega), ?_⟩)
    refine pk_eq (L + 1) 0 (fun h => absurd h (by omega)) (fun _ => nm_r (nI_pred L) ⟨vp_in_nI (by omega) (by omega), ?_⟩)
    rw [nI_clamp (n := L) (by omega), hw L (by omega), hv L (by omega)]
    exact ⟨rfl, L, w, rfl, rfl, by omega, ht, rfl, rfl, fun j h => h6 j (by omega), fun j h => hw j (by omega), fun j h => hv j (by omega), hc.elim Or.inl (fun h => Or.inr (nw_ok_le h (Nat.le_succ L)))⟩
theorem i_vc_live {k : Nat} {u : SX} {v : SY} (I : i_Rel k u v) (hk : k + 6 ≤ 3072) : wpX_live (fun r u' => wpY_live (fun r' v' => r' = r ∧ i_Rel (k + 6) u' v') v) u := by
  obtain ⟨fs, fe, fk, fl, sm, pm, aw, ay, al, ao⟩ := u
  obtain ⟨gl, mv, st, en, bw, pa, le, wa⟩ := v
  obtain ⟨L, w, rfl, rfl, hL, ht, rfl, rfl, h6, hw, hv, hc⟩ := I
  unfold wpX_live
  dsimp only
  refine nw_read _ hL ht h6 hw hc (fun fk' aw' ay' al' ao' hw' ok' => ⟨vp_in_nI (by omega) (by omega), ?_⟩)
  dsimp only
  rw [nI_clamp (n := L) (by omega), (ok' L (Nat.le_refl L)).2.1]
  unfold wpY_live
  dsimp only
  exact nw_live _ (by omega) hv h6 (fun pa' le' wa' => ⟨rfl, L, w, rfl, rfl, hL, ht, rfl, rfl, h6, hw', hv, Or.inr ok'⟩)
theorem i_vc_accepted {k : Nat} {u : SX} {v : SY} (I : i_Rel k u v) (hk : k + 6 ≤ 3072) : wpX_accepted (fun r u' => wpY_accepted (fun r' v' => r' = r ∧ i_Rel (k + 6) u' v') v) u := by
  obtain ⟨fs, fe, fk, fl, sm, pm, aw, ay, al, ao⟩ := u
  obtain ⟨gl, mv, st, en, bw, pa, le, wa⟩ := v
  obtain ⟨L, w, rfl, rfl, hL, ht, rfl, rfl, h6, hw, hv, hc⟩ := I
  unfold wpX_accepted
  dsimp only
  refine nw_read _ hL ht h6 hw hc (fun fk' aw' ay' al' ao' hw' ok' => ⟨vp_in_nI (by omega) (by omega), ?_⟩)
  dsimp only
  rw [nI_clamp (n := L) (by omega), (ok' L (Nat.le_refl L)).2.1]
  unfold wpY_accepted wpY_live
  dsimp only
  refine br_c (fun z => ?_) (fun z => ?_)
  · exact nw_live _ (by omega) hv h6 (fun pa' le' wa' => nw_end _ (br_t z ⟨rfl, L, w, rfl, rfl, hL, ht, rfl, rfl, h6, hw', hv, Or.inr ok'⟩))
  · exact nw_live _ (by omega) hv h6 (fun pa' le' wa' => nw_end _ (br_f z ⟨rfl, L, w, rfl, rfl, hL, ht, rfl, rfl, h6, hw', hv, Or.inr ok'⟩))
theorem i_vc_open {k : Nat} {u : SX} {v : SY} (I : i_Rel k u v) (hk : k + 6 ≤ 3072) : wpX_open (fun r u' => wpY_open (fun r' v' => r' = r ∧ i_Rel (k + 6) u' v') v) u := by
  obtain ⟨fs, fe, fk, fl, sm, pm, aw, ay, al, ao⟩ := u
  obtain ⟨gl, mv, st, en, bw, pa, le, wa⟩ := v
  obtain ⟨L, w, rfl, rfl, hL, ht, rfl, rfl, h6, hw, hv, hc⟩ := I
  have hl := nw_len (P := nw_pairs mv) (S := nw_bits st) (w := w) L
  unfold wpX_open
  dsimp only
  refine nw_read _ hL ht h6 hw hc (fun fk' aw' ay' al' ao' hw' ok' => ⟨vp_in_nI (by omega) (by omega), ?_⟩)
  rw [nI_clamp (n := L) (by omega)]
  refine nm_e ⟨(nw_cf (nw_pairs mv) (nw_bits st) w L).1.length + 1, nw_opnL (r := (nw_cf (nw_pairs mv) (nw_bits st) w L).1.length) _ hL (by omega) ok' ?_ _ L 0 (Nat.le_refl L) rfl (by omega)⟩
  unfold wpY_open
  dsimp only
  exact nw_match (S := nw_bits st) _ (by omega) hv h6 (fun pa' wa' _ => ⟨rfl, L, w, rfl, rfl, hL, ht, rfl, rfl, h6, hw', hv, Or.inr ok'⟩)
theorem i_vc_next {k : Nat} {u : SX} {v : SY} (I : i_Rel k u v) (hk : k + 6 ≤ 3072) : wpX_next (fun r u' => wpY_next (fun r' v' => r' = r ∧ i_Rel (k + 6) u' v') v) u := by
  obtain ⟨fs, fe, fk, fl, sm, pm, aw, ay, al, ao⟩ := u
  obtain ⟨gl, mv, st, en, bw, pa, le, wa⟩ := v
  obtain ⟨L, w, rfl, rfl, hL, ht, rfl, rfl, h6, hw, hv, hc⟩ := I
  unfold wpX_next
  dsimp only
  refine nw_read _ hL ht h6 hw hc (fun fk' aw' ay' al' ao' hw' ok' => ⟨7, ?_⟩)
  refine nw_nextL _ hL ht (fun aw2 ay2 al2 ao2 hw2 ok2 => ⟨7, ?_⟩) 6 0 _ _ _ _ rfl hw' ok'
  exact nw_ynL _ hL h6 (fun bw' pa' le' wa' hv' => ⟨rfl, L, w, rfl, rfl, hL, ht, rfl, rfl, h6, hw2, hv', Or.inr ok2⟩) 6 0 _ _ _ _ rfl hv
theorem i_vc_close {k : Nat} {u : SX} {v : SY} (I : i_Rel k u v) (hk : k + 6 ≤ 3072) : wpX_close (fun r u' => wpY_close (fun r' v' => r' = r ∧ i_Rel (k + 6) u' v') v) u := by
  obtain ⟨fs, fe, fk, fl, sm, pm, aw, ay, al, ao⟩ := u
  obtain ⟨gl, mv, st, en, bw, pa, le, wa⟩ := v
  obtain ⟨L, w, rfl, rfl, hL, ht, rfl, rfl, h6, hw, hv, hc⟩ := I
  unfold wpX_close
  dsimp only
  refine nw_read _ hL ht h6 hw hc (fun fk' aw' ay' al' ao' hw' ok' => ⟨6, ?_⟩)
  refine nw_cloL _ hL ht (fun aw2 ay2 al2 ao2 hw2 ok2 => ⟨6, ?_⟩) 5 0 _ _ _ _ rfl (fun j hj => (hw' j hj).trans (congrArg nI (nw_w2_n (w := w) (show j < L from hj)).symm)) (nw_ok_w ok' (fun j hj => (nw_w2_n hj).symm))
  exact nw_ycL _ hL h6 (fun bw' pa' le' wa' hv' => ⟨rfl, L, w, rfl, rfl, hL, ht, rfl, rfl, h6, hw2, hv', Or.inr ok2⟩) 5 0 _ _ _ _ rfl (fun j hj _ => (hv j hj).trans (congrArg nI (nw_w2_n (w := w) (show j < L from hj)).symm)) (fun j hj => absurd hj (Nat.not_lt_zero j))
theorem i_vc_read {k : Nat} {u : SX} {v : SY} (I : i_Rel k u v) (hk : k + 6 ≤ 3072) (v1 : Int32) : wpX_read (fun r u' => wpY_read (fun r' v' => r' = r ∧ i_Rel (k + 6) u' v') v v1) u v1 := by
  obtain ⟨fs, fe, fk, fl, sm, pm, aw, ay, al, ao⟩ := u
  obtain ⟨gl, mv, st, en, bw, pa, le, wa⟩ := v
  have I0 := I
  obtain ⟨L, w, rfl, rfl, hL, ht, rfl, rfl, h6, hw, hv, hc⟩ := I
  refine br_c (fun h => br_t h ⟨rfl, I0⟩) (fun h0 => br_c (fun h => br_f h0 (br_t h ⟨rfl, I0⟩)) (fun h5 => ?_))
  obtain ⟨l, hl, rfl⟩ := nw_lt_of h0 h5
  refine pk_lt L 16 (fun h => ?_) (fun h => br_f h0 (br_f h5 (pk_eq L 16 (fun _ => ⟨rfl, I0⟩) (fun z => absurd h (by omega)))))
  refine nw_read _ hL ht h6 hw hc (fun fk' aw' ay' al' ao' hw' ok' => ?_)
  refine nw_add (w := nw_up w L l) (S := nw_bits st) (mv := mv) _ (by omega) (nw_up_s w L l) hl ht (fun j hj => (hw' j hj).trans (congrArg nI (nw_up_n hj).symm)) (nw_ok_w ok' (fun j hj => (nw_up_n hj).symm)) (fun ay2 al2 ao2 ok2 => ⟨vp_in_nI (by omega) (by omega), ?_⟩)
  rw [nI_clamp (n := L + 1) (by omega), (ok2 (L + 1) (Nat.le_refl _)).2.1]
  have U : ∀ (a : Nat → Int32), (∀ j, j < L → a j = nI (w j)) → ∀ j, j < L + 1 → upd a L (nI l) j = nI (nw_up w L l j) := by
    intro a ha j hj
    by_cases e : j = L
    · rw [e, pk_us, nw_up_s]
    · rw [pk_un e, nw_up_n (by omega)]
      exact ha j (by omega)
  have V : ∀ j, j < L + 1 → nw_up w L l j < 6 := by
    intro j hj
    by_cases e : j = L
    · rw [e, nw_up_s]
      exact hl
    · rw [nw_up_n (by omega)]
      exact h6 j (by omega)
  refine nw_ones _ _ (br_f h0 (br_f h5 (pk_eq L 16 (fun z => absurd h (by omega)) (fun _ => ⟨vp_in_nI (by omega) (by omega), nm_r (e' := upd bw L (nI l)) (by rw [nI_clamp (n := L) (by omega)]) (nm_r (nI_1 L) ?_)⟩))))
  exact nw_live (w := nw_up w L l) _ (by omega) (U bw hv) V (fun pa' le' wa' => ⟨6, nw_ctL _ _ ⟨rfl, L + 1, nw_up w L l, rfl, rfl, by omega, ht, rfl, rfl, V, U aw' hw', U bw hv, Or.inr ok2⟩ 5 0 rfl⟩)
theorem i_vc_state {k : Nat} {u : SX} {v : SY} (I : i_Rel k u v) (hk : k + 6 ≤ 3072) (v1 : Int32) (v2 : Int32) (v3 : Int32) : wpX_state (fun r u' => wpY_state (fun r' v' => r' = r ∧ i_Rel (k + 6) u' v') v v1 (lw_bz v2) (lw_bz v3)) u v1 (lw_bz v2) (lw_bz v3) := by
  obtain ⟨fs, fe, fk, fl, sm, pm, aw, ay, al, ao⟩ := u
  obtain ⟨gl, mv, st, en, bw, pa, le, wa⟩ := v
  have I0 := I
  obtain ⟨L, w, rfl, rfl, hL, ht, rfl, rfl, h6, hw, hv, hc⟩ := I
  unfold wpX_state
  dsimp only
  unfold wpX_isState
  refine br_c (fun h => br_t rfl ?_) (fun h0 => br_c (fun h => br_t rfl ?_) (fun h4 => br_f (by decide) ?_))
  · unfold wpY_state
    exact nw_bX0 _ (Or.inl h) (br_f (by decide) ⟨rfl, I0⟩)
  · unfold wpY_state
    exact nw_bX0 _ (Or.inr h) (br_f (by decide) ⟨rfl, I0⟩)
  · have Y : ∀ (s e : Int32), (s = nw_bits (upd st v1.toNatClampNeg (vp_nar .boolean (lw_bz v2)))) → (e = nw_bits (upd en v1.toNatClampNeg (vp_nar .boolean (lw_bz v3)))) → wpY_state (fun r' v' => r' = 0 ∧ i_Rel (k + 6) (s, e, 0, nI L, sm, pm, aw, ay, al, ao) v') (nI L, mv, st, en, bw, pa, le, wa) v1 (lw_bz v2) (lw_bz v3) := by
      intro s e hs he
      unfold wpY_state
      obtain ⟨q, hq, rfl⟩ := nw_st_of h0 h4
      exact nw_bX1 _ h0 h4 (br_t rfl ⟨vp_in_nI hq (by omega), nm_e ⟨vp_in_nI hq (by omega), nm_e ⟨rfl, L, w, rfl, rfl, hL, ht, hs, he, h6, hw, hv, Or.inl rfl⟩⟩⟩)
    obtain ⟨q, hq, rfl⟩ := nw_st_of h0 h4
    rw [nI_clamp (n := q) (by omega)] at Y
    rcases lw_bz_01 v2 with e2 | e2 <;> rcases lw_bz_01 v3 with e3 | e3 <;> rw [e2, e3] at Y ⊢
    · exact br_t rfl (br_t rfl (nm_e (Y _ _ (nw_bits_0 st hq) (nw_bits_0 en hq))))
    · exact br_t rfl (br_f (by decide) (nm_e (Y _ _ (nw_bits_0 st hq) (nw_bits_1 en hq))))
    · exact br_f (by decide) (br_t rfl (nm_e (Y _ _ (nw_bits_1 st hq) (nw_bits_0 en hq))))
    · exact br_f (by decide) (br_f (by decide) (nm_e (Y _ _ (nw_bits_1 st hq) (nw_bits_1 en hq))))
theorem i_vc_move {k : Nat} {u : SX} {v : SY} (I : i_Rel k u v) (hk : k + 6 ≤ 3072) (v1 : Int32) (v2 : Int32) (v3 : Int32) (v4 : Int32) (v5 : Int32) : wpX_move (fun r u' => wpY_move (fun r' v' => r' = r ∧ i_Rel (k + 6) u' v') v v1 v2 v3 v4 (lw_bz v5)) u v1 v2 v3 v4 (lw_bz v5) := by
  obtain ⟨fs, fe, fk, fl, sm, pm, aw, ay, al, ao⟩ := u
  obtain ⟨gl, mv, st, en, bw, pa, le, wa⟩ := v
  have I0 := I
  obtain ⟨L, w, rfl, rfl, hL, ht, rfl, rfl, h6, hw, hv, hc⟩ := I
  unfold wpX_move
  dsimp only
  unfold wpX_isState
  refine br_c (fun h => br_t rfl ?_) (fun h0 => br_c (fun h => br_t rfl ?_) (fun h4 => br_f (by decide) (br_c (fun h => br_t rfl ?_) (fun g0 => br_c (fun h => br_t rfl ?_) (fun g4 => br_f (by decide) (br_c (fun h => ?_) (fun l0 => br_c (fun h => ?_) (fun l5 => ?_))))))))
  · unfold wpY_move
    exact nw_bX0 _ (Or.inl h) (br_f (by decide) ⟨rfl, I0⟩)
  · unfold wpY_move
    exact nw_bX0 _ (Or.inr h) (br_f (by decide) ⟨rfl, I0⟩)
  · unfold wpY_move
    exact nw_bX1 _ h0 h4 (br_t rfl (nw_bX0 _ (Or.inl h) (br_f (by decide) ⟨rfl, I0⟩)))
  · unfold wpY_move
    exact nw_bX1 _ h0 h4 (br_t rfl (nw_bX0 _ (Or.inr h) (br_f (by decide) ⟨rfl, I0⟩)))
  · unfold wpY_move
    exact nw_bX1 _ h0 h4 (br_t rfl (nw_bX1 _ g0 g4 (br_t rfl (br_t h ⟨rfl, I0⟩))))
  · unfold wpY_move
    have l0 : ¬ v2 < 0 := Int32.not_lt.mpr (Int32.le_trans (by decide) (Int32.le_of_lt h))
    exact nw_bX1 _ h0 h4 (br_t rfl (nw_bX1 _ g0 g4 (br_t rfl (br_f l0 (br_f (Int32.not_le.mpr h) ⟨rfl, I0⟩)))))
  · obtain ⟨q, hq, rfl⟩ := nw_st_of h0 h4
    obtain ⟨r, hr, rfl⟩ := nw_st_of g0 g4
    obtain ⟨l, hl, rfl⟩ := nw_lt_of l0 l5
    have l5' := Int32.not_lt.mp l5
    refine pk_le 4 l (fun c4 => ?_) (fun c4 => br_c (fun h => ?_) (fun m0 => pk_le 2 l (fun c2 => br_c (fun m3 => ?_) (fun m3 => ?_)) (fun c2 => br_c (fun m3 => ?_) (fun m3 => ?_))))
    · refine nw_50p _ hq hr c4 hl ?_
      unfold wpY_move
      refine nw_bX1 _ h0 h4 (br_t rfl (nw_bX1 _ g0 g4 (br_t rfl (br_f l0 (br_t l5' (pk_le 4 l (fun _ => nw_52p _ hq hr c4 hl ⟨?_, L, w, rfl, rfl, hL, nw_tab_p hq hr c4 hl ht, rfl, rfl, h6, hw, hv, Or.inl rfl⟩) (fun z => absurd z (by omega))))))))
      have e := ht.2 l (5 * q + r) c4 hl (by omega)
      rw [show 120 * ((5 * q + r) / 5) + 20 * l + 4 * ((5 * q + r) % 5) + 0 = 120 * q + 20 * l + 4 * r + 0 by omega, ← Nat.add_assoc] at e
      rw [e]
    · unfold wpY_move
      exact nw_bX1 _ h0 h4 (br_t rfl (nw_bX1 _ g0 g4 (br_t rfl (br_f l0 (br_t l5' (pk_le 4 l (fun z => absurd z (by omega)) (fun _ => br_t h ⟨rfl, I0⟩)))))))
    · obtain ⟨m, hm, rfl⟩ := nI_of2 (M := 3) (n := 3) (by decide) m0 m3
      refine nw_50s _ hq hr (by omega) (by omega) ?_
      unfold wpY_move
      refine nw_bX1 _ h0 h4 (br_t rfl (nw_bX1 _ g0 g4 (br_t rfl (br_f l0 (br_t l5' (pk_le 4 l (fun z => absurd z (by omega)) (fun _ => br_f m0 (pk_le 2 l (fun _ => br_t m3 (nw_52s _ hq hr (by omega) (by omega) ⟨?_, L, w, rfl, rfl, hL, nw_tab_s hq hr (by omega) (by omega) ht, rfl, rfl, h6, hw, hv, Or.inl rfl⟩)) (fun z => absurd z (by omega))))))))))
      have e := ht.1 l (5 * q + r) m (by omega) (by omega) (by omega)
      rw [show 120 * ((5 * q + r) / 5) + 20 * l + 4 * ((5 * q + r) % 5) + m = 120 * q + 20 * l + 4 * r + m by omega] at e
      rw [e]
    · unfold wpY_move
      exact nw_bX1 _ h0 h4 (br_t rfl (nw_bX1 _ g0 g4 (br_t rfl (br_f l0 (br_t l5' (pk_le 4 l (fun z => absurd z (by omega)) (fun _ => br_f m0 (pk_le 2 l (fun _ => br_f m3 ⟨rfl, I0⟩) (fun z => absurd z (by omega))))))))))
    · obtain ⟨m, hm, rfl⟩ := nI_of2 (M := 2) (n := 2) (by decide) m0 m3
      refine nw_50s _ hq hr (by omega) (by omega) ?_
      unfold wpY_move
      refine nw_bX1 _ h0 h4 (br_t rfl (nw_bX1 _ g0 g4 (br_t rfl (br_f l0 (br_t l5' (pk_le 4 l (fun z => absurd z (by omega)) (fun _ => br_f m0 (pk_le 2 l (fun z => absurd z (by omega)) (fun _ => br_t m3 (nw_52s _ hq hr (by omega) (by omega) ⟨?_, L, w, rfl, rfl, hL, nw_tab_s hq hr (by omega) (by omega) ht, rfl, rfl, h6, hw, hv, Or.inl rfl⟩))))))))))
      have e := ht.1 l (5 * q + r) m (by omega) (by omega) (by omega)
      rw [show 120 * ((5 * q + r) / 5) + 20 * l + 4 * ((5 * q + r) % 5) + m = 120 * q + 20 * l + 4 * r + m by omega] at e
      rw [e]
    · unfold wpY_move
      exact nw_bX1 _ h0 h4 (br_t rfl (nw_bX1 _ g0 g4 (br_t rfl (br_f l0 (br_t l5' (pk_le 4 l (fun z => absurd z (by omega)) (fun _ => br_f m0 (pk_le 2 l (fun z => absurd z (by omega)) (fun _ => br_f m3 ⟨rfl, I0⟩)))))))))
end
