section
/-! rows of kit/rows/ (starting text): numbers, stores, branches, bits -/
theorem pk_us {f : Nat → Int32} {k : Nat} {x : Int32} : upd f k x k = x := if_pos rfl
theorem pk_un {f : Nat → Int32} {k j : Nat} {x : Int32} (h : j ≠ k) : upd f k x j = f j := if_neg h
theorem pk_uLs {f : Nat → Int64} {k : Nat} {x : Int64} : vp_updL f k x k = x := if_pos rfl
theorem pk_uLn {f : Nat → Int64} {k j : Nat} {x : Int64} (h : j ≠ k) : vp_updL f k x j = f j := if_neg h
theorem pk_sub {a b : Nat} (h : b ≤ a) : nI a - nI b = nI (a - b) := by
  obtain ⟨c, rfl⟩ : ∃ c, a = c + b := ⟨a - b, by omega⟩
  rw [← nI_add, Int32.add_sub_cancel, Nat.add_sub_cancel]
theorem pk_m1 (n : Nat) : nI (n + 1) + (-1) = nI n := by
  rw [← nI_1, Int32.add_assoc, show (1 : Int32) + (-1) = 0 from rfl, Int32.add_zero]
theorem pk_mul (a b : Nat) : nI a * nI b = nI (a * b) := (Int32.ofNat_mul a b).symm
theorem pk_div {a d : Nat} (ha : a < 2 ^ 31) (h0 : 0 < d) (hd : d < 2 ^ 31) : nI a / nI d = nI (a / d) := by
  apply Int32.toInt_inj.mp
  rw [lg_idiv_nonneg (by rw [nI_toInt ha]; omega) (by rw [nI_toInt hd]; omega), nI_toInt ha, nI_toInt hd, nI_toInt (Nat.lt_of_le_of_lt (Nat.div_le_self a d) ha)]
  first | rfl | exact (Int.natCast_ediv _ _).symm
theorem pk_rem {a d : Nat} (ha : a < 2 ^ 31) (h0 : 0 < d) (hd : d < 2 ^ 31) : nI a - nI a / nI d * nI d = nI (a % d) := by
  rw [pk_div ha h0 hd, pk_mul, pk_sub (Nat.div_mul_le_self a d)]
  exact congrArg nI (by have := Nat.div_add_mod' a d; omega)
theorem pk_sub_toInt {a b : Nat} (ha : a < 2 ^ 30) (hb : b < 2 ^ 30) : (nI a - nI b).toInt = (a : Int) - b := by
  rw [Int32.toInt_sub, nI_toInt (by omega), nI_toInt (by omega)]
  exact Int.bmod_eq_of_le (by omega) (by omega)
theorem pk_sneg {a b : Nat} (hb : b < 2 ^ 30) (h : a < b) : nI a - nI b < 0 := by
  rw [Int32.lt_iff_toInt_lt, pk_sub_toInt (by omega) hb, show (0 : Int32).toInt = 0 from by decide]
  omega
theorem pk_ix (x : Int32) {n : Nat} (hn : n < 2 ^ 31) : x < 0 ∨ nI n ≤ x ∨ ∃ j : Nat, j < n ∧ x = nI j := by
  by_cases h : x < 0
  · exact Or.inl h
  · obtain ⟨j, hj, rfl⟩ := nI_of h
    by_cases h2 : j < n
    · exact Or.inr (Or.inr ⟨j, h2, rfl⟩)
    · exact Or.inr (Or.inl (nI_le (by omega) hj))
theorem pk_le {x y : Int32} {A B : Prop} (a b : Nat) (f : a ≤ b → A) (g : b < a → B) (hx : x = nI a := by rfl) (hy : y = nI b := by rfl) (ha : a < 2 ^ 31 := by omega) (hb : b < 2 ^ 31 := by omega) : (x ≤ y → A) ∧ (¬ x ≤ y → B) := by
  subst hx hy
  rw [nI_leI ha hb]
  exact ⟨f, fun z => g (by omega)⟩
theorem pk_lt {x y : Int32} {A B : Prop} (a b : Nat) (f : a < b → A) (g : b ≤ a → B) (hx : x = nI a := by rfl) (hy : y = nI b := by rfl) (ha : a < 2 ^ 31 := by omega) (hb : b < 2 ^ 31 := by omega) : (x < y → A) ∧ (¬ x < y → B) := by
  subst hx hy
  rw [nI_ltI ha hb]
  exact ⟨f, fun z => g (by omega)⟩
theorem pk_eq {x y : Int32} {A B : Prop} (a b : Nat) (f : a = b → A) (g : a ≠ b → B) (hx : x = nI a := by rfl) (hy : y = nI b := by rfl) (ha : a < 2 ^ 31 := by omega) (hb : b < 2 ^ 31 := by omega) : (x = y → A) ∧ (¬ x = y → B) := by
  subst hx hy
  rw [nI_eq ha hb]
  exact ⟨f, g⟩
theorem pk_in {x : Int32} (n N : Nat) (h : n < N) (hx : x = nI n := by rfl) (hN : N < 2 ^ 31 := by omega) : vp_in x N := by
  subst hx
  exact vp_in_nI h hN
theorem pk_cl {x : Int32} (n : Nat) (hx : x = nI n := by rfl) (h : n < 2 ^ 31 := by omega) : x.toNatClampNeg = n := by
  subst hx
  exact nI_clamp h
theorem pk_tn {n : Nat} (h : n < 2 ^ 32) : (nI n).toBitVec.toNat = n := Nat.mod_eq_of_lt h
theorem pk_and (x : Int32) {m : Int32} (k : Nat) (hm : m.toBitVec.toNat = 2 ^ k - 1) : x &&& m = nI (x.toBitVec.toNat % 2 ^ k) := by
  apply Int32.toBitVec_inj.mp
  apply BitVec.eq_of_toNat_eq
  rw [Int32.toBitVec_and, BitVec.toNat_and, hm, Nat.and_two_pow_sub_one_eq_mod]
  show _ = (BitVec.ofNat 32 _).toNat
  rw [BitVec.toNat_ofNat]
  exact (Nat.mod_eq_of_lt (Nat.lt_of_le_of_lt (Nat.mod_le _ _) x.toBitVec.isLt)).symm
theorem pk_andN {n : Nat} (h : n < 2 ^ 32) {m : Int32} (k : Nat) (hm : m.toBitVec.toNat = 2 ^ k - 1) : nI n &&& m = nI (n % 2 ^ k) := by
  rw [pk_and _ k hm, pk_tn h]
theorem pk_andE (x : Int32) {m : Int32} (k : Nat) (hm : m.toBitVec.toNat = 2 ^ k - 1) : ∃ j : Nat, j < 2 ^ k ∧ x &&& m = nI j := ⟨_, Nat.mod_lt _ (Nat.two_pow_pos k), pk_and x k hm⟩
theorem pk_andIn (x : Int32) {m : Int32} (k : Nat) (hm : m.toBitVec.toNat = 2 ^ k - 1) (hk : k ≤ 30) : vp_in (x &&& m) (2 ^ k) := by
  obtain ⟨j, hj, e⟩ := pk_andE x k hm
  rw [e]
  exact vp_in_nI hj (Nat.lt_of_le_of_lt (Nat.pow_le_pow_right (by decide) hk) (by decide))
theorem pk_shl (a s : Int32) (k : Nat) (hs : (s.toBitVec.smod 32).toNat = k) : (a <<< s).toBitVec.toNat = a.toBitVec.toNat * 2 ^ k % 2 ^ 32 := by
  show (a.toBitVec <<< (s.toBitVec.smod 32).toNat).toNat = _
  rw [hs, BitVec.toNat_shiftLeft, Nat.shiftLeft_eq]
theorem pk_shlN {n : Nat} (s : Int32) (k : Nat) (hs : (s.toBitVec.smod 32).toNat = k) (h : n * 2 ^ k < 2 ^ 32) : nI n <<< s = nI (n * 2 ^ k) := by
  apply Int32.toBitVec_inj.mp
  apply BitVec.eq_of_toNat_eq
  have hn : n < 2 ^ 32 := Nat.lt_of_le_of_lt (Nat.le_mul_of_pos_right n (Nat.two_pow_pos k)) h
  rw [pk_shl _ _ k hs, pk_tn hn, pk_tn h, Nat.mod_eq_of_lt h]
theorem pk_shr (a s : Int32) (k : Nat) (hs : (s.toBitVec.smod 32).toNat = k) : (a >>> s).toInt = a.toInt >>> k := by
  show (a.toBitVec.sshiftRight (s.toBitVec.smod 32).toNat).toInt = _
  rw [hs, BitVec.toInt_sshiftRight]
  rfl
theorem pk_shrN {n : Nat} (h : n < 2 ^ 31) (s : Int32) (k : Nat) (hs : (s.toBitVec.smod 32).toNat = k) : nI n >>> s = nI (n / 2 ^ k) := by
  apply Int32.toInt_inj.mp
  have h2 : n / 2 ^ k ≤ n := Nat.div_le_self _ _
  rw [pk_shr _ _ k hs, nI_toInt h, nI_toInt (by omega), Int.shiftRight_eq_div_pow]
  rfl
theorem pk_vb (z : Int32) : vp_nar .byte z.toInt8.toInt32 = z.toInt8.toInt32 := by rw [vp_nar_byte]; simp
theorem ek_if {c d A B : Prop} (e : c ↔ d) (f : d → A) (g : ¬ d → B) : (c → A) ∧ (¬ c → B) :=
  ⟨fun z => f (e.mp z), fun z => g (fun y => z (e.mpr y))⟩
theorem ek_v {α : Sort _} {P : α → Prop} {a b : α} (e : a = b) (h : P b) : P a := e ▸ h
def bt (x : Int32) (i : Nat) : Bool := x.toBitVec.getLsbD i
theorem b_ext {x y : Int32} (h : ∀ i, i < 32 → bt x i = bt y i) : x = y := Int32.toBitVec_inj.mp (BitVec.eq_of_getLsbD_eq (fun i hi => h i hi))
theorem b_or (x y : Int32) (i : Nat) : bt (x ||| y) i = (bt x i || bt y i) := by unfold bt; rw [Int32.toBitVec_or, BitVec.getLsbD_or]
theorem b_and (x y : Int32) (i : Nat) : bt (x &&& y) i = (bt x i && bt y i) := by unfold bt; rw [Int32.toBitVec_and, BitVec.getLsbD_and]
theorem b_xor (x y : Int32) (i : Nat) : bt (x ^^^ y) i = (bt x i ^^ bt y i) := by unfold bt; rw [Int32.toBitVec_xor, BitVec.getLsbD_xor]
theorem b_big {x : Int32} {i : Nat} (h : 32 ≤ i) : bt x i = false := BitVec.getLsbD_of_ge _ _ h
theorem b_255 (i : Nat) : bt 255 i = decide (i < 8) := by
  rcases Nat.lt_or_ge i 32 with h | h
  · exact (by decide +kernel : ∀ i, i < 32 → bt 255 i = decide (i < 8)) i h
  · rw [b_big h, decide_eq_false (by omega)]
theorem b_65535 (i : Nat) : bt 65535 i = decide (i < 16) := by
  rcases Nat.lt_or_ge i 32 with h | h
  · exact (by decide +kernel : ∀ i, i < 32 → bt 65535 i = decide (i < 16)) i h
  · rw [b_big h, decide_eq_false (by omega)]
theorem b_m1 : ∀ i, i < 32 → bt (-1) i = true := by decide +kernel
theorem b_0 (i : Nat) : bt 0 i = false := BitVec.getLsbD_zero
theorem s_l : ∀ n, n < 32 → ((nI n &&& 31).toBitVec.smod 32).toNat = n := by decide +kernel
theorem s_u : ∀ n, n < 32 → (((nI n).toUInt32 &&& Int32.toUInt32 31).toBitVec % 32).toNat = n := by decide +kernel
theorem b_shl (n : Nat) (hn : n < 32) (x : Int32) {i : Nat} (hi : i < 32) : bt (x <<< (nI n &&& 31)) i = (decide (n ≤ i) && bt x (i - n)) := by
  unfold bt
  rw [Int32.toBitVec_shiftLeft]
  show (x.toBitVec <<< ((nI n &&& 31).toBitVec.smod 32).toNat).getLsbD i = _
  rw [s_l n hn, BitVec.getLsbD_shiftLeft]
  rcases Nat.lt_or_ge i n with h | h
  · simp [h, Nat.not_le.mpr h]
  · simp [hi, h, Nat.not_lt.mpr h]
theorem b_ushr (n : Nat) (hn : n < 32) (x : Int32) (i : Nat) : bt ((x.toUInt32 >>> ((nI n).toUInt32 &&& Int32.toUInt32 31)).toInt32) i = bt x (n + i) := by
  show (x.toUInt32 >>> ((nI n).toUInt32 &&& Int32.toUInt32 31)).toBitVec.getLsbD i = x.toUInt32.toBitVec.getLsbD (n + i)
  rw [UInt32.toBitVec_shiftRight]
  show (x.toUInt32.toBitVec >>> (((nI n).toUInt32 &&& Int32.toUInt32 31).toBitVec % 32).toNat).getLsbD i = _
  rw [s_u n hn, BitVec.getLsbD_ushiftRight]
theorem b_sshr (n : Nat) (hn : n < 32) (x : Int32) {i : Nat} (hi : i < 32) : bt (x >>> (nI n &&& 31)) i = if n + i < 32 then bt x (n + i) else bt x 31 := by
  unfold bt
  rw [Int32.toBitVec_shiftRight]
  show (x.toBitVec.sshiftRight ((nI n &&& 31).toBitVec.smod 32).toNat).getLsbD i = _
  rw [s_l n hn, BitVec.getLsbD_sshiftRight, BitVec.msb_eq_getLsbD_last]
  simp [hi]
theorem b_shl8 (x : Int32) {i : Nat} (hi : i < 32) : bt (x <<< ((8 : Int32) &&& 31)) i = (decide (8 ≤ i) && bt x (i - 8)) := b_shl 8 (by omega) x hi
theorem b_shl16 (x : Int32) {i : Nat} (hi : i < 32) : bt (x <<< ((16 : Int32) &&& 31)) i = (decide (16 ≤ i) && bt x (i - 16)) := b_shl 16 (by omega) x hi
theorem b_shl24 (x : Int32) {i : Nat} (hi : i < 32) : bt (x <<< ((24 : Int32) &&& 31)) i = (decide (24 ≤ i) && bt x (i - 24)) := b_shl 24 (by omega) x hi
theorem b_sshr8 (x : Int32) {i : Nat} (hi : i < 32) : bt (x >>> ((8 : Int32) &&& 31)) i = if 8 + i < 32 then bt x (8 + i) else bt x 31 := b_sshr 8 (by omega) x hi
end
section
/-! numbers -/
theorem bl_nar {m : Nat} (h : m < 128) : vp_nar .byte (nI m) = nI m := by
  rw [vp_nar_byte]
  exact lg_i2b_small (by rw [nI_toInt (by omega)]; omega) (by rw [nI_toInt (by omega)]; omega)
theorem bl_i8 {m : Nat} (h : m < 128) : (nI m).toInt8.toInt32 = nI m := (vp_nar_byte (nI m)).symm.trans (bl_nar h)
theorem bl_nar8 {m : Nat} (h : m < 128) : vp_nar .byte (nI m).toInt8.toInt32 = nI m := by rw [bl_i8 h, bl_nar h]
theorem bl_2 (a : Nat) : nI a + 2 = nI (a + 2) := nI_add a 2
theorem bl_s {n : Nat} (h : 0 < n) : nI n - 1 = nI (n - 1) := by
  obtain ⟨m, rfl⟩ : ∃ m, n = m + 1 := ⟨n - 1, by omega⟩
  exact nI_pred m
theorem bl_m {n : Nat} (h : 0 < n) : nI n + (-1) = nI (n - 1) := by
  obtain ⟨m, rfl⟩ : ∃ m, n = m + 1 := ⟨n - 1, by omega⟩
  exact pk_m1 m
theorem bl_m6 (a : Nat) : 6 * nI a = nI (6 * a) := pk_mul 6 a
theorem bl_m78 (a : Nat) : 78 * nI a = nI (78 * a) := pk_mul 78 a
theorem bl_m10 (a : Nat) : 10 * nI a = nI (10 * a) := pk_mul 10 a
theorem bl_m3 (a : Nat) : 3 * nI a = nI (3 * a) := pk_mul 3 a
theorem bl_m23 (a : Nat) : 23 * nI a = nI (23 * a) := pk_mul 23 a
/-! an 'if' over a proposition, counts -/
noncomputable def bl_01 (P : Prop) : Nat := @ite Nat P (Classical.propDecidable P) 1 0
theorem bl_01t {P : Prop} (h : P) : bl_01 P = 1 := by unfold bl_01; exact if_pos h
theorem bl_01f {P : Prop} (h : ¬ P) : bl_01 P = 0 := by unfold bl_01; exact if_neg h
theorem bl_01c {P Q : Prop} (h : P ↔ Q) : bl_01 P = bl_01 Q := congrArg bl_01 (propext h)
theorem bl_01le (P : Prop) : bl_01 P ≤ 1 := by
  rcases Classical.em P with h | h
  · rw [bl_01t h]; omega
  · rw [bl_01f h]; omega
noncomputable def bl_cnt (P : Nat → Prop) : Nat → Nat
  | 0 => 0
  | k + 1 => bl_cnt P k + bl_01 (P k)
theorem bl_cnt_s {P : Nat → Prop} {k : Nat} : bl_cnt P (k + 1) = bl_cnt P k + bl_01 (P k) := rfl
theorem bl_cnt_t {P : Nat → Prop} {k : Nat} (h : P k) : bl_cnt P (k + 1) = bl_cnt P k + 1 := by rw [bl_cnt_s, bl_01t h]
theorem bl_cnt_f {P : Nat → Prop} {k : Nat} (h : ¬ P k) : bl_cnt P (k + 1) = bl_cnt P k := by rw [bl_cnt_s, bl_01f h, Nat.add_zero]
theorem bl_cnt_le (P : Nat → Prop) : ∀ k, bl_cnt P k ≤ k := by
  intro k
  induction k with
  | zero => exact Nat.le_refl 0
  | succ k ih =>
    rw [bl_cnt_s]
    have := bl_01le (P k)
    omega
theorem bl_cnt_c {P Q : Nat → Prop} : ∀ k, (∀ j, j < k → (P j ↔ Q j)) → bl_cnt P k = bl_cnt Q k := by
  intro k
  induction k with
  | zero => intro _; rfl
  | succ k ih =>
    intro h
    rw [bl_cnt_s, bl_cnt_s, ih (fun j hj => h j (by omega)), bl_01c (h k (by omega))]
theorem bl_cnt_0 {P : Nat → Prop} : ∀ k, (∀ j, j < k → ¬ P j) → bl_cnt P k = 0 := by
  intro k
  induction k with
  | zero => intro _; rfl
  | succ k ih =>
    intro h
    rw [bl_cnt_f (h k (by omega))]
    exact ih (fun j hj => h j (by omega))
theorem bl_cnt_all {P : Nat → Prop} : ∀ k, bl_cnt P k = k ↔ ∀ j, j < k → P j := by
  intro k
  induction k with
  | zero => exact ⟨fun _ j hj => absurd hj (by omega), fun _ => rfl⟩
  | succ k ih =>
    have hle := bl_cnt_le P k
    constructor
    · intro h j hj
      rcases Classical.em (P k) with z | z
      · rw [bl_cnt_t z] at h
        have h2 := ih.mp (by omega)
        rcases Nat.lt_or_ge j k with a | a
        · exact h2 j a
        · have : j = k := by omega
          rw [this]; exact z
      · rw [bl_cnt_f z] at h
        omega
    · intro h
      rw [bl_cnt_t (h k (by omega)), ih.mpr (fun j hj => h j (by omega))]
theorem bl_cnt_z {P : Nat → Prop} : ∀ k, bl_cnt P k = 0 ↔ ∀ j, j < k → ¬ P j := by
  intro k
  refine ⟨?_, bl_cnt_0 k⟩
  induction k with
  | zero => intro _ j hj; omega
  | succ k ih =>
    intro h j hj
    rcases Classical.em (P k) with z | z
    · rw [bl_cnt_t z] at h; omega
    · rw [bl_cnt_f z] at h
      rcases Nat.lt_or_ge j k with a | a
      · exact ih h j a
      · have : j = k := by omega
        rw [this]; exact z
theorem bl_cnt_add {P : Nat → Prop} (a : Nat) : ∀ b, bl_cnt P (a + b) = bl_cnt P a + bl_cnt (fun j => P (a + j)) b := by
  intro b
  induction b with
  | zero => rfl
  | succ b ih =>
    rw [← Nat.add_assoc, bl_cnt_s, ih, bl_cnt_s, Nat.add_assoc]
/-! a change of places -/
def bl_g (N : Nat) (z : Int32) : Nat → Nat → Nat → Nat
  | 0, _, j => j
  | d + 1, p, j => if N ≤ p then j else if ((z >>> (nI p &&& 31)) &&& 1) = 1 then bl_g N z d (p + 1) j else if p + 1 = N then bl_g N z d (p + 1) j else if j = p then p + 1 else if j = p + 1 then p else bl_g N z d (p + 2) j
theorem bl_g_s {N : Nat} {z : Int32} {d p j : Nat} : bl_g N z (d + 1) p j = if N ≤ p then j else if ((z >>> (nI p &&& 31)) &&& 1) = 1 then bl_g N z d (p + 1) j else if p + 1 = N then bl_g N z d (p + 1) j else if j = p then p + 1 else if j = p + 1 then p else bl_g N z d (p + 2) j := rfl
def bl_ok (N : Nat) (z : Int32) : Nat → Nat → Bool
  | 0, _ => true
  | d + 1, p => if N ≤ p then true else if ((z >>> (nI p &&& 31)) &&& 1) = 1 then bl_ok N z d (p + 1) else if N ≤ p + 1 then false else if ((z >>> (nI (p + 1) &&& 31)) &&& 1) = 0 then bl_ok N z d (p + 2) else false
theorem bl_ok_s {N : Nat} {z : Int32} {d p : Nat} : bl_ok N z (d + 1) p = if N ≤ p then true else if ((z >>> (nI p &&& 31)) &&& 1) = 1 then bl_ok N z d (p + 1) else if N ≤ p + 1 then false else if ((z >>> (nI (p + 1) &&& 31)) &&& 1) = 0 then bl_ok N z d (p + 2) else false := rfl
theorem bl_g_lo {N : Nat} {z : Int32} : ∀ d p j, j < p → bl_g N z d p j = j := by
  intro d
  induction d with
  | zero => intro p j h; rfl
  | succ d ih =>
    intro p j h
    rw [bl_g_s]
    split
    · rfl
    · split
      · exact ih _ _ (by omega)
      · split
        · exact ih _ _ (by omega)
        · rw [if_neg (by omega), if_neg (by omega)]
          exact ih _ _ (by omega)
theorem bl_g_ge {N : Nat} {z : Int32} : ∀ d p j, p ≤ j → p ≤ bl_g N z d p j := by
  intro d
  induction d with
  | zero => intro p j h; exact h
  | succ d ih =>
    intro p j h
    rw [bl_g_s]
    split
    · exact h
    · split
      · rcases Nat.lt_or_ge j (p + 1) with a | a
        · rw [bl_g_lo _ _ _ a]; exact h
        · have := ih (p + 1) j a
          omega
      · split
        · rcases Nat.lt_or_ge j (p + 1) with a | a
          · rw [bl_g_lo _ _ _ a]; exact h
          · have := ih (p + 1) j a
            omega
        · split
          · omega
          · split
            · omega
            · have := ih (p + 2) j (by omega)
              omega
theorem bl_g_hi {N : Nat} {z : Int32} : ∀ d p j, N ≤ j → bl_g N z d p j = j := by
  intro d
  induction d with
  | zero => intro p j h; rfl
  | succ d ih =>
    intro p j h
    rw [bl_g_s]
    split
    · rfl
    · split
      · exact ih _ _ h
      · split
        · exact ih _ _ h
        · rw [if_neg (by omega), if_neg (by omega)]
          exact ih _ _ h
theorem bl_g_lt {N : Nat} {z : Int32} : ∀ d p j, j < N → bl_g N z d p j < N := by
  intro d
  induction d with
  | zero => intro p j h; exact h
  | succ d ih =>
    intro p j h
    rw [bl_g_s]
    split
    · exact h
    · split
      · exact ih _ _ h
      · split
        · exact ih _ _ h
        · split
          · omega
          · split
            · omega
            · exact ih _ _ h
theorem bl_g_inv {N : Nat} {z : Int32} : ∀ d p j, bl_g N z d p (bl_g N z d p j) = j := by
  intro d
  induction d with
  | zero => intro p j; rfl
  | succ d ih =>
    intro p j
    by_cases h1 : N ≤ p
    · rw [bl_g_s (j := j), if_pos h1, bl_g_s, if_pos h1]
    · by_cases h2 : ((z >>> (nI p &&& 31)) &&& 1) = 1
      · rw [bl_g_s (j := j), if_neg h1, if_pos h2, bl_g_s, if_neg h1, if_pos h2]
        exact ih _ _
      · by_cases h3 : p + 1 = N
        · rw [bl_g_s (j := j), if_neg h1, if_neg h2, if_pos h3, bl_g_s, if_neg h1, if_neg h2, if_pos h3]
          exact ih _ _
        · by_cases h4 : j = p
          · rw [bl_g_s (j := j), if_neg h1, if_neg h2, if_neg h3, if_pos h4, bl_g_s, if_neg h1, if_neg h2, if_neg h3, if_neg (by omega), if_pos rfl, h4]
          · by_cases h5 : j = p + 1
            · rw [bl_g_s (j := j), if_neg h1, if_neg h2, if_neg h3, if_neg h4, if_pos h5, bl_g_s, if_neg h1, if_neg h2, if_neg h3, if_pos rfl, h5]
            · rw [bl_g_s (j := j), if_neg h1, if_neg h2, if_neg h3, if_neg h4, if_neg h5]
              have hk : ¬ bl_g N z d (p + 2) j = p ∧ ¬ bl_g N z d (p + 2) j = p + 1 := by
                rcases Nat.lt_or_ge j p with a | a
                · rw [bl_g_lo _ _ _ (by omega)]; omega
                · have := bl_g_ge (N := N) (z := z) d (p + 2) j (by omega)
                  omega
              rw [bl_g_s, if_neg h1, if_neg h2, if_neg h3, if_neg hk.1, if_neg hk.2]
              exact ih _ _
/-! permutations of the places, each with its inverse -/
def bl_P (N : Nat) (f : Nat → Nat) : Prop := ∃ h : Nat → Nat, (∀ p, h (f p) = p) ∧ (∀ p, f (h p) = p) ∧ (∀ p, p < N → f p < N) ∧ (∀ p, p < N → h p < N) ∧ (∀ p, N ≤ p → f p = p)
theorem bl_P_id (N : Nat) : bl_P N (fun p => p) := ⟨fun p => p, fun _ => rfl, fun _ => rfl, fun _ h => h, fun _ h => h, fun _ _ => rfl⟩
theorem bl_P_comp {N : Nat} {f g : Nat → Nat} (hf : bl_P N f) (hg : bl_P N g) : bl_P N (fun p => f (g p)) := by
  obtain ⟨f', a1, a2, a3, a4, a5⟩ := hf
  obtain ⟨g', b1, b2, b3, b4, b5⟩ := hg
  refine ⟨fun p => g' (f' p), ?_, ?_, ?_, ?_, ?_⟩
  · intro p; show g' (f' (f (g p))) = p; rw [a1, b1]
  · intro p; show f (g (g' (f' p))) = p; rw [b2, a2]
  · intro p hp; exact a3 _ (b3 _ hp)
  · intro p hp; exact b4 _ (a4 _ hp)
  · intro p hp; show f (g p) = p; rw [b5 p hp, a5 p hp]
theorem bl_P_g (N : Nat) (z : Int32) (d p : Nat) : bl_P N (bl_g N z d p) := ⟨bl_g N z d p, bl_g_inv d p, bl_g_inv d p, bl_g_lt d p, bl_g_lt d p, bl_g_hi d p⟩
/-- the inverse -/
theorem bl_P_inv {N : Nat} {f h : Nat → Nat} (a1 : ∀ p, h (f p) = p) (a2 : ∀ p, f (h p) = p) (a3 : ∀ p, p < N → f p < N) (a4 : ∀ p, p < N → h p < N) (a5 : ∀ p, N ≤ p → f p = p) : bl_P N h :=
  ⟨f, a2, a1, a4, a3, fun p hp => by have := a1 p; rw [a5 p hp] at this; exact this⟩
theorem bl_P_lt {N : Nat} {f : Nat → Nat} (hf : bl_P N f) {p : Nat} (hp : p < N) : f p < N := by
  obtain ⟨f', a1, a2, a3, a4, a5⟩ := hf
  exact a3 p hp
theorem bl_P_inj {N : Nat} {f : Nat → Nat} (hf : bl_P N f) {p q : Nat} (h : f p = f q) : p = q := by
  obtain ⟨f', a1, a2, a3, a4, a5⟩ := hf
  rw [← a1 p, h, a1 q]
theorem bl_P_ext {N : Nat} {f g : Nat → Nat} (hf : bl_P N f) (hg : bl_P N g) (h : ∀ p, p < N → f p = g p) : ∀ p, f p = g p := by
  obtain ⟨f', a1, a2, a3, a4, a5⟩ := hf
  obtain ⟨g', b1, b2, b3, b4, b5⟩ := hg
  intro p
  rcases Nat.lt_or_ge p N with a | a
  · exact h p a
  · rw [a5 p a, b5 p a]
/-! rows -/
def bl_set (s : Nat) (M C : Nat → Int32) (call k : Nat) : Int32 := if k = s then (if 0 < call then C call else M (k - 1)) else M (k - 1)
def bl_O (N s : Nat) (M C : Nat → Int32) (call : Nat) : Nat → Nat → Nat
  | 0, p => p
  | k + 1, p => bl_O N s M C call k (bl_g N (bl_set s M C call (k + 1)) N 0 p)
theorem bl_O_P (N s : Nat) (M C : Nat → Int32) (call : Nat) : ∀ k, bl_P N (bl_O N s M C call k) := by
  intro k
  induction k with
  | zero => exact bl_P_id N
  | succ k ih =>
    have h := bl_P_comp ih (bl_P_g N (bl_set s M C call (k + 1)) N 0)
    exact h
def bl_H (O : Nat → Nat → Nat → Nat) (s : Nat) (cl : Nat → Nat) : Nat → Nat → Nat
  | 0, p => p
  | i + 1, p => bl_H O s cl i (O (cl i) s p)
theorem bl_H_P {N : Nat} {O : Nat → Nat → Nat → Nat} {s : Nat} {cl : Nat → Nat} (hO : ∀ a k, bl_P N (O a k)) : ∀ i, bl_P N (bl_H O s cl i) := by
  intro i
  induction i with
  | zero => exact bl_P_id N
  | succ i ih =>
    have h := bl_P_comp ih (hO (cl i) s)
    exact h
theorem bl_H_c {O : Nat → Nat → Nat → Nat} {s : Nat} {cl cl' : Nat → Nat} : ∀ i, (∀ j, j < i → cl j = cl' j) → ∀ p, bl_H O s cl i p = bl_H O s cl' i p := by
  intro i
  induction i with
  | zero => intro _ p; rfl
  | succ i ih =>
    intro h p
    show bl_H O s cl i (O (cl i) s p) = bl_H O s cl' i (O (cl' i) s p)
    rw [h i (by omega), ih (fun j hj => h j (by omega))]
/-- row k of lead i -/
def bl_R (O : Nat → Nat → Nat → Nat) (s : Nat) (cl : Nat → Nat) (i k p : Nat) : Nat := bl_H O s cl i (O (cl i) k p)
/-- row k of the touch -/
def bl_G (O : Nat → Nat → Nat → Nat) (s : Nat) (cl : Nat → Nat) (k p : Nat) : Nat := if k = 0 then p else bl_R O s cl ((k - 1) / s) (k - (k - 1) / s * s) p
theorem bl_R_P {N : Nat} {O : Nat → Nat → Nat → Nat} {s : Nat} {cl : Nat → Nat} (hO : ∀ a k, bl_P N (O a k)) (i k : Nat) : bl_P N (bl_R O s cl i k) := by
  have h := bl_P_comp (bl_H_P (s := s) (cl := cl) hO i) (hO (cl i) k)
  exact h
theorem bl_G_P {N : Nat} {O : Nat → Nat → Nat → Nat} {s : Nat} {cl : Nat → Nat} (hO : ∀ a k, bl_P N (O a k)) (k : Nat) : bl_P N (bl_G O s cl k) := by
  by_cases h : k = 0
  · have e : bl_G O s cl k = fun p => p := by funext p; unfold bl_G; rw [if_pos h]
    rw [e]; exact bl_P_id N
  · have e : bl_G O s cl k = bl_R O s cl ((k - 1) / s) (k - (k - 1) / s * s) := by funext p; unfold bl_G; rw [if_neg h]
    rw [e]; exact bl_R_P hO _ _
/-- a row's number and its place in its lead -/
theorem bl_ik {s i k : Nat} (h1 : 1 ≤ k) (h2 : k ≤ s) : (i * s + k - 1) / s = i ∧ i * s + k - (i * s + k - 1) / s * s = k := by
  have e : (i * s + k - 1) / s = i := by
    have e2 : i * s + k - 1 = (k - 1) + i * s := by omega
    rw [e2, Nat.add_mul_div_right _ _ (by omega), Nat.div_eq_of_lt (by omega)]
    omega
  rw [e]
  exact ⟨rfl, by omega⟩
theorem bl_G_ik {O : Nat → Nat → Nat → Nat} {s : Nat} {cl : Nat → Nat} {i k : Nat} (h1 : 1 ≤ k) (h2 : k ≤ s) (p : Nat) : bl_G O s cl (i * s + k) p = bl_R O s cl i k p := by
  have h := bl_ik (i := i) h1 h2
  unfold bl_G
  rw [if_neg (by omega), h.1]
  rw [h.1] at h
  rw [h.2]
/-- a number of the touch's rows: its lead, its place -/
theorem bl_split {s c k : Nat} (h1 : 1 ≤ k) (h2 : k ≤ c * s) : ∃ i m, i < c ∧ 1 ≤ m ∧ m ≤ s ∧ k = i * s + m := by
  have hs : 0 < s := by
    rcases Nat.eq_zero_or_pos s with a | a
    · rw [a, Nat.mul_zero] at h2; omega
    · exact a
  refine ⟨(k - 1) / s, (k - 1) % s + 1, ?_, by omega, ?_, ?_⟩
  · rw [Nat.div_lt_iff_lt_mul hs]; omega
  · exact Nat.mod_lt _ hs
  · have := Nat.div_add_mod' (k - 1) s
    omega
/-! the code of a row -/
def bl_code (f : Nat → Nat) : Nat → Nat
  | 0 => 0
  | p + 1 => 10 * bl_code f p + f p + 1
theorem bl_code_s {f : Nat → Nat} {p : Nat} : bl_code f (p + 1) = 10 * bl_code f p + f p + 1 := rfl
theorem bl_code_inj {f g : Nat → Nat} : ∀ n, (∀ p, p < n → f p < 9) → (∀ p, p < n → g p < 9) → bl_code f n = bl_code g n → ∀ p, p < n → f p = g p := by
  intro n
  induction n with
  | zero => intro _ _ _ p hp; omega
  | succ n ih =>
    intro hf hg h p hp
    rw [bl_code_s, bl_code_s] at h
    have a := hf n (by omega)
    have b := hg n (by omega)
    rcases Nat.lt_or_ge p n with q | q
    · exact ih (fun p hp => hf p (by omega)) (fun p hp => hg p (by omega)) (by omega) p q
    · have : p = n := by omega
      rw [this]; omega
theorem bl_code_c {f g : Nat → Nat} : ∀ n, (∀ p, p < n → f p = g p) → bl_code f n = bl_code g n := by
  intro n
  induction n with
  | zero => intro _; rfl
  | succ n ih =>
    intro h
    rw [bl_code_s, bl_code_s, ih (fun p hp => h p (by omega)), h n (by omega)]
theorem bl_code_lt {f : Nat → Nat} : ∀ n, (∀ p, p < n → f p < 9) → bl_code f n < 10 ^ n := by
  intro n
  induction n with
  | zero => intro _; exact Nat.one_pos
  | succ n ih =>
    intro h
    have a := h n (by omega)
    have b := ih (fun p hp => h p (by omega))
    rw [bl_code_s, Nat.pow_succ]
    omega
theorem bl_code_6 {f : Nat → Nat} {n : Nat} (hn : n ≤ 6) (h : ∀ p, p < n → f p < 9) : bl_code f n < 1000000 :=
  Nat.lt_of_lt_of_le (bl_code_lt n h) (Nat.pow_le_pow_right (by decide) hn)
theorem bl_code_top {f : Nat → Nat} : ∀ n, (∀ p, p < n + 1 → f p < 9) → bl_code f (n + 1) / 10 ^ n = f 0 + 1 := by
  intro n
  induction n with
  | zero => intro _; rw [Nat.pow_zero, Nat.div_one, bl_code_s]; show 10 * 0 + f 0 + 1 = _; omega
  | succ n ih =>
    intro h
    have a := h (n + 1) (by omega)
    rw [Nat.pow_succ, Nat.mul_comm, ← Nat.div_div_eq_div_mul, bl_code_s, show (10 * bl_code f (n + 1) + f (n + 1) + 1) / 10 = bl_code f (n + 1) by omega]
    exact ih (fun p hp => h p (by omega))
theorem bl_code_P {N : Nat} {f g : Nat → Nat} (hN : N ≤ 6) (hf : bl_P N f) (hg : bl_P N g) : nI (bl_code f N) = nI (bl_code g N) ↔ ∀ p, f p = g p := by
  have a : ∀ p, p < N → f p < 9 := fun p hp => Nat.lt_trans (bl_P_lt hf hp) (by omega)
  have b : ∀ p, p < N → g p < 9 := fun p hp => Nat.lt_trans (bl_P_lt hg hp) (by omega)
  have a6 := bl_code_6 hN a
  have b6 := bl_code_6 hN b
  rw [nI_eq (by omega) (by omega)]
  exact ⟨fun h => bl_P_ext hf hg (bl_code_inj N a b h), fun h => bl_code_c N (fun p _ => h p)⟩
end
section
/-! the rank of a permutation -/
def bl_les (f : Nat → Nat) (i : Nat) : Nat → Nat → Nat → Nat
  | 0, _, a => a
  | d + 1, j, a => bl_les f i d (j + 1) (if f i ≤ f j then a else a + 1)
theorem bl_les_s {f : Nat → Nat} {i d j a : Nat} : bl_les f i (d + 1) j a = bl_les f i d (j + 1) (if f i ≤ f j then a else a + 1) := rfl
def bl_rk (N : Nat) (f : Nat → Nat) : Nat → Nat → Nat → Nat
  | 0, _, a => a
  | d + 1, i, a => bl_rk N f d (i + 1) (a * (N - i) + bl_les f i (N - (i + 1)) (i + 1) 0)
theorem bl_rk_s {N : Nat} {f : Nat → Nat} {d i a : Nat} : bl_rk N f (d + 1) i a = bl_rk N f d (i + 1) (a * (N - i) + bl_les f i (N - (i + 1)) (i + 1) 0) := rfl
def bl_rank (N : Nat) (f : Nat → Nat) : Nat := bl_rk N f N 0 0
theorem bl_les_c {N : Nat} {f g : Nat → Nat} (h : ∀ p, p < N → f p = g p) {i : Nat} (hi : i < N) : ∀ d j a, j + d ≤ N → bl_les f i d j a = bl_les g i d j a := by
  intro d
  induction d with
  | zero => intro j a _; rfl
  | succ d ih =>
    intro j a hj
    rw [bl_les_s, bl_les_s, h i hi, h j (by omega)]
    exact ih _ _ (by omega)
theorem bl_rk_c {N : Nat} {f g : Nat → Nat} (h : ∀ p, p < N → f p = g p) : ∀ d i a, i + d ≤ N → bl_rk N f d i a = bl_rk N g d i a := by
  intro d
  induction d with
  | zero => intro i a _; rfl
  | succ d ih =>
    intro i a hi
    rw [bl_rk_s, bl_rk_s, bl_les_c h (by omega) _ _ _ (by omega)]
    exact ih _ _ (by omega)
theorem bl_rank_c {N : Nat} {f g : Nat → Nat} (h : ∀ p, p < N → f p = g p) : bl_rank N f = bl_rank N g := bl_rk_c h N 0 0 (by omega)
def bl_fa : Nat → Nat
  | 0 => 1
  | n + 1 => (n + 1) * bl_fa n
def bl_un : Nat → Nat → List Nat → List Nat
  | 0, _, _ => []
  | d + 1, r, l => l.getD (r / bl_fa d) 0 :: bl_un d (r % bl_fa d) (l.eraseIdx (r / bl_fa d))
def bl_tab (l : List Nat) (p : Nat) : Nat := l.getD p 0
/-! every permutation of three to six places is found again from its rank -/
def bl_leaf (N : Nat) (l : List Nat) : Bool := decide (bl_rank N (bl_tab l) < 720) && decide (bl_un N (bl_rank N (bl_tab l)) (List.range N) = l)
def bl_ck (N : Nat) : Nat → List Nat → Bool
  | 0, l => bl_leaf N l
  | d + 1, l => (List.range N).all (fun a => l.contains a || bl_ck N d (l ++ [a]))
set_option maxRecDepth 100000 in
theorem bl_ck3 : bl_ck 3 3 [] = true := by decide +kernel
set_option maxRecDepth 100000 in
theorem bl_ck4 : bl_ck 4 4 [] = true := by decide +kernel
set_option maxRecDepth 100000 in
theorem bl_ck5 : bl_ck 5 5 [] = true := by decide +kernel
set_option maxRecDepth 100000 in
theorem bl_ck6 : bl_ck 6 6 [] = true := by decide +kernel
theorem bl_ck_s {N d : Nat} {l : List Nat} (h : bl_ck N (d + 1) l = true) {a : Nat} (ha : a < N) (hn : ¬ a ∈ l) : bl_ck N d (l ++ [a]) = true := by
  have h1 := List.all_eq_true.mp h a (List.mem_range.mpr ha)
  have h2 : (l.contains a || bl_ck N d (l ++ [a])) = true := h1
  have h3 : l.contains a = false := by
    cases hc : l.contains a
    · rfl
    · exact absurd (List.contains_iff_mem.mp hc) hn
  rw [h3, Bool.false_or] at h2
  exact h2
def bl_L (f : Nat → Nat) (k : Nat) : List Nat := (List.range k).map f
theorem bl_L_s (f : Nat → Nat) (k : Nat) : bl_L f (k + 1) = bl_L f k ++ [f k] := by
  unfold bl_L
  rw [List.range_succ, List.map_append]
  rfl
theorem bl_L_ck {N : Nat} {f : Nat → Nat} (hf : bl_P N f) (h : bl_ck N N [] = true) : ∀ k, k ≤ N → bl_ck N (N - k) (bl_L f k) = true := by
  intro k
  induction k with
  | zero => intro _; exact h
  | succ k ih =>
    intro hk
    have h1 := ih (by omega)
    rw [show N - k = (N - (k + 1)) + 1 by omega] at h1
    rw [bl_L_s]
    refine bl_ck_s h1 (bl_P_lt hf (by omega)) ?_
    intro hm
    obtain ⟨j, hj, e⟩ := List.mem_map.mp hm
    have hj2 := List.mem_range.mp hj
    have := bl_P_inj hf e
    omega
theorem bl_tab_L (f : Nat → Nat) {k p : Nat} (h : p < k) : bl_tab (bl_L f k) p = f p := by
  unfold bl_tab bl_L
  simp [List.getD_eq_getElem?_getD, h]
theorem bl_u {N : Nat} {f : Nat → Nat} (h : bl_ck N N [] = true) (hf : bl_P N f) : bl_rank N f < 720 ∧ bl_un N (bl_rank N f) (List.range N) = bl_L f N := by
  have h1 := bl_L_ck hf h N (Nat.le_refl N)
  rw [Nat.sub_self] at h1
  have h2 : (decide (bl_rank N (bl_tab (bl_L f N)) < 720) && decide (bl_un N (bl_rank N (bl_tab (bl_L f N))) (List.range N) = bl_L f N)) = true := h1
  have e : bl_rank N (bl_tab (bl_L f N)) = bl_rank N f := bl_rank_c (fun p hp => bl_tab_L f hp)
  rw [e, Bool.and_eq_true, decide_eq_true_iff, decide_eq_true_iff] at h2
  exact h2
theorem bl_ckN {N : Nat} (h3 : 3 ≤ N) (h6 : N ≤ 6) : bl_ck N N [] = true := by
  have h : N = 3 ∨ N = 4 ∨ N = 5 ∨ N = 6 := by omega
  rcases h with rfl | rfl | rfl | rfl
  · exact bl_ck3
  · exact bl_ck4
  · exact bl_ck5
  · exact bl_ck6
theorem bl_rank_lt {N : Nat} {f : Nat → Nat} (h3 : 3 ≤ N) (h6 : N ≤ 6) (hf : bl_P N f) : bl_rank N f < 720 := (bl_u (bl_ckN h3 h6) hf).1
theorem bl_rank_inj {N : Nat} {f g : Nat → Nat} (h3 : 3 ≤ N) (h6 : N ≤ 6) (hf : bl_P N f) (hg : bl_P N g) : bl_rank N f = bl_rank N g ↔ ∀ p, f p = g p := by
  refine ⟨fun h => bl_P_ext hf hg (fun p hp => ?_), fun h => bl_rank_c (fun p _ => h p)⟩
  have a := (bl_u (bl_ckN h3 h6) hf).2
  have b := (bl_u (bl_ckN h3 h6) hg).2
  rw [h] at a
  rw [← bl_tab_L f hp, ← bl_tab_L g hp, ← a, ← b]
end
section
/-! sets of numbers, 32 a word -/
theorem bl_b1 : ∀ i, i < 32 → bt 1 i = decide (i = 0) := by decide +kernel
theorem bl_and1 (x : Int32) : x &&& 1 = if bt x 0 = true then 1 else 0 := by
  cases hb : bt x 0
  · rw [if_neg (by decide)]
    apply b_ext
    intro i hi
    rw [b_and, bl_b1 i hi, b_0]
    by_cases h : i = 0
    · rw [h, hb]; rfl
    · rw [decide_eq_false h, Bool.and_false]
  · rw [if_pos rfl]
    apply b_ext
    intro i hi
    rw [b_and, bl_b1 i hi]
    by_cases h : i = 0
    · rw [h, hb]; rfl
    · rw [decide_eq_false h, Bool.and_false]
theorem bl_r31 {r : Nat} (hr : r < 2 ^ 31) : nI r &&& 31 = nI (r % 32) := pk_andN (by omega) 5 (by decide)
theorem bl_shr5 {r : Nat} (hr : r < 2 ^ 31) : nI r >>> ((5 : Int32) &&& 31) = nI (r / 32) := pk_shrN hr _ 5 (by decide)
theorem bl_test (w : Int32) {r : Nat} (hr : r < 2 ^ 31) : ((w >>> ((nI r &&& 31) &&& 31)) &&& 1) = 1 ↔ bt w (r % 32) = true := by
  rw [bl_r31 hr, bl_and1]
  have hj : r % 32 < 32 := Nat.mod_lt _ (by decide)
  rw [b_sshr _ hj w (by omega), if_pos (show r % 32 + 0 < 32 by omega), Nat.add_zero]
  cases bt w (r % 32)
  · decide
  · decide
theorem bl_one {j : Nat} (hj : j < 32) {i : Nat} (hi : i < 32) : bt ((1 : Int32) <<< (nI j &&& 31)) i = decide (i = j) := by
  rw [b_shl j hj 1 hi]
  rcases Nat.lt_or_ge i j with h | h
  · rw [decide_eq_false (by omega : ¬ j ≤ i), decide_eq_false (by omega : ¬ i = j), Bool.false_and]
  · rw [decide_eq_true h, Bool.true_and, bl_b1 _ (by omega)]
    by_cases e : i = j
    · rw [decide_eq_true e, decide_eq_true (by omega)]
    · rw [decide_eq_false e, decide_eq_false (by omega)]
theorem bl_and0 (w : Int32) {r : Nat} (hr : r < 2 ^ 31) : (w &&& ((1 : Int32) <<< ((nI r &&& 31) &&& 31))) = 0 ↔ ¬ bt w (r % 32) = true := by
  rw [bl_r31 hr]
  have hj : r % 32 < 32 := Nat.mod_lt _ (by decide)
  constructor
  · intro h z
    have a := congrArg (fun x => bt x (r % 32)) h
    have b : bt (w &&& ((1 : Int32) <<< (nI (r % 32) &&& 31))) (r % 32) = bt 0 (r % 32) := a
    rw [b_and, bl_one hj hj, z, b_0, decide_eq_true rfl] at b
    exact absurd b (by decide)
  · intro h
    apply b_ext
    intro i hi
    rw [b_and, bl_one hj hi, b_0]
    by_cases e : i = r % 32
    · rw [e]
      cases hb : bt w (r % 32)
      · rfl
      · exact absurd hb h
    · rw [decide_eq_false e, Bool.and_false]
theorem bl_orb (w : Int32) {r : Nat} (hr : r < 2 ^ 31) {i : Nat} (hi : i < 32) : bt (w ||| ((1 : Int32) <<< ((nI r &&& 31) &&& 31))) i = true ↔ (bt w i = true ∨ i = r % 32) := by
  rw [bl_r31 hr]
  have hj : r % 32 < 32 := Nat.mod_lt _ (by decide)
  rw [b_or, bl_one hj hi, Bool.or_eq_true, decide_eq_true_iff]
def bl_mem (a : Nat → Int32) (b r : Nat) : Prop := bt (a (b + r / 32)) (r % 32) = true
theorem bl_mem_put {a : Nat → Int32} {b r r' : Nat} (hr : r < 2 ^ 31) : bl_mem (upd a (b + r / 32) (a (b + r / 32) ||| ((1 : Int32) <<< ((nI r &&& 31) &&& 31)))) b r' ↔ (bl_mem a b r' ∨ r' = r) := by
  unfold bl_mem
  by_cases h : r' / 32 = r / 32
  · rw [h, pk_us, bl_orb _ hr (Nat.mod_lt _ (by decide))]
    constructor
    · rintro (z | z)
      · exact Or.inl z
      · exact Or.inr (by omega)
    · rintro (z | z)
      · exact Or.inl z
      · exact Or.inr (by rw [z])
  · rw [pk_un (by omega)]
    constructor
    · intro z; exact Or.inl z
    · rintro (z | z)
      · exact z
      · exact absurd (by rw [z]) h
theorem bl_mem_c {a a' : Nat → Int32} {b r : Nat} (h : a' (b + r / 32) = a (b + r / 32)) : bl_mem a' b r ↔ bl_mem a b r := by
  unfold bl_mem; rw [h]
theorem bl_mem_0 {a : Nat → Int32} {b r : Nat} (h : a (b + r / 32) = 0) : ¬ bl_mem a b r := by
  unfold bl_mem; rw [h, b_0]; decide
end
section
/-! the plain law: leads that share a row, true touches -/
def bl_FQ (N s : Nat) (A B : Nat → Nat → Nat) (q r : Nat) : Prop := ∃ f, bl_P N f ∧ (∀ p, f (B (q % s + 1) p) = A (q / s + 1) p) ∧ r = bl_rank N f
def bl_FS (N s : Nat) (A B : Nat → Nat → Nat) (n r : Nat) : Prop := ∃ q, q < n ∧ bl_FQ N s A B q r
theorem bl_FS_0 {N s : Nat} {A B : Nat → Nat → Nat} {r : Nat} : ¬ bl_FS N s A B 0 r := fun ⟨_, h, _⟩ => absurd h (by omega)
theorem bl_FS_s {N s : Nat} {A B : Nat → Nat → Nat} {n r : Nat} : bl_FS N s A B (n + 1) r ↔ (bl_FS N s A B n r ∨ bl_FQ N s A B n r) := by
  constructor
  · rintro ⟨q, hq, h⟩
    rcases Nat.lt_or_ge q n with a | a
    · exact Or.inl ⟨q, a, h⟩
    · have : q = n := by omega
      rw [this] at h
      exact Or.inr h
  · rintro (⟨q, hq, h⟩ | h)
    · exact ⟨q, by omega, h⟩
    · exact ⟨n, by omega, h⟩
/-- there is one permutation only -/
theorem bl_FQ_iff {N s : Nat} {A B : Nat → Nat → Nat} {q r : Nat} {f b : Nat → Nat} (hb : ∀ p, B (q % s + 1) (b p) = p) (hf : bl_P N f) (h : ∀ p, f (B (q % s + 1) p) = A (q / s + 1) p) : bl_FQ N s A B q r ↔ r = bl_rank N f := by
  constructor
  · rintro ⟨g, hg, e, er⟩
    rw [er]
    refine bl_rank_c (fun p _ => ?_)
    rw [← hb p, e, h]
  · intro e
    exact ⟨f, hf, h, e⟩
theorem bl_FS_iff {N s : Nat} {A B : Nat → Nat → Nat} {Hi hi Hj : Nat → Nat} (h3 : 3 ≤ N) (h6 : N ≤ 6) (e1 : ∀ p, hi (Hi p) = p) (e2 : ∀ p, Hi (hi p) = p) (Phi : bl_P N hi) (PHj : bl_P N Hj) :
    bl_FS N s A B (s * s) (bl_rank N (fun p => hi (Hj p))) ↔ ∃ k m, 1 ≤ k ∧ k ≤ s ∧ 1 ≤ m ∧ m ≤ s ∧ ∀ p, Hi (A k p) = Hj (B m p) := by
  have Pf : bl_P N (fun p => hi (Hj p)) := bl_P_comp Phi PHj
  constructor
  · rintro ⟨q, hq, f, hf, e, er⟩
    have ef := (bl_rank_inj h3 h6 Pf hf).mp er
    have hs : 0 < s := by
      rcases Nat.eq_zero_or_pos s with a | a
      · rw [a] at hq; omega
      · exact a
    have hd : q / s < s := by rw [Nat.div_lt_iff_lt_mul hs]; exact hq
    have hm : q % s < s := Nat.mod_lt _ hs
    refine ⟨q / s + 1, q % s + 1, Nat.le_add_left 1 _, hd, Nat.le_add_left 1 _, hm, fun p => ?_⟩
    rw [← e p, ← ef, e2]
  · rintro ⟨k, m, k1, k2, m1, m2, e⟩
    have hq : (k - 1) * s + (m - 1) < s * s := by
      have := Nat.mul_le_mul_right s (show k - 1 + 1 ≤ s by omega)
      rw [Nat.add_mul] at this
      omega
    have hd : ((k - 1) * s + (m - 1)) / s = k - 1 := by
      rw [Nat.add_comm, Nat.add_mul_div_right _ _ (by omega), Nat.div_eq_of_lt (by omega)]
      omega
    have hm : ((k - 1) * s + (m - 1)) % s = m - 1 := by
      rw [Nat.add_comm, Nat.add_mul_mod_self_right, Nat.mod_eq_of_lt (by omega)]
    refine ⟨(k - 1) * s + (m - 1), hq, fun p => hi (Hj p), Pf, fun p => ?_, rfl⟩
    rw [hd, hm, show k - 1 + 1 = k by omega, show m - 1 + 1 = m by omega]
    show hi (Hj (B m p)) = A k p
    rw [← e p, e1]
def bl_share (O : Nat → Nat → Nat → Nat) (s : Nat) (cl : Nat → Nat) (i j : Nat) : Prop := ∃ k m, 1 ≤ k ∧ k ≤ s ∧ 1 ≤ m ∧ m ≤ s ∧ ∀ p, bl_R O s cl i k p = bl_R O s cl j m p
/-- lead i and a lead with a call behind c leads -/
def bl_shareX (O : Nat → Nat → Nat → Nat) (s : Nat) (cl : Nat → Nat) (i j b : Nat) : Prop := ∃ k m, 1 ≤ k ∧ k ≤ s ∧ 1 ≤ m ∧ m ≤ s ∧ ∀ p, bl_H O s cl i (O (cl i) k p) = bl_H O s cl j (O b m p)
def bl_alone (O : Nat → Nat → Nat → Nat) (s a : Nat) : Prop := ∃ k m, 1 ≤ m ∧ m < k ∧ k ≤ s ∧ ∀ p, O a m p = O a k p
def bl_fresh (G : Nat → Nat → Nat) (k : Nat) : Prop := ∀ m, 1 ≤ m → m < k → ¬ ∀ p, G m p = G k p
def bl_true (O : Nat → Nat → Nat → Nat) (s : Nat) (cl : Nat → Nat) (c : Nat) : Prop := (∀ i, i < c → ¬ bl_alone O s (cl i)) ∧ ∀ i j, i < j → j < c → ¬ bl_share O s cl i j
theorem bl_le {s c i k : Nat} (hi : i < c) (hk : k ≤ s) : i * s + k ≤ c * s := by
  have := Nat.mul_le_mul_right s (show i + 1 ≤ c from hi)
  rw [Nat.add_mul] at this
  omega
theorem bl_true_iff {N : Nat} {O : Nat → Nat → Nat → Nat} {s : Nat} {cl : Nat → Nat} {c : Nat} (hO : ∀ a k, bl_P N (O a k)) : bl_true O s cl c ↔ ∀ k, k < c * s → bl_fresh (bl_G O s cl) (k + 1) := by
  constructor
  · rintro ⟨h1, h2⟩ k hk m m1 m2 e
    obtain ⟨j, b, hj, b1, b2, eb⟩ := bl_split (s := s) (c := c) (k := k + 1) (by omega) (by omega)
    obtain ⟨i, a, hi, a1, a2, ea⟩ := bl_split (s := s) (c := c) (k := m) m1 (by omega)
    rw [eb, ea] at e
    have e' : ∀ p, bl_R O s cl i a p = bl_R O s cl j b p := fun p => by
      have := e p
      rw [bl_G_ik a1 a2, bl_G_ik b1 b2] at this
      exact this
    rcases Nat.lt_trichotomy i j with q | q | q
    · exact h2 i j q hj ⟨a, b, a1, a2, b1, b2, e'⟩
    · subst q
      exact h1 i hi ⟨b, a, a1, by omega, b2, fun p => bl_P_inj (bl_H_P hO i) (e' p)⟩
    · have := bl_le (s := s) q b2
      omega
  · intro h
    refine ⟨?_, ?_⟩
    · rintro i hi ⟨k, m, m1, m2, k2, e⟩
      have hle := bl_le (s := s) hi k2
      have hf := h (i * s + k - 1) (by omega)
      rw [show i * s + k - 1 + 1 = i * s + k by omega] at hf
      refine hf (i * s + m) (by omega) (by omega) (fun p => ?_)
      rw [bl_G_ik m1 (by omega), bl_G_ik (by omega) k2]
      exact congrArg (bl_H O s cl i) (e p)
    · rintro i j hij hj ⟨k, m, k1, k2, m1, m2, e⟩
      have hle := bl_le (s := s) hj m2
      have hlt := bl_le (s := s) hij k2
      have hf := h (j * s + m - 1) (by omega)
      rw [show j * s + m - 1 + 1 = j * s + m by omega] at hf
      refine hf (i * s + k) (by omega) (by omega) (fun p => ?_)
      rw [bl_G_ik k1 k2, bl_G_ik m1 m2]
      exact e p
def bl_ext (cl : Nat → Nat) (c call : Nat) (i : Nat) : Nat := if i = c then call else cl i
theorem bl_ext_R {O : Nat → Nat → Nat → Nat} {s : Nat} {cl : Nat → Nat} {c call i : Nat} (hi : i < c) (k p : Nat) : bl_R O s (bl_ext cl c call) i k p = bl_R O s cl i k p := by
  unfold bl_R
  rw [bl_H_c (cl := bl_ext cl c call) (cl' := cl) i (fun j hj => if_neg (by omega)), show bl_ext cl c call i = cl i from if_neg (by omega)]
theorem bl_ext_Rc {O : Nat → Nat → Nat → Nat} {s : Nat} {cl : Nat → Nat} {c call : Nat} (k p : Nat) : bl_R O s (bl_ext cl c call) c k p = bl_H O s cl c (O call k p) := by
  unfold bl_R
  rw [bl_H_c (cl := bl_ext cl c call) (cl' := cl) c (fun j hj => if_neg (by omega)), show bl_ext cl c call c = call from if_pos rfl]
theorem bl_ext_true {O : Nat → Nat → Nat → Nat} {s : Nat} {cl : Nat → Nat} {c call : Nat} : bl_true O s (bl_ext cl c call) (c + 1) ↔ bl_true O s cl c ∧ ¬ bl_alone O s call ∧ ∀ i, i < c → ¬ bl_shareX O s cl i c call := by
  have sh : ∀ i j, i < c → j < c → (bl_share O s (bl_ext cl c call) i j ↔ bl_share O s cl i j) := by
    intro i j hi hj
    constructor
    · rintro ⟨k, m, a1, a2, a3, a4, e⟩
      exact ⟨k, m, a1, a2, a3, a4, fun p => by have := e p; rw [bl_ext_R hi, bl_ext_R hj] at this; exact this⟩
    · rintro ⟨k, m, a1, a2, a3, a4, e⟩
      exact ⟨k, m, a1, a2, a3, a4, fun p => by rw [bl_ext_R hi, bl_ext_R hj]; exact e p⟩
  have sx : ∀ i, i < c → (bl_share O s (bl_ext cl c call) i c ↔ bl_shareX O s cl i c call) := by
    intro i hi
    constructor
    · rintro ⟨k, m, a1, a2, a3, a4, e⟩
      exact ⟨k, m, a1, a2, a3, a4, fun p => by have := e p; rw [bl_ext_R hi, bl_ext_Rc] at this; exact this⟩
    · rintro ⟨k, m, a1, a2, a3, a4, e⟩
      exact ⟨k, m, a1, a2, a3, a4, fun p => by rw [bl_ext_R hi, bl_ext_Rc]; exact e p⟩
  have ec : bl_ext cl c call c = call := if_pos rfl
  have ei : ∀ i, i < c → bl_ext cl c call i = cl i := fun i hi => if_neg (by omega)
  constructor
  · rintro ⟨h1, h2⟩
    refine ⟨⟨fun i hi => ?_, fun i j hij hj => ?_⟩, ?_, fun i hi => ?_⟩
    · have := h1 i (by omega)
      rw [ei i hi] at this
      exact this
    · have := h2 i j hij (by omega)
      rw [sh i j (by omega) hj] at this
      exact this
    · have := h1 c (by omega)
      rw [ec] at this
      exact this
    · have := h2 i c hi (by omega)
      rw [sx i hi] at this
      exact this
  · rintro ⟨⟨h1, h2⟩, h3, h4⟩
    refine ⟨fun i hi => ?_, fun i j hij hj => ?_⟩
    · rcases Nat.lt_or_ge i c with a | a
      · rw [ei i a]; exact h1 i a
      · have : i = c := by omega
        rw [this, ec]; exact h3
    · rcases Nat.lt_or_ge j c with a | a
      · rw [sh i j (by omega) a]; exact h2 i j hij a
      · have : j = c := by omega
        rw [this, sx i (by omega)]; exact h4 i (by omega)
/-! counts over pairs -/
def bl_sum (f : Nat → Nat) : Nat → Nat
  | 0 => 0
  | a + 1 => bl_sum f a + f a
theorem bl_cnt_sq {Q : Nat → Nat → Prop} (c : Nat) : ∀ a, bl_cnt (fun q => Q (q / c) (q % c)) (a * c) = bl_sum (fun i => bl_cnt (Q i) c) a := by
  intro a
  induction a with
  | zero => rw [Nat.zero_mul]; rfl
  | succ a ih =>
    rw [Nat.add_mul, Nat.one_mul, bl_cnt_add, ih]
    show _ = bl_sum (fun i => bl_cnt (Q i) c) a + bl_cnt (Q a) c
    congr 1
    refine bl_cnt_c c (fun j hj => ?_)
    have hd : (a * c + j) / c = a := by
      rw [Nat.add_comm, Nat.add_mul_div_right _ _ (by omega), Nat.div_eq_of_lt hj]
      omega
    have hm : (a * c + j) % c = j := by
      rw [Nat.add_comm, Nat.add_mul_mod_self_right, Nat.mod_eq_of_lt hj]
    show Q ((a * c + j) / c) ((a * c + j) % c) ↔ Q a j
    rw [hd, hm]
end
section
/-! a permutation again and again -/
def bl_it (P : Nat → Nat) : Nat → Nat → Nat
  | 0, p => p
  | m + 1, p => bl_it P m (P p)
theorem bl_it_s {P : Nat → Nat} {m p : Nat} : bl_it P (m + 1) p = bl_it P m (P p) := rfl
theorem bl_it_c {P : Nat → Nat} : ∀ m p, P (bl_it P m p) = bl_it P (m + 1) p := by
  intro m
  induction m with
  | zero => intro p; rfl
  | succ m ih => intro p; rw [bl_it_s, ih, ← bl_it_s]
theorem bl_it_add {P : Nat → Nat} (a : Nat) : ∀ b p, bl_it P (a + b) p = bl_it P a (bl_it P b p) := by
  intro b
  induction b with
  | zero => intro p; rfl
  | succ b ih => intro p; rw [← Nat.add_assoc, bl_it_s, ih]; rfl
theorem bl_it_P {N : Nat} {P : Nat → Nat} (hP : bl_P N P) : ∀ m, bl_P N (bl_it P m) := by
  intro m
  induction m with
  | zero => exact bl_P_id N
  | succ m ih =>
    have h := bl_P_comp ih hP
    exact h
theorem bl_pig : ∀ (n : Nat) (f : Nat → Nat), (∀ i, i ≤ n → f i < n) → ∃ i j, i < j ∧ j ≤ n ∧ f i = f j := by
  intro n
  induction n with
  | zero => intro f h; have := h 0 (by omega); omega
  | succ n ih =>
    intro f h
    rcases Classical.em (∃ i, i ≤ n ∧ f i = f (n + 1)) with ⟨i, hi, e⟩ | hno
    · exact ⟨i, n + 1, by omega, by omega, e⟩
    · have hne : ∀ i, i ≤ n → f i ≠ f (n + 1) := fun i hi e => hno ⟨i, hi, e⟩
      have hl := h (n + 1) (by omega)
      obtain ⟨i, j, hij, hj, e⟩ := ih (fun i => if f i = n then f (n + 1) else f i) (fun i hi => by
        have a := h i (by omega)
        have b := hne i hi
        show (if f i = n then f (n + 1) else f i) < n
        split <;> omega)
      have bi := hne i (by omega)
      have bj := hne j hj
      refine ⟨i, j, hij, by omega, ?_⟩
      have e' : (if f i = n then f (n + 1) else f i) = (if f j = n then f (n + 1) else f j) := e
      by_cases h1 : f i = n
      · by_cases h2 : f j = n
        · rw [h1, h2]
        · rw [if_pos h1, if_neg h2] at e'
          exact absurd e'.symm bj
      · by_cases h2 : f j = n
        · rw [if_neg h1, if_pos h2] at e'
          exact absurd e' bi
        · rw [if_neg h1, if_neg h2] at e'
          exact e'
theorem bl_back {N : Nat} {P : Nat → Nat} (hP : bl_P N P) {p : Nat} (hp : p < N) : ∃ r, 1 ≤ r ∧ r ≤ N ∧ bl_it P r p = p := by
  obtain ⟨i, j, hij, hj, e⟩ := bl_pig N (fun t => bl_it P t p) (fun t _ => bl_P_lt (bl_it_P hP t) hp)
  refine ⟨j - i, by omega, by omega, ?_⟩
  have e' : bl_it P i p = bl_it P j p := e
  rw [show j = i + (j - i) by omega, bl_it_add] at e'
  exact (bl_P_inj (bl_it_P hP i) e').symm
def bl_cyc (P : Nat → Nat) (p r : Nat) : Prop := 1 ≤ r ∧ bl_it P r p = p ∧ ∀ t, 1 ≤ t → t < r → bl_it P t p ≠ p
theorem bl_it_mul {P : Nat → Nat} {p r : Nat} (h : bl_it P r p = p) : ∀ q, bl_it P (q * r) p = p := by
  intro q
  induction q with
  | zero => rw [Nat.zero_mul]; rfl
  | succ q ih => rw [Nat.add_mul, Nat.one_mul, bl_it_add, h, ih]
theorem bl_cyc_dvd {P : Nat → Nat} {p r : Nat} (h : bl_cyc P p r) (m : Nat) : r ∣ m ↔ bl_it P m p = p := by
  obtain ⟨h1, h2, h3⟩ := h
  constructor
  · rintro ⟨q, rfl⟩
    rw [Nat.mul_comm]
    exact bl_it_mul h2 q
  · intro e
    have hm := Nat.div_add_mod' m r
    have e2 : bl_it P (m % r) p = p := by
      have := e
      rw [← hm, Nat.add_comm, bl_it_add, bl_it_mul h2] at this
      exact this
    rcases Nat.eq_zero_or_pos (m % r) with a | a
    · exact Nat.dvd_of_mod_eq_zero a
    · exact absurd e2 (h3 _ a (Nat.mod_lt _ (by omega)))
theorem bl_60 {r : Nat} (h1 : 1 ≤ r) (h6 : r ≤ 6) : r ∣ 60 := by
  have h : r = 1 ∨ r = 2 ∨ r = 3 ∨ r = 4 ∨ r = 5 ∨ r = 6 := by omega
  rcases h with rfl | rfl | rfl | rfl | rfl | rfl <;> decide
/-- what X's loop over the places has reckoned: the number T for the places below p -/
def bl_T (P : Nat → Nat) (p T : Nat) : Prop := 1 ≤ T ∧ T ∣ 60 ∧ ∀ m, T ∣ m ↔ ∀ q, q < p → bl_it P m q = q
theorem bl_T_0 (P : Nat → Nat) : bl_T P 0 1 := ⟨Nat.le_refl 1, by decide, fun m => ⟨fun _ q hq => by omega, fun _ => Nat.one_dvd m⟩⟩
theorem bl_T_s {P : Nat → Nat} {p T r : Nat} (h : bl_T P p T) (hr : r ≤ 6) (hc : bl_cyc P p r) : bl_T P (p + 1) (T * r / Nat.gcd T r) := by
  obtain ⟨h1, h2, h3⟩ := h
  have e : T * r / Nat.gcd T r = Nat.lcm T r := rfl
  rw [e]
  have h60 : Nat.lcm T r ∣ 60 := Nat.lcm_dvd h2 (bl_60 hc.1 hr)
  refine ⟨Nat.pos_of_dvd_of_pos h60 (by decide), h60, fun m => ?_⟩
  constructor
  · intro d q hq
    rcases Nat.lt_or_ge q p with a | a
    · exact (h3 m).mp (Nat.dvd_trans (Nat.dvd_lcm_left T r) d) q a
    · have : q = p := by omega
      rw [this]
      exact (bl_cyc_dvd hc m).mp (Nat.dvd_trans (Nat.dvd_lcm_right T r) d)
  · intro d
    exact Nat.lcm_dvd ((h3 m).mpr (fun q hq => d q (by omega))) ((bl_cyc_dvd hc m).mpr (d p (by omega)))
theorem bl_T_le {P : Nat → Nat} {p T : Nat} (h : bl_T P p T) : T ≤ 60 := Nat.le_of_dvd (by decide) h.2.1
theorem bl_T_id {N T : Nat} {P : Nat → Nat} (hN : N ≤ 6) (hP : bl_P N P) (h : bl_T P N T) (m : Nat) : nI (bl_code (bl_it P m) N) = nI (bl_code (fun p => p) N) ↔ T ∣ m := by
  rw [bl_code_P hN (bl_it_P hP m) (bl_P_id N), h.2.2 m]
  exact ⟨fun e q _ => e q, fun e => bl_P_ext (bl_it_P hP m) (bl_P_id N) e⟩
end
section
/-! isChange, on both sides -/
section BLC
variable {N s c : Nat} {kn ls : Int32} {M C L off hd fs mt iv md bs ro : Nat → Int32}
theorem bx_isC0 {z x3 : Int32} {post : Int32 → Prop} {n : Nat} (K : post 0) : wX_isChange_20 post z (nI N) (nI s) (nI c) kn M C L off hd fs mt iv md (n + 1) 0 x3 := br_c (fun _ => ⟨narrow_b0, K⟩) (fun _ => br_t rfl ⟨narrow_b0, K⟩)
theorem bx_isC {z : Int32} {post : Int32 → Prop} (hN : N ≤ 6) : ∀ d p, N ≤ p + d → p ≤ N + 1 → post (if bl_ok N z d p = true then 1 else 0) → wX_isChange_20 post z (nI N) (nI s) (nI c) kn M C L off hd fs mt iv md (d + 1 + 1) 1 (nI p) := by
  intro d
  induction d with
  | zero =>
    intro p h hp K
    rw [show bl_ok N z 0 p = true from rfl, if_pos rfl] at K
    exact br_t (nI_le (by omega) (by omega)) ⟨narrow_b1, K⟩
  | succ d ih =>
    intro p h hp K
    rw [bl_ok_s] at K
    refine pk_le N p (fun a => ?_) (fun a => ?_)
    · rw [if_pos a, if_pos rfl] at K
      exact ⟨narrow_b1, K⟩
    · rw [if_neg (show ¬ N ≤ p by omega)] at K
      refine br_f (by decide) ?_
      by_cases b : ((z >>> (nI p &&& 31)) &&& 1) = 1
      · rw [if_pos b] at K
        exact br_t b (nm_r (nI_1 p) (ih (p + 1) (by omega) (by omega) K))
      · rw [if_neg b] at K
        refine br_f b ?_
        rw [nI_1 p]
        refine pk_le N (p + 1) (fun a2 => ?_) (fun a2 => ?_)
        · rw [if_pos a2, if_neg (by decide)] at K
          exact fun x _ => bx_isC0 K
        · rw [if_neg (show ¬ N ≤ p + 1 by omega)] at K
          by_cases b2 : ((z >>> (nI (p + 1) &&& 31)) &&& 1) = 0
          · rw [if_pos b2] at K
            exact br_t b2 (nm_r (bl_2 p) (ih (p + 2) (by omega) (by omega) K))
          · rw [if_neg b2, if_neg (by decide)] at K
            exact br_f b2 (fun x _ => bx_isC0 K)
theorem yl_isC {z : Int32} {post : Int32 → Prop} (hN : N ≤ 6) : ∀ d p, N ≤ p + d → p ≤ N + 1 → post (if bl_ok N z d p = true then 1 else 0) → wY_isChange_18 post z (nI N) (nI s) (nI c) ls M C L bs ro (d + 1) (nI p) := by
  intro d
  induction d with
  | zero =>
    intro p h hp K
    rw [show bl_ok N z 0 p = true from rfl, if_pos rfl] at K
    exact br_t (nI_le (by omega) (by omega)) K
  | succ d ih =>
    intro p h hp K
    rw [bl_ok_s] at K
    refine pk_le N p (fun a => ?_) (fun a => ?_)
    · rw [if_pos a, if_pos rfl] at K
      exact K
    · rw [if_neg (show ¬ N ≤ p by omega)] at K
      by_cases b : ((z >>> (nI p &&& 31)) &&& 1) = 1
      · rw [if_pos b] at K
        exact br_t b (nm_r (nI_1 p) (ih (p + 1) (by omega) (by omega) K))
      · rw [if_neg b] at K
        refine br_f b ?_
        rw [nI_1 p]
        refine pk_le N (p + 1) (fun a2 => ?_) (fun a2 => ?_)
        · rw [if_pos a2, if_neg (by decide)] at K
          exact K
        · rw [if_neg (show ¬ N ≤ p + 1 by omega)] at K
          by_cases b2 : ((z >>> (nI (p + 1) &&& 31)) &&& 1) = 0
          · rw [if_pos b2] at K
            exact br_t b2 (nm_r (bl_2 p) (ih (p + 2) (by omega) (by omega) K))
          · rw [if_neg b2, if_neg (by decide)] at K
            exact br_f b2 K
def bl_isC (N : Nat) (z : Int32) : Int32 := if z < 0 then 0 else if z < ((1 : Int32) <<< (nI N &&& 31)) then (if bl_ok N z N 0 = true then 1 else 0) else 0
theorem bx_isChange {z : Int32} {post : Int32 → Prop} (hN : N ≤ 6) (K : post (bl_isC N z)) : wpX_isChange post (nI N, nI s, nI c, kn, M, C, L, off, hd, fs, mt, iv, md) z := by
  unfold bl_isC at K
  by_cases h0 : z < 0
  · rw [if_pos h0] at K
    exact br_t h0 K
  · rw [if_neg h0] at K
    by_cases h1 : z < ((1 : Int32) <<< (nI N &&& 31))
    · rw [if_pos h1] at K
      exact br_f h0 (br_t h1 ⟨N + 1 + 1, bx_isC hN N 0 (by omega) (by omega) K⟩)
    · rw [if_neg h1] at K
      exact br_f h0 (br_f h1 K)
theorem yl_isChange {z : Int32} {post : Int32 → Prop} (hN : N ≤ 6) (K : post (bl_isC N z)) : wpY_isChange post (nI N, nI s, nI c, ls, M, C, L, bs, ro) z := by
  unfold bl_isC at K
  by_cases h0 : z < 0
  · rw [if_pos h0] at K
    exact br_t h0 K
  · rw [if_neg h0] at K
    by_cases h1 : z < ((1 : Int32) <<< (nI N &&& 31))
    · rw [if_pos h1] at K
      exact br_f h0 (br_t h1 ⟨N + 1, yl_isC hN N 0 (by omega) (by omega) K⟩)
    · rw [if_neg h1] at K
      exact br_f h0 (br_f h1 K)
theorem bl_shl (h3 : 3 ≤ N) (hN : N ≤ 6) : ∃ m, m ≤ 64 ∧ ((1 : Int32) <<< (nI N &&& 31)) = nI m := by
  have h : N = 3 ∨ N = 4 ∨ N = 5 ∨ N = 6 := by omega
  rcases h with rfl | rfl | rfl | rfl
  · exact ⟨8, by omega, by decide⟩
  · exact ⟨16, by omega, by decide⟩
  · exact ⟨32, by omega, by decide⟩
  · exact ⟨64, by omega, by decide⟩
theorem bl_isC_ok {z : Int32} (h3 : 3 ≤ N) (hN : N ≤ 6) (h : ¬ bl_isC N z = 0) : bl_ok N z N 0 = true ∧ ∃ m, m < 64 ∧ z = nI m := by
  unfold bl_isC at h
  by_cases h0 : z < 0
  · rw [if_pos h0] at h
    exact absurd rfl h
  · rw [if_neg h0] at h
    by_cases h1 : z < ((1 : Int32) <<< (nI N &&& 31))
    · rw [if_pos h1] at h
      constructor
      · by_cases h2 : bl_ok N z N 0 = true
        · exact h2
        · rw [if_neg h2] at h
          exact absurd rfl h
      · obtain ⟨m, hm, e⟩ := bl_shl h3 hN
        obtain ⟨j, hj, rfl⟩ := nI_of h0
        rw [e, nI_ltI hj (by omega)] at h1
        exact ⟨j, by omega, rfl⟩
    · rw [if_neg h1] at h
      exact absurd rfl h
end BLC
end
section
/-! X: one row of a lead, all rows of a lead -/
section BLS
variable {N s c : Nat} {kn : Int32} {M C L off hd fs mt iv md : Nat → Int32}
theorem bx_off {post : Int32 → Prop} (u : SX) {a b : Nat} (K : post (nI (78 * a + 6 * b))) : wpX_offsetAt post u (nI a) (nI b) := by
  obtain ⟨u1, u2, u3, u4, u5, u6, u7, u8, u9, u10, u11, u12, u13⟩ := u
  show post (78 * nI a + 6 * nI b)
  rw [bl_m78, bl_m6, nI_add]
  exact K
theorem bx_step51 {post : SX → Prop} {z : Int32} {fr to : Nat} (hN : N ≤ 6) (h1 : fr + 6 ≤ to) (h2 : to + 6 ≤ 234) : ∀ d p (off : Nat → Int32), N ≤ p + d → p ≤ N + 1 → (∀ j, j < N → ∃ m, m < 6 ∧ off (fr + j) = nI m) →
    (∀ off' : Nat → Int32, (∀ j, p ≤ j → j < N → off' (to + j) = off (fr + bl_g N z d p j)) → (∀ i, (i < to + p ∨ to + N ≤ i) → off' i = off i) → post (nI N, nI s, nI c, kn, M, C, L, off', hd, fs, mt, iv, md)) → wX_step_51 post z (nI fr) (nI to) (nI N) (nI s) (nI c) kn (d + 1) (nI p) M C L off hd fs mt iv md := by
  intro d
  induction d with
  | zero =>
    intro p off hdd hp hv K
    exact br_t (nI_le (by omega) (by omega)) (K off (fun j a b => by omega) (fun _ _ => rfl))
  | succ d ih =>
    intro p off hdd hp hv K
    refine pk_le N p (fun a => K off (fun j a b => by omega) (fun _ _ => rfl)) (fun a => ?_)
    obtain ⟨m, hm, em⟩ := hv p a
    have S81 : (∀ j, bl_g N z (d + 1) p j = bl_g N z d (p + 1) j) → wX_step_81 post (wX_step_51 post z (nI fr) (nI to) (nI N) (nI s) (nI c) kn (d + 1)) z (nI fr) (nI to) (nI p) (nI N) (nI s) (nI c) kn M C L off hd fs mt iv md := by
      intro e
      unfold wX_step_81
      rw [nI_add fr p, nI_add to p]
      refine ⟨vp_in_nI (by omega) (by omega), vp_in_nI (by omega) (by omega), ?_⟩
      rw [nI_clamp (n := fr + p) (by omega), nI_clamp (n := to + p) (by omega), em, bl_nar (m := m) (by omega)]
      refine nm_e (nm_r (nI_1 p) ?_)
      refine ih (p + 1) _ (by omega) (by omega) ?_ ?_
      · intro j hj
        rw [pk_un (by omega)]
        exact hv j hj
      · intro off' A B
        refine K off' ?_ ?_
        · intro j a1 a2
          rcases Nat.lt_or_ge p j with q | q
          · have := bl_g_lt (N := N) (z := z) d (p + 1) j a2
            rw [A j q a2, pk_un (by omega), e]
          · have ej : j = p := by omega
            subst ej
            rw [B (to + j) (Or.inl (by omega)), pk_us, e, bl_g_lo _ _ _ (by omega), em]
        · intro i hi
          rw [B i (by omega), pk_un (by omega)]
    by_cases b : ((z >>> (nI p &&& 31)) &&& 1) = 1
    · exact br_t b (S81 (fun j => by rw [bl_g_s, if_neg (by omega), if_pos b]))
    · refine br_f b ?_
      rw [nI_1 p]
      refine pk_eq (p + 1) N (fun e => S81 (fun j => by rw [bl_g_s, if_neg (by omega), if_neg b, if_pos e])) (fun e => ?_)
      obtain ⟨m', hm', em'⟩ := hv (p + 1) (by omega)
      have em2 : off (fr + p + 1) = nI m' := em'
      have ge : ∀ j, bl_g N z (d + 1) p j = if j = p then p + 1 else if j = p + 1 then p else bl_g N z d (p + 2) j := fun j => by
        rw [bl_g_s, if_neg (by omega), if_neg b, if_neg e]
      rw [nI_add fr p, nI_add to p, nI_1 (fr + p), nI_1 (to + p)]
      rw [nI_clamp (n := fr + p + 1) (by omega), nI_clamp (n := to + p) (by omega), nI_clamp (n := fr + p) (by omega), nI_clamp (n := to + p + 1) (by omega), em2, bl_nar (m := m') (by omega)]
      refine ⟨vp_in_nI (by omega) (by omega), vp_in_nI (by omega) (by omega), nm_e ⟨vp_in_nI (by omega) (by omega), vp_in_nI (by omega) (by omega), ?_⟩⟩
      rw [pk_un (by omega), em, bl_nar (m := m) (by omega)]
      refine nm_e (nm_r (bl_2 p) ?_)
      refine ih (p + 2) _ (by omega) (by omega) ?_ ?_
      · intro j hj
        rw [pk_un (by omega), pk_un (by omega)]
        exact hv j hj
      · intro off' A B
        refine K off' ?_ ?_
        · intro j a1 a2
          rw [ge]
          by_cases q1 : j = p
          · subst q1
            rw [if_pos rfl, B (to + j) (Or.inl (by omega)), pk_un (by omega), pk_us, em']
          · by_cases q2 : j = p + 1
            · subst q2
              rw [if_neg q1, if_pos rfl, B (to + (p + 1)) (Or.inl (by omega)), show to + (p + 1) = to + p + 1 by omega, pk_us, em]
            · have := bl_g_lt (N := N) (z := z) d (p + 2) j a2
              rw [if_neg q1, if_neg q2, A j (by omega) a2, pk_un (by omega), pk_un (by omega)]
        · intro i hi
          rw [B i (by omega), pk_un (by omega), pk_un (by omega)]
theorem bx_step29 {post : SX → Prop} {call k : Nat} {z : Int32} (hk : 1 ≤ k) (K : ∃ n, wX_step_51 post z (nI (78 * call + 6 * (k - 1))) (nI (78 * call + 6 * k)) (nI N) (nI s) (nI c) kn n 0 M C L off hd fs mt iv md) : wX_step_29 post (nI call) (nI k) z (nI N) (nI s) (nI c) kn M C L off hd fs mt iv md := by
  unfold wX_step_29
  rw [bl_s (by omega)]
  exact bx_off _ (bx_off _ K)
theorem bx_step {post : SX → Prop} {call k : Nat} (hN : N ≤ 6) (hs : s ≤ 12) (hc : call < 3) (hk : 1 ≤ k) (hks : k ≤ s)
    (hv : ∀ p, p < N → off (78 * call + 6 * (k - 1) + p) = nI (bl_O N s M C call (k - 1) p))
    (K : ∀ off' : Nat → Int32, (∀ p, p < N → off' (78 * call + 6 * k + p) = nI (bl_O N s M C call k p)) → (∀ i, (i < 78 * call + 6 * k ∨ 78 * call + 6 * k + 6 ≤ i) → off' i = off i) → post (nI N, nI s, nI c, kn, M, C, L, off', hd, fs, mt, iv, md)) : wpX_step post (nI N, nI s, nI c, kn, M, C, L, off, hd, fs, mt, iv, md) (nI call) (nI k) := by
  have W : ∃ n, wX_step_51 post (bl_set s M C call k) (nI (78 * call + 6 * (k - 1))) (nI (78 * call + 6 * k)) (nI N) (nI s) (nI c) kn n 0 M C L off hd fs mt iv md := by
    refine ⟨N + 1, bx_step51 hN (by omega) (by omega) N 0 off (by omega) (by omega) ?_ ?_⟩
    · intro j hj
      have := bl_P_lt (bl_O_P N s M C call (k - 1)) hj
      exact ⟨_, by omega, hv j hj⟩
    · intro off' A B
      refine K off' ?_ (fun i hi => B i (by omega))
      intro p hp
      obtain ⟨k', rfl⟩ : ∃ k', k = k' + 1 := ⟨k - 1, by omega⟩
      rw [A p (by omega) hp, hv _ (bl_g_lt _ _ _ hp)]
      rfl
  have W21 : bl_set s M C call k = M (k - 1) → wX_step_21 post (nI call) (nI k) (nI N) (nI s) (nI c) kn M C L off hd fs mt iv md := by
    intro e
    unfold wX_step_21
    rw [bl_s (by omega), nI_clamp (n := k - 1) (by omega)]
    rw [e] at W
    exact ⟨vp_in_nI (by omega) (by omega), bx_step29 hk W⟩
  refine pk_eq k s (fun e => ?_) (fun e => W21 (by unfold bl_set; rw [if_neg e]))
  refine pk_le call 0 (fun h => W21 (by unfold bl_set; rw [if_pos e, if_neg (by omega)])) (fun h => ⟨vp_in_nI hc (by omega), ?_⟩)
  rw [nI_clamp (n := call) (by omega)]
  have e2 : bl_set s M C call k = C call := by unfold bl_set; rw [if_pos e, if_pos h]
  rw [e2] at W
  exact bx_step29 hk W
/-- the rows of a lead -/
def bl_OFF (N s : Nat) (M C off : Nat → Int32) (call n : Nat) : Prop := ∀ k, k < n → ∀ p, p < N → off (78 * call + 6 * k + p) = nI (bl_O N s M C call k p)
theorem bx_fo31 {post : SX → Prop} {call : Nat} (hN : N ≤ 6) (hs : s ≤ 12) (hc : call < 3) : ∀ d k (off : Nat → Int32), k + d = s + 1 → 1 ≤ k → bl_OFF N s M C off call k →
    (∀ off' : Nat → Int32, bl_OFF N s M C off' call (s + 1) → (∀ i, (i < 78 * call ∨ 78 * call + 78 ≤ i) → off' i = off i) → post (nI N, nI s, nI c, kn, M, C, L, off', hd, fs, mt, iv, md)) → wX_findOffsets_31 post (nI call) (d + 1) (nI k) (nI N) (nI s) (nI c) kn M C L off hd fs mt iv md := by
  intro d
  induction d with
  | zero =>
    intro k off hdd hk h K
    have e : k = s + 1 := by omega
    exact br_t (nI_lt (by omega) (by omega)) (K off (e ▸ h) (fun _ _ => rfl))
  | succ d ih =>
    intro k off hdd hk h K
    refine br_f (nI_nlt (by omega) (by omega)) ?_
    refine bx_step hN hs hc hk (by omega) (fun p hp => h (k - 1) (by omega) p hp) ?_
    intro off' A B
    refine nm_r (nI_1 k) (ih (k + 1) off' (by omega) (by omega) ?_ ?_)
    · intro k' hk' p hp
      rcases Nat.lt_or_ge k' k with q | q
      · rw [B _ (by omega)]
        exact h k' q p hp
      · have : k' = k := by omega
        subst this
        exact A p hp
    · intro off2 A2 B2
      exact K off2 A2 (fun i hi => by rw [B2 i hi, B i (by omega)])
theorem bx_fo2 {post : SX → Prop} {call : Nat} (hN : N ≤ 6) (hc : call < 3) : ∀ d p (off : Nat → Int32), p + d = N → (∀ j, j < p → off (78 * call + j) = nI j) →
    (∀ off' : Nat → Int32, (∀ j, j < N → off' (78 * call + j) = nI j) → (∀ i, (i < 78 * call ∨ 78 * call + 78 ≤ i) → off' i = off i) → ∃ n, wX_findOffsets_31 post (nI call) n 1 (nI N) (nI s) (nI c) kn M C L off' hd fs mt iv md) → wX_findOffsets_2 post (nI call) (nI N) (nI s) (nI c) kn (d + 1) (nI p) M C L off hd fs mt iv md := by
  intro d
  induction d with
  | zero =>
    intro p off hdd h K
    have e : p = N := by omega
    exact br_t (nI_le (by omega) (by omega)) (K off (e ▸ h) (fun _ _ => rfl))
  | succ d ih =>
    intro p off hdd h K
    refine br_f (nI_ge (by omega) (by omega)) ?_
    rw [bl_m78, nI_add, nI_clamp (n := 78 * call + p) (by omega), bl_nar8 (m := p) (by omega)]
    refine ⟨vp_in_nI (by omega) (by omega), nm_e (nm_r (nI_1 p) (ih (p + 1) _ (by omega) ?_ ?_))⟩
    · intro j hj
      by_cases q : j = p
      · subst q; exact pk_us
      · rw [pk_un (by omega)]; exact h j (by omega)
    · intro off' A B
      exact K off' A (fun i hi => by rw [B i hi, pk_un (by omega)])
theorem bx_findOffsets {post : SX → Prop} {call : Nat} (hN : N ≤ 6) (hs : s ≤ 12) (hc : call < 3)
    (K : ∀ off' : Nat → Int32, bl_OFF N s M C off' call (s + 1) → (∀ i, (i < 78 * call ∨ 78 * call + 78 ≤ i) → off' i = off i) → post (nI N, nI s, nI c, kn, M, C, L, off', hd, fs, mt, iv, md)) : wpX_findOffsets post (nI N, nI s, nI c, kn, M, C, L, off, hd, fs, mt, iv, md) (nI call) := by
  refine ⟨N + 1, bx_fo2 hN hc N 0 off (by omega) (fun j hj => by omega) (fun off' A B => ⟨s + 1, bx_fo31 hN hs hc s 1 off' (by omega) (by omega) ?_ ?_⟩)⟩
  · intro k hk p hp
    have : k = 0 := by omega
    subst this
    exact A p hp
  · intro off2 A2 B2
    exact K off2 A2 (fun i hi => by rw [B2 i hi, B i hi])
end BLS
end
section
/-! X: ranks, the sets of false permutations, find -/
section BLF
variable {N s c : Nat} {kn : Int32} {M C L off hd fs mt iv md : Nat → Int32}
theorem bx_rk19 {post : Int32 → Prop} {J : Int32 → Int32 → Prop} {f : Nat → Nat} {a i : Nat} (hN : N ≤ 6) (hm : ∀ p, p < N → md p = nI (f p)) (hf : ∀ p, p < N → f p < N) (hi : i < N) : ∀ d j b, j + d = N → J (nI (a * (N - i) + bl_les f i d j b)) (nI (i + 1)) → wX_rankMade_19 post J (nI a) (nI i) (nI N) (nI s) (nI c) kn M C L off hd fs mt iv md (d + 1) (nI b) (nI j) := by
  intro d
  induction d with
  | zero =>
    intro j b hj K
    refine br_t (nI_le (by omega) (by omega)) (nm_r (e' := nI (a * (N - i) + b)) ?_ (nm_r (nI_1 i) K))
    rw [pk_sub (by omega), pk_mul, nI_add]
  | succ d ih =>
    intro j b hj K
    refine br_f (nI_ge (by omega) (by omega)) ⟨vp_in_nI (by omega) (by omega), vp_in_nI (by omega) (by omega), ?_⟩
    rw [nI_clamp (n := i) (by omega), nI_clamp (n := j) (by omega), hm i hi, hm j (by omega)]
    have fi := hf i hi
    have fj := hf j (by omega)
    rw [bl_les_s] at K
    refine pk_le (f i) (f j) (fun q => ?_) (fun q => ?_)
    · rw [if_pos q] at K
      exact nm_r (nI_1 j) (ih (j + 1) b (by omega) K)
    · rw [if_neg (by omega)] at K
      exact nm_r (nI_1 b) (nm_r (nI_1 j) (ih (j + 1) (b + 1) (by omega) K))
theorem bx_rk4 {post : Int32 → Prop} {f : Nat → Nat} (hN : N ≤ 6) (hm : ∀ p, p < N → md p = nI (f p)) (hf : ∀ p, p < N → f p < N) : ∀ d i a, i + d = N → post (nI (bl_rk N f d i a)) → wX_rankMade_4 post (nI N) (nI s) (nI c) kn M C L off hd fs mt iv md (d + 1) (nI a) (nI i) := by
  intro d
  induction d with
  | zero =>
    intro i a hi K
    exact br_t (nI_le (by omega) (by omega)) K
  | succ d ih =>
    intro i a hi K
    refine br_f (nI_ge (by omega) (by omega)) (nm_r (nI_1 i) ⟨N - (i + 1) + 1, ?_⟩)
    exact bx_rk19 hN hm hf (by omega) (N - (i + 1)) (i + 1) 0 (by omega) (ih (i + 1) _ (by omega) K)
theorem bx_rankMade {post : Int32 → Prop} {f : Nat → Nat} (hN : N ≤ 6) (hm : ∀ p, p < N → md p = nI (f p)) (hf : ∀ p, p < N → f p < N) (K : post (nI (bl_rank N f))) : wpX_rankMade post (nI N, nI s, nI c, kn, M, C, L, off, hd, fs, mt, iv, md) := ⟨N + 1, bx_rk4 hN hm hf N 0 0 (by omega) K⟩
/-- a set with one number more -/
def bl_put (fs : Nat → Int32) (b r : Nat) : Nat → Int32 := upd fs (b + r / 32) (fs (b + r / 32) ||| ((1 : Int32) <<< ((nI r &&& 31) &&& 31)))
theorem bx_ff48 {post : SX → Prop} {J : Int32 → (Nat → Int32) → (Nat → Int32) → (Nat → Int32) → (Nat → Int32) → (Nat → Int32) → (Nat → Int32) → (Nat → Int32) → (Nat → Int32) → (Nat → Int32) → Prop} {x y q ra rb : Nat} {A B f : Nat → Nat} (h3 : 3 ≤ N) (hN : N ≤ 6) (hx : x < 3) (hy : y < 3) (hra : ra + 6 ≤ 234) (hrb : rb + 6 ≤ 234)
    (hA : ∀ p, p < N → off (ra + p) = nI (A p)) (hB : ∀ p, p < N → off (rb + p) = nI (B p)) (PA : bl_P N A) (PB : bl_P N B) (Pf : bl_P N f) (ef : ∀ p, f (B p) = A p)
    (K : ∀ md' : Nat → Int32, J (nI (q + 1)) M C L off hd (bl_put fs (23 * (3 * x + y)) (bl_rank N f)) mt iv md') : ∀ d p (md : Nat → Int32), p + d = N → (∀ j, j < p → md (B j) = nI (A j)) → wX_findFalse_48 post J (nI x) (nI y) (nI q) (nI ra) (nI rb) (nI N) (nI s) (nI c) kn (d + 1) (nI p) M C L off hd fs mt iv md := by
  intro d
  induction d with
  | zero =>
    intro p md hp h
    have e : p = N := by omega
    subst e
    refine br_t (nI_le (by omega) (by omega)) ?_
    have hr := bl_rank_lt h3 hN Pf
    refine bx_rankMade (f := f) hN ?_ (fun p hp => bl_P_lt Pf hp) ?_
    · intro v hv
      obtain ⟨b, b1, b2, b3, b4, b5⟩ := PB
      have e1 := h (b v) (b4 v hv)
      rw [b2] at e1
      rw [e1, ← ef, b2]
    · show ∀ x7 : Int32, x7 = _ → _
      refine nm_r (e' := nI (23 * (3 * x + y) + bl_rank p f / 32)) ?_ ?_
      · rw [bl_m3, nI_add, bl_m23, bl_shr5 (by omega), nI_add]
      · refine ⟨vp_in_nI (by omega) (by omega), vp_in_nI (by omega) (by omega), ?_⟩
        rw [nI_clamp (n := 23 * (3 * x + y) + bl_rank p f / 32) (by omega)]
        exact nm_e (nm_r (nI_1 q) (K md))
  | succ d ih =>
    intro p md hp h
    refine br_f (nI_ge (by omega) (by omega)) ?_
    rw [nI_add rb p, nI_add ra p]
    refine ⟨vp_in_nI (by omega) (by omega), vp_in_nI (by omega) (by omega), ?_⟩
    have a1 := bl_P_lt PA (show p < N by omega)
    have b1 := bl_P_lt PB (show p < N by omega)
    rw [nI_clamp (n := rb + p) (by omega), nI_clamp (n := ra + p) (by omega), hA p (by omega), hB p (by omega), nI_clamp (n := B p) (by omega), bl_nar (m := A p) (by omega)]
    refine ⟨vp_in_nI (by omega) (by omega), nm_e (nm_r (nI_1 p) (ih (p + 1) _ (by omega) ?_))⟩
    intro j hj
    by_cases q : j = p
    · subst q; exact pk_us
    · rw [pk_un (fun e => q (bl_P_inj PB e))]
      exact h j (by omega)
theorem bl_sq {s q : Nat} (hs : 1 ≤ s) (hq : q < s * s) : q / s < s ∧ q % s < s := ⟨by rw [Nat.div_lt_iff_lt_mul hs]; exact hq, Nat.mod_lt _ hs⟩
theorem bx_ff2 {post : SX → Prop} {x y : Nat} (h3 : 3 ≤ N) (hN : N ≤ 6) (h1 : 1 ≤ s) (hs : s ≤ 12) (hx : x < 3) (hy : y < 3) (hX : bl_OFF N s M C off x (s + 1)) (hY : bl_OFF N s M C off y (s + 1)) : ∀ d q (fs md : Nat → Int32), q + d = s * s →
    (∀ r, r < 736 → (bl_mem fs (23 * (3 * x + y)) r ↔ bl_FS N s (bl_O N s M C x) (bl_O N s M C y) q r)) →
    (∀ fs' md' : Nat → Int32, (∀ r, r < 736 → (bl_mem fs' (23 * (3 * x + y)) r ↔ bl_FS N s (bl_O N s M C x) (bl_O N s M C y) (s * s) r)) → (∀ i, (i < 23 * (3 * x + y) ∨ 23 * (3 * x + y) + 23 ≤ i) → fs' i = fs i) → post (nI N, nI s, nI c, kn, M, C, L, off, hd, fs', mt, iv, md')) → wX_findFalse_2 post (nI x) (nI y) (nI N) (nI s) (nI c) kn (d + 1) (nI q) M C L off hd fs mt iv md := by
  have hss : s * s ≤ 144 := Nat.mul_le_mul hs hs
  intro d
  induction d with
  | zero =>
    intro q fs md hq h K
    have e : q = s * s := by omega
    refine br_t ?_ (K fs md (e ▸ h) (fun _ _ => rfl))
    rw [pk_mul]
    exact nI_le (by omega) (by omega)
  | succ d ih =>
    intro q fs md hq h K
    obtain ⟨hdd, hm⟩ := bl_sq h1 (show q < s * s by omega)
    have hne : ¬ nI s = 0 := nI_ne0 (by omega) (by omega)
    refine br_f ?_ ⟨hne, ?_⟩
    · rw [pk_mul]
      exact nI_ge (by omega) (by omega)
    · rw [pk_rem (by omega) (by omega) (by omega), pk_div (by omega) (by omega) (by omega), nI_1 (q / s), nI_1 (q % s)]
      refine bx_off _ ⟨hne, bx_off _ ⟨N + 1, ?_⟩⟩
      have PB := bl_O_P N s M C y (q % s + 1)
      have PA := bl_O_P N s M C x (q / s + 1)
      obtain ⟨b, b1, b2, b3, b4, b5⟩ := PB
      have Pf : bl_P N (fun p => bl_O N s M C x (q / s + 1) (b p)) := bl_P_comp PA (bl_P_inv b1 b2 b3 b4 b5)
      have ef : ∀ p, (fun p => bl_O N s M C x (q / s + 1) (b p)) (bl_O N s M C y (q % s + 1) p) = bl_O N s M C x (q / s + 1) p := fun p => by
        show bl_O N s M C x (q / s + 1) (b (bl_O N s M C y (q % s + 1) p)) = _
        rw [b1]
      have hr := bl_rank_lt h3 hN Pf
      refine bx_ff48 h3 hN hx hy (by omega) (by omega) (fun p hp => hX (q / s + 1) (by omega) p hp) (fun p hp => hY (q % s + 1) (by omega) p hp) PA ⟨b, b1, b2, b3, b4, b5⟩ Pf ef ?_ N 0 md (by omega) (fun j hj => by omega)
      intro md'
      refine ih (q + 1) _ md' (by omega) ?_ ?_
      · intro r hr2
        rw [bl_FS_s, ← h r hr2, bl_FQ_iff b2 Pf ef]
        exact bl_mem_put (by omega)
      · intro fs2 md2 A2 B2
        refine K fs2 md2 A2 (fun i hi => ?_)
        rw [B2 i hi]
        exact pk_un (by omega)
theorem bx_findFalse {post : SX → Prop} {x y : Nat} (h3 : 3 ≤ N) (hN : N ≤ 6) (h1 : 1 ≤ s) (hs : s ≤ 12) (hx : x < 3) (hy : y < 3) (hX : bl_OFF N s M C off x (s + 1)) (hY : bl_OFF N s M C off y (s + 1))
    (h : ∀ i, 23 * (3 * x + y) ≤ i → i < 23 * (3 * x + y) + 23 → fs i = 0)
    (K : ∀ fs' md' : Nat → Int32, (∀ r, r < 736 → (bl_mem fs' (23 * (3 * x + y)) r ↔ bl_FS N s (bl_O N s M C x) (bl_O N s M C y) (s * s) r)) → (∀ i, (i < 23 * (3 * x + y) ∨ 23 * (3 * x + y) + 23 ≤ i) → fs' i = fs i) → post (nI N, nI s, nI c, kn, M, C, L, off, hd, fs', mt, iv, md')) : wpX_findFalse post (nI N, nI s, nI c, kn, M, C, L, off, hd, fs, mt, iv, md) (nI x) (nI y) := by
  refine ⟨s * s + 1, bx_ff2 h3 hN h1 hs hx hy hX hY (s * s) 0 fs md (by omega) (fun r hr => ?_) K⟩
  exact ⟨fun z => absurd z (bl_mem_0 (h _ (by omega) (by omega))), fun z => absurd z bl_FS_0⟩
def bl_FF (N s : Nat) (M C fs : Nat → Int32) (n : Nat) : Prop := ∀ a b, a < 3 → b < 3 → 3 * a + b < n → ∀ r, r < 736 → (bl_mem fs (23 * (3 * a + b)) r ↔ bl_FS N s (bl_O N s M C a) (bl_O N s M C b) (s * s) r)
theorem bx_find55 {post : SX → Prop} (h3 : 3 ≤ N) (hN : N ≤ 6) (h1 : 1 ≤ s) (hs : s ≤ 12) (hO : ∀ call, call < 3 → bl_OFF N s M C off call (s + 1)) : ∀ d k (fs md : Nat → Int32), k + d = 9 → bl_FF N s M C fs k → (∀ i, 23 * k ≤ i → i < 207 → fs i = 0) →
    (∀ fs' md' : Nat → Int32, bl_FF N s M C fs' 9 → post (nI N, nI s, nI c, kn, M, C, L, off, hd, fs', mt, iv, md')) → wX_find_55 post (d + 1) (nI k) (nI N) (nI s) (nI c) kn M C L off hd fs mt iv md := by
  intro d
  induction d with
  | zero =>
    intro k fs md hk hF hZ K
    have e : k = 9 := by omega
    exact br_t (nI_le (a := 9) (by omega) (by omega)) (K fs md (e ▸ hF))
  | succ d ih =>
    intro k fs md hk hF hZ K
    refine br_f (nI_ge (b := 9) (by omega) (by omega)) ⟨by decide, by decide, ?_⟩
    have e1 : nI k / 3 = nI (k / 3) := pk_div (d := 3) (by omega) (by omega) (by omega)
    have e2 : nI k - nI k / 3 * 3 = nI (k % 3) := pk_rem (d := 3) (by omega) (by omega) (by omega)
    rw [e2, e1]
    have ek : 3 * (k / 3) + k % 3 = k := by omega
    refine bx_findFalse h3 hN h1 hs (by omega) (by omega) (hO _ (by omega)) (hO _ (by omega)) (fun i a b => hZ i (by omega) (by omega)) ?_
    intro fs' md' A B
    refine nm_r (nI_1 k) (ih (k + 1) fs' md' (by omega) ?_ ?_ K)
    · intro a b ha hb hab r hr
      by_cases q : 3 * a + b = k
      · have ea : k / 3 = a := by omega
        have eb : k % 3 = b := by omega
        rw [ea, eb] at A
        exact A r hr
      · have hlt : 3 * a + b < k := by omega
        rw [bl_mem_c (B (23 * (3 * a + b) + r / 32) (by omega))]
        exact hF a b ha hb hlt r hr
    · intro i a b
      rw [B i (by omega)]
      exact hZ i (by omega) b
theorem bx_find37 {post : SX → Prop} (h3 : 3 ≤ N) (hN : N ≤ 6) (h1 : 1 ≤ s) (hs : s ≤ 12) (hZ : ∀ i, i < 207 → fs i = 0) : ∀ d k (off : Nat → Int32), k + d = 3 → (∀ call, call < k → bl_OFF N s M C off call (s + 1)) →
    (∀ off' fs' md' : Nat → Int32, (∀ call, call < 3 → bl_OFF N s M C off' call (s + 1)) → bl_FF N s M C fs' 9 → post (nI N, nI s, nI c, kn, M, C, L, off', hd, fs', mt, iv, md')) → wX_find_37 post (d + 1) (nI k) (nI N) (nI s) (nI c) kn M C L off hd fs mt iv md := by
  intro d
  induction d with
  | zero =>
    intro k off hk hO K
    have e : k = 3 := by omega
    subst e
    refine br_t (nI_le (a := 3) (by omega) (by omega)) ⟨10, ?_⟩
    exact bx_find55 h3 hN h1 hs hO 9 0 fs md (by omega) (fun a b _ _ h => by omega) (fun i _ hi => hZ i hi) (fun fs' md' A => K off fs' md' hO A)
  | succ d ih =>
    intro k off hk hO K
    refine br_f (nI_ge (b := 3) (by omega) (by omega)) ?_
    refine bx_findOffsets hN hs (by omega) ?_
    intro off' A B
    refine nm_r (nI_1 k) (ih (k + 1) off' (by omega) ?_ K)
    intro call hcall
    by_cases q : call = k
    · subst q; exact A
    · intro k' hk' p hp
      rw [B _ (by omega)]
      exact hO call (by omega) k' hk' p hp
theorem bx_find15 {post : SX → Prop} (h3 : 3 ≤ N) (hN : N ≤ 6) (h1 : 1 ≤ s) (hs : s ≤ 12) 
    (K : ∀ off' fs' md' : Nat → Int32, (∀ call, call < 3 → bl_OFF N s M C off' call (s + 1)) → bl_FF N s M C fs' 9 → post (nI N, nI s, nI c, kn, M, C, L, off', hd, fs', mt, iv, md')) : ∀ d k (fs : Nat → Int32), k + d = 207 → (∀ i, i < k → fs i = 0) → wX_find_15 post (nI N) (nI s) (nI c) kn (d + 1) (nI k) M C L off hd fs mt iv md := by
  intro d
  induction d with
  | zero =>
    intro k fs hk hZ
    have e : k = 207 := by omega
    exact br_t (nI_le (a := 207) (by omega) (by omega)) ⟨4, bx_find37 h3 hN h1 hs (fun i hi => hZ i (by omega)) 3 0 off (by omega) (fun call h => by omega) K⟩
  | succ d ih =>
    intro k fs hk hZ
    refine br_f (nI_ge (b := 207) (by omega) (by omega)) ⟨vp_in_nI (by omega) (by omega), ?_⟩
    rw [nI_clamp (n := k) (by omega)]
    refine nm_e (nm_r (nI_1 k) (ih (k + 1) _ (by omega) ?_))
    intro i hi
    by_cases q : i = k
    · subst q; exact pk_us
    · rw [pk_un q]; exact hZ i (by omega)
/-- what is known -/
def bl_KN (N s : Nat) (M C off fs : Nat → Int32) : Prop := (∀ call, call < 3 → bl_OFF N s M C off call (s + 1)) ∧ bl_FF N s M C fs 9
theorem bx_find {post : SX → Prop} (h3 : 3 ≤ N) (hN : N ≤ 6) (h1 : 1 ≤ s) (hs : s ≤ 12) (hk : kn = 0 ∨ (kn = 1 ∧ bl_KN N s M C off fs))
    (K : ∀ off' fs' md' : Nat → Int32, bl_KN N s M C off' fs' → post (nI N, nI s, nI c, 1, M, C, L, off', hd, fs', mt, iv, md')) : wpX_find post (nI N, nI s, nI c, kn, M, C, L, off, hd, fs, mt, iv, md) := by
  rcases hk with rfl | ⟨rfl, hk⟩
  · exact br_t rfl ⟨208, bx_find15 h3 hN h1 hs (fun off' fs' md' A B => K off' fs' md' ⟨A, B⟩) 207 0 fs (by omega) (fun i hi => by omega)⟩
  · exact br_f (by decide) (K off fs md hk)
end BLF
end
section
/-! X: the rows before the leads, a bell of a row -/
section BLH
variable {N s c : Nat} {kn : Int32} {M C L off hd fs mt iv md : Nat → Int32}
def bl_cl (L : Nat → Int32) (i : Nat) : Nat := (L i).toNatClampNeg
def bl_LL (L : Nat → Int32) : Prop := ∀ i, bl_cl L i < 3 ∧ L i = nI (bl_cl L i)
def bl_HD (N s : Nat) (M C L hd : Nat → Int32) (n : Nat) : Prop := ∀ i, i < n → ∀ p, p < N → hd (6 * i + p) = nI (bl_H (bl_O N s M C) s (bl_cl L) i p)
theorem bl_OP (N s : Nat) (M C : Nat → Int32) : ∀ a k, bl_P N (bl_O N s M C a k) := fun a k => bl_O_P N s M C a k
theorem bx_fh55 {post : SX → Prop} {J : Int32 → (Nat → Int32) → (Nat → Int32) → (Nat → Int32) → (Nat → Int32) → (Nat → Int32) → (Nat → Int32) → (Nat → Int32) → (Nat → Int32) → (Nat → Int32) → Prop} {i r : Nat} {H A : Nat → Nat} (hN : N ≤ 6) (hi : i < 20) (hr : r + 6 ≤ 234) (PH : bl_P N H) (PA : bl_P N A)
    (hA : ∀ p, p < N → off (r + p) = nI (A p)) : ∀ d p (hd : Nat → Int32), p + d = N → (∀ j, j < N → hd (6 * i + j) = nI (H j)) → (∀ j, j < p → hd (6 * (i + 1) + j) = nI (H (A j))) →
    (∀ hd' : Nat → Int32, (∀ j, j < N → hd' (6 * (i + 1) + j) = nI (H (A j))) → (∀ j, j < 6 * (i + 1) → hd' j = hd j) → J (nI (i + 1)) M C L off hd' fs mt iv md) → wX_findHeads_55 post J (nI i) (nI r) (nI N) (nI s) (nI c) kn (d + 1) (nI p) M C L off hd fs mt iv md := by
  intro d
  induction d with
  | zero =>
    intro p hd hp h1 h2 K
    have e : p = N := by omega
    exact br_t (nI_le (by omega) (by omega)) (nm_r (nI_1 i) (K hd (e ▸ h2) (fun _ _ => rfl)))
  | succ d ih =>
    intro p hd hp h1 h2 K
    refine br_f (nI_ge (by omega) (by omega)) ?_
    have a1 := bl_P_lt PA (show p < N by omega)
    have a2 := bl_P_lt PH a1
    rw [nI_add r p, nI_clamp (n := r + p) (by omega), hA p (by omega), bl_m6, nI_add (6 * i) (A p), nI_1 i, bl_m6, nI_add (6 * (i + 1)) p, nI_clamp (n := 6 * i + A p) (by omega), nI_clamp (n := 6 * (i + 1) + p) (by omega), h1 (A p) a1, bl_nar (m := H (A p)) (by omega)]
    refine ⟨vp_in_nI (by omega) (by omega), vp_in_nI (by omega) (by omega), vp_in_nI (by omega) (by omega), nm_e (nm_r (nI_1 p) (ih (p + 1) _ (by omega) ?_ ?_ ?_))⟩
    · intro j hj
      rw [pk_un (by omega)]
      exact h1 j hj
    · intro j hj
      by_cases q : j = p
      · subst q; exact pk_us
      · rw [pk_un (by omega)]; exact h2 j (by omega)
    · intro hd' A' B'
      refine K hd' A' (fun j hj => ?_)
      rw [B' j hj, pk_un (by omega)]
theorem bx_fh30 {post : SX → Prop} (hN : N ≤ 6) (hs : s ≤ 12) (hc : c ≤ 20) (hL : bl_LL L) (hO : ∀ call, call < 3 → bl_OFF N s M C off call (s + 1))
    (K : ∀ hd' : Nat → Int32, bl_HD N s M C L hd' (c + 1) → post (nI N, nI s, nI c, kn, M, C, L, off, hd', fs, mt, iv, md)) : ∀ d i (hd : Nat → Int32), i + d = c → bl_HD N s M C L hd (i + 1) → wX_findHeads_30 post (nI N) (nI s) (nI c) kn (d + 1) (nI i) M C L off hd fs mt iv md := by
  intro d
  induction d with
  | zero =>
    intro i hd hi h
    have e : i = c := by omega
    exact br_t (nI_le (by omega) (by omega)) (K hd (e ▸ h))
  | succ d ih =>
    intro i hd hi h
    refine br_f (nI_ge (by omega) (by omega)) ⟨vp_in_nI (by omega) (by omega), ?_⟩
    obtain ⟨l1, l2⟩ := hL i
    rw [nI_clamp (n := i) (by omega), l2]
    refine bx_off _ ⟨N + 1, ?_⟩
    refine bx_fh55 (H := bl_H (bl_O N s M C) s (bl_cl L) i) (A := bl_O N s M C (bl_cl L i) s) hN (by omega) (by omega) (bl_H_P (bl_OP N s M C) i) (bl_OP N s M C _ _) (fun p hp => hO _ l1 s (by omega) p hp) N 0 hd (by omega) (fun j hj => h i (by omega) j hj) (fun j hj => by omega) ?_
    intro hd' A B
    refine ih (i + 1) hd' (by omega) ?_
    intro i' hi' p hp
    by_cases q : i' = i + 1
    · subst q
      exact A p hp
    · rw [B _ (by omega)]
      exact h i' (by omega) p hp
theorem bx_fh6 {post : SX → Prop} (hN : N ≤ 6) (K : ∀ hd' : Nat → Int32, (∀ p, p < N → hd' p = nI p) → ∃ n, wX_findHeads_30 post (nI N) (nI s) (nI c) kn n 0 M C L off hd' fs mt iv md) : ∀ d p (hd : Nat → Int32), p + d = N → (∀ j, j < p → hd j = nI j) → wX_findHeads_6 post (nI N) (nI s) (nI c) kn (d + 1) (nI p) M C L off hd fs mt iv md := by
  intro d
  induction d with
  | zero =>
    intro p hd hp h
    have e : p = N := by omega
    exact br_t (nI_le (by omega) (by omega)) (K hd (e ▸ h))
  | succ d ih =>
    intro p hd hp h
    refine br_f (nI_ge (by omega) (by omega)) ⟨vp_in_nI (by omega) (by omega), ?_⟩
    rw [nI_clamp (n := p) (by omega), bl_nar8 (m := p) (by omega)]
    refine nm_e (nm_r (nI_1 p) (ih (p + 1) _ (by omega) ?_))
    intro j hj
    by_cases q : j = p
    · subst q; exact pk_us
    · rw [pk_un q]; exact h j (by omega)
theorem bx_findHeads {post : SX → Prop} (h3 : 3 ≤ N) (hN : N ≤ 6) (h1 : 1 ≤ s) (hs : s ≤ 12) (hc : c ≤ 20) (hL : bl_LL L) (hk : kn = 0 ∨ (kn = 1 ∧ bl_KN N s M C off fs))
    (K : ∀ off' hd' fs' md' : Nat → Int32, bl_KN N s M C off' fs' → bl_HD N s M C L hd' (c + 1) → post (nI N, nI s, nI c, 1, M, C, L, off', hd', fs', mt, iv, md')) : wpX_findHeads post (nI N, nI s, nI c, kn, M, C, L, off, hd, fs, mt, iv, md) := by
  unfold wpX_findHeads
  refine bx_find h3 hN h1 hs hk ?_
  intro off' fs' md' A
  refine ⟨N + 1, bx_fh6 hN ?_ N 0 hd (by omega) (fun j hj => by omega)⟩
  intro hd' B
  refine ⟨c + 1, bx_fh30 hN hs hc hL A.1 (fun hd2 E => K off' hd2 fs' md' A E) c 0 hd' (by omega) ?_⟩
  intro i hi p hp
  have : i = 0 := by omega
  subst this
  rw [Nat.mul_zero, Nat.zero_add]
  exact B p hp
theorem bl_kk {s c k : Nat} (h1 : 1 ≤ k) (h2 : k ≤ c * s) : (k - 1) / s < c ∧ (k - 1) / s * s ≤ k ∧ 1 ≤ k - (k - 1) / s * s ∧ k - (k - 1) / s * s ≤ s := by
  have hs : 0 < s := by
    rcases Nat.eq_zero_or_pos s with a | a
    · rw [a, Nat.mul_zero] at h2; omega
    · exact a
  have hd : (k - 1) / s < c := by rw [Nat.div_lt_iff_lt_mul hs]; omega
  have hm : (k - 1) % s < s := Nat.mod_lt _ hs
  have := Nat.div_add_mod' (k - 1) s
  omega
theorem bl_cs {s c : Nat} (hs : s ≤ 12) (hc : c ≤ 20) : c * s ≤ 240 := Nat.mul_le_mul hc hs
theorem bx_bellAt {post : Int32 → Prop} {k p : Nat} (hN : N ≤ 6) (h1 : 1 ≤ s) (hs : s ≤ 12) (hc : c ≤ 20) (hL : bl_LL L) (hO : ∀ call, call < 3 → bl_OFF N s M C off call (s + 1)) (hH : bl_HD N s M C L hd (c + 1)) (hk : k ≤ c * s) (hp : p < N)
    (K : post (nI (bl_G (bl_O N s M C) s (bl_cl L) k p))) : wpX_bellAt post (nI N, nI s, nI c, kn, M, C, L, off, hd, fs, mt, iv, md) (nI k) (nI p) := by
  have h240 := bl_cs hs hc
  refine pk_eq k 0 (fun e => ?_) (fun e => ?_)
  · unfold bl_G at K
    rw [if_pos e] at K
    exact K
  · unfold bl_G at K
    rw [if_neg e] at K
    obtain ⟨k1, k2, k3, k4⟩ := bl_kk (show 1 ≤ k by omega) hk
    generalize ei : (k - 1) / s = i at K k1 k2 k3 k4
    refine ⟨nI_ne0 (by omega) (by omega), nm_r (e' := nI i) ?_ ⟨vp_in_nI (by omega) (by omega), ?_⟩⟩
    · rw [bl_s (by omega), pk_div (by omega) (by omega) (by omega), ei]
    · obtain ⟨l1, l2⟩ := hL i
      have O1 := bl_P_lt (bl_OP N s M C (bl_cl L i) (k - i * s)) hp
      rw [nI_clamp (n := i) (by omega), l2, pk_mul, pk_sub k2]
      refine bx_off _ ?_
      rw [nI_add, nI_clamp (n := 78 * bl_cl L i + 6 * (k - i * s) + p) (by omega), hO _ l1 (k - i * s) (by omega) p hp, bl_m6, nI_add, nI_clamp (n := 6 * i + bl_O N s M C (bl_cl L i) (k - i * s) p) (by omega)]
      refine ⟨vp_in_nI (by omega) (by omega), vp_in_nI (by omega) (by omega), ?_⟩
      rw [hH i (by omega) _ O1]
      exact K
end BLH
end
section
/-! X: false pairs, false leads, truth -/
section BLT
variable {N s c : Nat} {kn : Int32} {M C L off hd fs mt iv md : Nat → Int32}
theorem bx_pf41 {post : Int32 → SX → Prop} {i j b : Nat} {Hi Hj hi : Nat → Nat} (h3 : 3 ≤ N) (hN : N ≤ 6) (hc20 : c ≤ 20) (hi20 : i < 20) (hj : j ≤ 20) (hb : b < 3) (hL : bl_LL L) (hF : bl_FF N s M C fs 9)
    (PHj : bl_P N Hj) (Phi : bl_P N hi) (e1 : ∀ p, hi (Hi p) = p) (e2 : ∀ p, Hi (hi p) = p) (hHj : ∀ p, p < N → hd (6 * j + p) = nI (Hj p)) (hiv : ∀ v, v < N → iv v = nI (hi v))
    (K : ∀ md' : Nat → Int32, post (nI (bl_01 (∃ k m, 1 ≤ k ∧ k ≤ s ∧ 1 ≤ m ∧ m ≤ s ∧ ∀ p, Hi (bl_O N s M C (bl_cl L i) k p) = Hj (bl_O N s M C b m p)))) (nI N, nI s, nI c, kn, M, C, L, off, hd, fs, mt, iv, md')) : ∀ d p (md : Nat → Int32), p + d = N → (∀ t, t < p → md t = nI (hi (Hj t))) → wX_pairFalse_41 post (nI i) (nI j) (nI b) (nI N) (nI s) (nI c) kn (d + 1) (nI p) M C L off hd fs mt iv md := by
  intro d
  induction d with
  | zero =>
    intro p md hp h
    have e : p = N := by omega
    subst e
    have Pf : bl_P p (fun t => hi (Hj t)) := bl_P_comp Phi PHj
    have hr := bl_rank_lt h3 hN Pf
    obtain ⟨l1, l2⟩ := hL i
    refine br_t (nI_le (by omega) (by omega)) ?_
    refine bx_rankMade (f := fun t => hi (Hj t)) hN h (fun t ht => bl_P_lt Pf ht) ?_
    generalize er : bl_rank p (fun t => hi (Hj t)) = r at hr
    show vp_in (nI i) 20 ∧ _
    rw [nI_clamp (n := i) (by omega), l2, bl_m3, nI_add, bl_m23, bl_shr5 (by omega), nI_add, nI_clamp (n := 23 * (3 * bl_cl L i + b) + r / 32) (by omega)]
    refine ⟨vp_in_nI hi20 (by omega), vp_in_nI (by omega) (by omega), ?_⟩
    have hm := hF (bl_cl L i) b l1 hb (by omega) r (by omega)
    have hfs := bl_FS_iff (s := s) (A := bl_O p s M C (bl_cl L i)) (B := bl_O p s M C b) h3 hN e1 e2 Phi PHj
    rw [er] at hfs
    refine ek_if (bl_test _ (by omega)) (fun q => ?_) (fun q => ?_)
    · have := K md
      rw [bl_01t (hfs.mp (hm.mp q))] at this
      exact this
    · have := K md
      rw [bl_01f (fun z => q (hm.mpr (hfs.mpr z)))] at this
      exact this
  | succ d ih =>
    intro p md hp h
    have a1 := bl_P_lt PHj (show p < N by omega)
    have a2 := bl_P_lt Phi a1
    refine br_f (nI_ge (by omega) (by omega)) ?_
    rw [bl_m6, nI_add, nI_clamp (n := 6 * j + p) (by omega), hHj p (by omega), nI_clamp (n := Hj p) (by omega), nI_clamp (n := p) (by omega), hiv _ a1, bl_nar (m := hi (Hj p)) (by omega)]
    refine ⟨vp_in_nI (by omega) (by omega), vp_in_nI (by omega) (by omega), vp_in_nI (by omega) (by omega), nm_e (nm_r (nI_1 p) (ih (p + 1) _ (by omega) ?_))⟩
    intro t ht
    by_cases q : t = p
    · subst q; exact pk_us
    · rw [pk_un q]; exact h t (by omega)
theorem bx_pf3 {post : Int32 → SX → Prop} {i j b : Nat} {Hi hi : Nat → Nat} (hN : N ≤ 6) (hi20 : i < 20) (PHi : bl_P N Hi) (e1 : ∀ p, hi (Hi p) = p) (e2 : ∀ p, Hi (hi p) = p) (e4 : ∀ p, p < N → hi p < N) (hHi : ∀ p, p < N → hd (6 * i + p) = nI (Hi p))
    (K : ∀ iv' : Nat → Int32, (∀ v, v < N → iv' v = nI (hi v)) → ∃ n, wX_pairFalse_41 post (nI i) (nI j) (nI b) (nI N) (nI s) (nI c) kn n 0 M C L off hd fs mt iv' md) : ∀ d p (iv : Nat → Int32), p + d = N → (∀ t, t < p → iv (Hi t) = nI t) → wX_pairFalse_3 post (nI i) (nI j) (nI b) (nI N) (nI s) (nI c) kn (d + 1) (nI p) M C L off hd fs mt iv md := by
  intro d
  induction d with
  | zero =>
    intro p iv hp h
    have e : p = N := by omega
    subst e
    refine br_t (nI_le (by omega) (by omega)) (K iv (fun v hv => ?_))
    have := h (hi v) (e4 v hv)
    rw [e2] at this
    exact this
  | succ d ih =>
    intro p iv hp h
    have a1 := bl_P_lt PHi (show p < N by omega)
    refine br_f (nI_ge (by omega) (by omega)) ?_
    rw [bl_m6, nI_add, nI_clamp (n := 6 * i + p) (by omega), hHi p (by omega), nI_clamp (n := Hi p) (by omega), bl_nar8 (m := p) (by omega)]
    refine ⟨vp_in_nI (by omega) (by omega), vp_in_nI (by omega) (by omega), nm_e (nm_r (nI_1 p) (ih (p + 1) _ (by omega) ?_))⟩
    intro t ht
    by_cases q : t = p
    · subst q; exact pk_us
    · rw [pk_un (fun e => q (bl_P_inj PHi e))]
      exact h t (by omega)
theorem bx_pairFalse {post : Int32 → SX → Prop} {i j b : Nat} (h3 : 3 ≤ N) (hN : N ≤ 6) (hc : c ≤ 20) (hi : i < c) (hj : j ≤ c) (hb : b < 3) (hL : bl_LL L) (hF : bl_FF N s M C fs 9) (hH : bl_HD N s M C L hd (c + 1))
    (K : ∀ iv' md' : Nat → Int32, post (nI (bl_01 (bl_shareX (bl_O N s M C) s (bl_cl L) i j b))) (nI N, nI s, nI c, kn, M, C, L, off, hd, fs, mt, iv', md')) : wpX_pairFalse post (nI N, nI s, nI c, kn, M, C, L, off, hd, fs, mt, iv, md) (nI i) (nI j) (nI b) := by
  have PHi := bl_H_P (s := s) (cl := bl_cl L) (bl_OP N s M C) i
  have PHj := bl_H_P (s := s) (cl := bl_cl L) (bl_OP N s M C) j
  obtain ⟨h, b1, b2, b3, b4, b5⟩ := PHi
  refine ⟨N + 1, bx_pf3 hN (by omega) ⟨h, b1, b2, b3, b4, b5⟩ b1 b2 b4 (fun p hp => hH i (by omega) p hp) ?_ N 0 iv (by omega) (fun t ht => by omega)⟩
  intro iv' hiv
  exact ⟨N + 1, bx_pf41 h3 hN hc (by omega) (by omega) hb hL hF PHj (bl_P_inv b1 b2 b3 b4 b5) b1 b2 (fun p hp => hH j (by omega) p hp) hiv (fun md' => K iv' md') N 0 md (by omega) (fun t ht => by omega)⟩
theorem bx_cm2 {post : SX → Prop} (K : ∀ mt' : Nat → Int32, (∀ i, i < 23 → mt' i = 0) → post (nI N, nI s, nI c, kn, M, C, L, off, hd, fs, mt', iv, md)) : ∀ d k (mt : Nat → Int32), k + d = 23 → (∀ i, i < k → mt i = 0) → wX_clearMet_2 post (nI N) (nI s) (nI c) kn (d + 1) (nI k) M C L off hd fs mt iv md := by
  intro d
  induction d with
  | zero =>
    intro k mt hk h
    have e : k = 23 := by omega
    exact br_t (nI_le (a := 23) (by omega) (by omega)) (K mt (e ▸ h))
  | succ d ih =>
    intro k mt hk h
    refine br_f (nI_ge (b := 23) (by omega) (by omega)) ⟨vp_in_nI (by omega) (by omega), ?_⟩
    rw [nI_clamp (n := k) (by omega)]
    refine nm_e (nm_r (nI_1 k) (ih (k + 1) _ (by omega) ?_))
    intro i hi
    by_cases q : i = k
    · subst q; exact pk_us
    · rw [pk_un q]; exact h i (by omega)
/-- no row is met -/
theorem bx_clearMet {post : SX → Prop} (K : ∀ mt' : Nat → Int32, (∀ r, r < 736 → ¬ bl_mem mt' 0 r) → post (nI N, nI s, nI c, kn, M, C, L, off, hd, fs, mt', iv, md)) : wpX_clearMet post (nI N, nI s, nI c, kn, M, C, L, off, hd, fs, mt, iv, md) :=
  ⟨24, bx_cm2 (fun mt' h => K mt' (fun r hr => bl_mem_0 (h _ (by omega)))) 23 0 mt (by omega) (fun i hi => by omega)⟩
theorem bx_meetMade {post : Int32 → SX → Prop} {f : Nat → Nat} (h3 : 3 ≤ N) (hN : N ≤ 6) (Pf : bl_P N f) (hm : ∀ p, p < N → md p = nI (f p))
    (K : ∀ mt' : Nat → Int32, (∀ r, bl_mem mt' 0 r ↔ (bl_mem mt 0 r ∨ r = bl_rank N f)) → post (nI (bl_01 (¬ bl_mem mt 0 (bl_rank N f)))) (nI N, nI s, nI c, kn, M, C, L, off, hd, fs, mt', iv, md)) : wpX_meetMade post (nI N, nI s, nI c, kn, M, C, L, off, hd, fs, mt, iv, md) := by
  unfold wpX_meetMade
  refine bx_rankMade hN hm (fun p hp => bl_P_lt Pf hp) ?_
  have hr := bl_rank_lt h3 hN Pf
  have K2 := K (bl_put mt 0 (bl_rank N f)) (fun r => bl_mem_put (by omega))
  generalize bl_rank N f = r at hr K2
  refine nm_e ?_
  have e0 : 0 + r / 32 = r / 32 := Nat.zero_add _
  unfold wX_meetMade_30
  rw [bl_shr5 (by omega), nI_clamp (n := r / 32) (by omega)]
  have hin : vp_in (nI (r / 32)) 23 := vp_in_nI (by omega) (by omega)
  unfold bl_put at K2
  rw [e0] at K2
  refine ⟨hin, ek_if (bl_and0 _ (by omega)) (fun q => ⟨hin, hin, nm_e ⟨narrow_b1, ?_⟩⟩) (fun q => ⟨hin, hin, nm_e ⟨narrow_b0, ?_⟩⟩)⟩
  · have z : ¬ bl_mem mt 0 r := by unfold bl_mem; rw [e0]; exact q
    rw [bl_01t z] at K2
    exact K2
  · have z : ¬ ¬ bl_mem mt 0 r := by unfold bl_mem; rw [e0]; exact q
    rw [bl_01f z] at K2
    exact K2
/-- the rows that were met: those of G from 1 to below k -/
def bl_Met (N : Nat) (G : Nat → Nat → Nat) (mt : Nat → Int32) (k : Nat) : Prop := ∀ r, r < 736 → (bl_mem mt 0 r ↔ ∃ m, 1 ≤ m ∧ m < k ∧ r = bl_rank N (G m))
theorem bl_Met_1 {G : Nat → Nat → Nat} (h : ∀ r, r < 736 → ¬ bl_mem mt 0 r) : bl_Met N G mt 1 := fun r hr => ⟨fun z => absurd z (h r hr), fun ⟨m, a, b, _⟩ => by omega⟩
theorem bl_Met_s {G : Nat → Nat → Nat} {mt' : Nat → Int32} {k : Nat} (hk : 1 ≤ k) (h : bl_Met N G mt k) (h2 : ∀ r, bl_mem mt' 0 r ↔ (bl_mem mt 0 r ∨ r = bl_rank N (G k))) : bl_Met N G mt' (k + 1) := by
  intro r hr
  rw [h2, h r hr]
  constructor
  · rintro (⟨m, a, b, e⟩ | e)
    · exact ⟨m, a, by omega, e⟩
    · exact ⟨k, hk, by omega, e⟩
  · rintro ⟨m, a, b, e⟩
    rcases Nat.lt_or_ge m k with q | q
    · exact Or.inl ⟨m, a, q, e⟩
    · have : m = k := by omega
      rw [this] at e
      exact Or.inr e
theorem bl_Met_f {G : Nat → Nat → Nat} {k : Nat} (h3 : 3 ≤ N) (hN : N ≤ 6) (hG : ∀ k, bl_P N (G k)) (h : bl_Met N G mt k) : (¬ bl_mem mt 0 (bl_rank N (G k))) ↔ bl_fresh G k := by
  have hr := bl_rank_lt h3 hN (hG k)
  rw [h _ (by omega)]
  constructor
  · intro z m a b e
    exact z ⟨m, a, b, ((bl_rank_inj h3 hN (hG m) (hG k)).mpr e).symm⟩
  · rintro z ⟨m, a, b, e⟩
    exact z m a b ((bl_rank_inj h3 hN (hG m) (hG k)).mp e.symm)
theorem bl_alone_iff {O : Nat → Nat → Nat → Nat} {s a : Nat} : bl_alone O s a ↔ ∃ k, k ≤ s ∧ ¬ bl_fresh (O a) k := by
  constructor
  · rintro ⟨k, m, a1, a2, a3, e⟩
    exact ⟨k, a3, fun z => z m a1 a2 e⟩
  · rintro ⟨k, hk, z⟩
    rcases Classical.em (bl_alone O s a) with q | q
    · exact q
    · exact absurd (fun m a1 a2 e => q ⟨k, m, a1, a2, hk, e⟩) z
theorem bx_af27 {post : Int32 → SX → Prop} {J : Int32 → Int32 → Int32 → Int32 → Int32 → Int32 → (Nat → Int32) → (Nat → Int32) → (Nat → Int32) → (Nat → Int32) → (Nat → Int32) → (Nat → Int32) → (Nat → Int32) → (Nat → Int32) → (Nat → Int32) → Prop} {x1 x2 : Int32} {k r : Nat} {G : Nat → Nat → Nat} (h3 : 3 ≤ N) (hN : N ≤ 6) (hr : r + 6 ≤ 234) (hG : ∀ k, bl_P N (G k)) (hk : 1 ≤ k)
    (hA : ∀ p, p < N → off (r + p) = nI (G k p)) (hM : bl_Met N G mt k)
    (K : ∀ mt' md' : Nat → Int32, bl_Met N G mt' (k + 1) → ∀ y : Int32, y = (if x2 = 0 then nI (bl_01 (¬ bl_fresh G k)) else 1) → J y (nI (k + 1)) (nI N) (nI s) (nI c) kn M C L off hd fs mt' iv md') : ∀ d p (md : Nat → Int32), p + d = N → (∀ j, j < p → md j = nI (G k j)) → wX_aloneFalse_27 post J x1 x2 (nI k) (nI r) (nI N) (nI s) (nI c) kn (d + 1) (nI p) M C L off hd fs mt iv md := by
  intro d
  induction d with
  | zero =>
    intro p md hp h
    have e : p = N := by omega
    subst e
    refine br_t (nI_le (by omega) (by omega)) ?_
    refine bx_meetMade h3 hN (hG k) h ?_
    intro mt' hmt
    have K2 := K mt' md (bl_Met_s hk hM hmt)
    rw [bl_01c (bl_Met_f h3 hN hG hM)]
    by_cases q : x2 = 0
    · rw [if_pos q] at K2
      refine br_t q ?_
      rcases Classical.em (bl_fresh G k) with z | z
      · rw [bl_01f (fun w => w z)] at K2
        rw [bl_01t z]
        exact br_f (by decide) (nm_r (nI_1 k) (K2 0 rfl))
      · rw [bl_01t z] at K2
        rw [bl_01f z]
        exact br_t rfl (nm_r (nI_1 k) (K2 1 rfl))
    · rw [if_neg q] at K2
      exact br_f q (nm_r (nI_1 k) (K2 1 rfl))
  | succ d ih =>
    intro p md hp h
    have a1 := bl_P_lt (hG k) (show p < N by omega)
    refine br_f (nI_ge (by omega) (by omega)) ?_
    rw [nI_add, nI_clamp (n := r + p) (by omega), nI_clamp (n := p) (by omega), hA p (by omega), bl_nar (m := G k p) (by omega)]
    refine ⟨vp_in_nI (by omega) (by omega), vp_in_nI (by omega) (by omega), nm_e (nm_r (nI_1 p) (ih (p + 1) _ (by omega) ?_))⟩
    intro j hj
    by_cases q : j = p
    · subst q; exact pk_us
    · rw [pk_un q]; exact h j (by omega)
theorem bx_af8 {post : Int32 → SX → Prop} {call : Nat} (h3 : 3 ≤ N) (hN : N ≤ 6) (hs : s ≤ 12) (hc : call < 3) (hO : bl_OFF N s M C off call (s + 1))
    (K : ∀ mt' md' : Nat → Int32, post (nI (bl_01 (bl_alone (bl_O N s M C) s call))) (nI N, nI s, nI c, kn, M, C, L, off, hd, fs, mt', iv, md')) : ∀ d k (mt md : Nat → Int32), k + d = s + 1 → 1 ≤ k → bl_Met N (bl_O N s M C call) mt k → wX_aloneFalse_8 post (nI call) (d + 1) (nI (bl_01 (∃ k', k' < k ∧ ¬ bl_fresh (bl_O N s M C call) k'))) (nI k) (nI N) (nI s) (nI c) kn M C L off hd fs mt iv md := by
  intro d
  induction d with
  | zero =>
    intro k mt md hk hk1 hM
    have e : k = s + 1 := by omega
    subst e
    have K2 := K mt md
    have e2 : bl_alone (bl_O N s M C) s call ↔ ∃ k', k' < s + 1 ∧ ¬ bl_fresh (bl_O N s M C call) k' := by
      rw [bl_alone_iff]
      exact ⟨fun ⟨k, a, b⟩ => ⟨k, by omega, b⟩, fun ⟨k, a, b⟩ => ⟨k, by omega, b⟩⟩
    rw [bl_01c e2] at K2
    refine br_t (nI_lt (by omega) (by omega)) ⟨?_, K2⟩
    rcases Classical.em (∃ k', k' < s + 1 ∧ ¬ bl_fresh (bl_O N s M C call) k') with z | z
    · rw [bl_01t z]; exact narrow_b1
    · rw [bl_01f z]; exact narrow_b0
  | succ d ih =>
    intro k mt md hk hk1 hM
    refine br_f (nI_nlt (by omega) (by omega)) ?_
    refine bx_off _ ⟨N + 1, ?_⟩
    refine bx_af27 (G := bl_O N s M C call) h3 hN (by omega) (fun k => bl_O_P N s M C call k) hk1 (fun p hp => hO k (by omega) p hp) hM ?_ N 0 md (by omega) (fun j hj => by omega)
    intro mt' md' hM' y ey
    have e3 : y = nI (bl_01 (∃ k', k' < k + 1 ∧ ¬ bl_fresh (bl_O N s M C call) k')) := by
      rw [ey]
      rcases Classical.em (∃ k', k' < k ∧ ¬ bl_fresh (bl_O N s M C call) k') with z | z
      · rw [bl_01t z, if_neg (by decide)]
        obtain ⟨k', a, b⟩ := z
        rw [bl_01t ⟨k', by omega, b⟩]
        rfl
      · rw [bl_01f z, if_pos (by decide)]
        refine congrArg nI (bl_01c ?_)
        constructor
        · intro w; exact ⟨k, by omega, w⟩
        · rintro ⟨k', a, b⟩
          rcases Nat.lt_or_ge k' k with q | q
          · exact absurd ⟨k', q, b⟩ z
          · have : k' = k := by omega
            rw [this] at b
            exact b
    rw [e3]
    exact ih (k + 1) mt' md' (by omega) (by omega) hM'
theorem bx_aloneFalse {post : Int32 → SX → Prop} {call : Nat} (h3 : 3 ≤ N) (hN : N ≤ 6) (hs : s ≤ 12) (hc : call < 3) (hO : bl_OFF N s M C off call (s + 1))
    (K : ∀ mt' md' : Nat → Int32, post (nI (bl_01 (bl_alone (bl_O N s M C) s call))) (nI N, nI s, nI c, kn, M, C, L, off, hd, fs, mt', iv, md')) : wpX_aloneFalse post (nI N, nI s, nI c, kn, M, C, L, off, hd, fs, mt, iv, md) (nI call) := by
  unfold wpX_aloneFalse
  refine bx_clearMet ?_
  intro mt' hz
  refine ⟨s + 1, ?_⟩
  have h := bx_af8 h3 hN hs hc hO K s 1 mt' md (by omega) (by omega) (bl_Met_1 hz)
  rw [bl_01f (fun ⟨k', a, b⟩ => b (fun m _ _ => by omega))] at h
  exact h
end BLT
end
section
/-! X: counting false pairs, the truth of a touch -/
section BLN
variable {N s c : Nat} {kn : Int32} {M C L off hd fs mt iv md : Nat → Int32}
def bl_Q (O : Nat → Nat → Nat → Nat) (s : Nat) (cl : Nat → Nat) (i j : Nat) : Prop := i < j ∧ bl_share O s cl i j
noncomputable def bl_FP (O : Nat → Nat → Nat → Nat) (s : Nat) (cl : Nat → Nat) (c q : Nat) : Nat := bl_cnt (fun q => bl_Q O s cl (q / c) (q % c)) q
theorem bl_cc (hc : c ≤ 20) : c * c ≤ 400 := Nat.mul_le_mul hc hc
theorem bx_cf4 {post : Int32 → SX → Prop} (h3 : 3 ≤ N) (hN : N ≤ 6) (hc : c ≤ 20) (hL : bl_LL L) (hF : bl_FF N s M C fs 9) (hH : bl_HD N s M C L hd (c + 1))
    (K : ∀ iv' md' : Nat → Int32, post (nI (bl_FP (bl_O N s M C) s (bl_cl L) c (c * c))) (nI N, nI s, nI c, kn, M, C, L, off, hd, fs, mt, iv', md')) : ∀ d q (iv md : Nat → Int32), q + d = c * c → wX_countFalse_4 post (d + 1) (nI (bl_FP (bl_O N s M C) s (bl_cl L) c q)) (nI q) (nI N) (nI s) (nI c) kn M C L off hd fs mt iv md := by
  have h400 := bl_cc hc
  intro d
  induction d with
  | zero =>
    intro q iv md hq
    have e : q = c * c := by omega
    subst e
    refine br_t ?_ (K iv md)
    rw [pk_mul]
    exact nI_le (by omega) (by omega)
  | succ d ih =>
    intro q iv md hq
    have hcp : 0 < c := by
      rcases Nat.eq_zero_or_pos c with a | a
      · rw [a] at hq; omega
      · exact a
    have hne : ¬ nI c = 0 := nI_ne0 hcp (by omega)
    have hdd : q / c < c := by rw [Nat.div_lt_iff_lt_mul hcp]; omega
    have hm : q % c < c := Nat.mod_lt _ hcp
    refine br_f ?_ ⟨hne, ?_⟩
    · rw [pk_mul]
      exact nI_ge (by omega) (by omega)
    · rw [pk_rem (a := q) (d := c) (by omega) (by omega) (by omega), pk_div (a := q) (d := c) (by omega) (by omega) (by omega)]
      refine nm_e ⟨hne, nm_e ?_⟩
      refine pk_le (q % c) (q / c) (fun h => ?_) (fun h => ⟨vp_in_nI (by omega) (by omega), ?_⟩)
      · have e : bl_FP (bl_O N s M C) s (bl_cl L) c (q + 1) = bl_FP (bl_O N s M C) s (bl_cl L) c q := bl_cnt_f (fun z => absurd z.1 (by omega))
        rw [← e]
        exact nm_r (nI_1 q) (ih (q + 1) iv md (by omega))
      · obtain ⟨l1, l2⟩ := hL (q % c)
        rw [nI_clamp (n := q % c) (by omega), l2]
        refine bx_pairFalse h3 hN hc hdd (by omega) l1 hL hF hH ?_
        intro iv' md'
        rcases Classical.em (bl_shareX (bl_O N s M C) s (bl_cl L) (q / c) (q % c) (bl_cl L (q % c))) with z | z
        · rw [bl_01t z]
          have e : bl_FP (bl_O N s M C) s (bl_cl L) c (q + 1) = bl_FP (bl_O N s M C) s (bl_cl L) c q + 1 := bl_cnt_t ⟨h, z⟩
          have g := ih (q + 1) iv' md' (by omega)
          rw [e] at g
          exact br_f (by decide) (nm_r (nI_1 _) (nm_r (nI_1 q) g))
        · rw [bl_01f z]
          have e : bl_FP (bl_O N s M C) s (bl_cl L) c (q + 1) = bl_FP (bl_O N s M C) s (bl_cl L) c q := bl_cnt_f (fun w => z w.2)
          have g := ih (q + 1) iv' md' (by omega)
          rw [e] at g
          exact br_t rfl (nm_r (nI_1 q) g)
theorem bx_countFalse {post : Int32 → SX → Prop} (h3 : 3 ≤ N) (hN : N ≤ 6) (hc : c ≤ 20) (hL : bl_LL L) (hF : bl_FF N s M C fs 9) (hH : bl_HD N s M C L hd (c + 1))
    (K : ∀ iv' md' : Nat → Int32, post (nI (bl_FP (bl_O N s M C) s (bl_cl L) c (c * c))) (nI N, nI s, nI c, kn, M, C, L, off, hd, fs, mt, iv', md')) : wpX_countFalse post (nI N, nI s, nI c, kn, M, C, L, off, hd, fs, mt, iv, md) := ⟨c * c + 1, bx_cf4 h3 hN hc hL hF hH K (c * c) 0 iv md (by omega)⟩
theorem bl_FP_le (O : Nat → Nat → Nat → Nat) (s : Nat) (cl : Nat → Nat) (c q : Nat) : bl_FP O s cl c q ≤ q := bl_cnt_le _ q
theorem bl_FP_0 {O : Nat → Nat → Nat → Nat} {s : Nat} {cl : Nat → Nat} {c : Nat} : bl_FP O s cl c (c * c) = 0 ↔ ∀ i j, i < j → j < c → ¬ bl_share O s cl i j := by
  unfold bl_FP
  rw [bl_cnt_z]
  constructor
  · intro h i j hij hj z
    have hq : i * c + j < c * c := by
      have := Nat.mul_le_mul_right c (show i + 1 ≤ c by omega)
      rw [Nat.add_mul] at this
      omega
    have hd : (i * c + j) / c = i := by
      rw [Nat.add_comm, Nat.add_mul_div_right _ _ (by omega), Nat.div_eq_of_lt hj]
      omega
    have hm : (i * c + j) % c = j := by
      rw [Nat.add_comm, Nat.add_mul_mod_self_right, Nat.mod_eq_of_lt hj]
    have h2 := h (i * c + j) hq
    have h3 : ¬ bl_Q O s cl ((i * c + j) / c) ((i * c + j) % c) := h2
    rw [hd, hm] at h3
    exact h3 ⟨hij, z⟩
  · intro h q hq z
    have hcp : 0 < c := by
      rcases Nat.eq_zero_or_pos c with a | a
      · rw [a] at hq; omega
      · exact a
    exact h (q / c) (q % c) z.1 (Nat.mod_lt _ hcp) z.2
theorem bx_at43_0 {post : Int32 → SX → Prop} (K : post 0 (nI N, nI s, nI c, kn, M, C, L, off, hd, fs, mt, iv, md)) : wX_allTrue_43 post 0 (nI N) (nI s) (nI c) kn M C L off hd fs mt iv md := br_t rfl (br_f (by decide) K)
theorem bx_at4 {post : Int32 → SX → Prop} (h3 : 3 ≤ N) (hN : N ≤ 6) (hs : s ≤ 12) (hc : c ≤ 20) (hL : bl_LL L) (hK : bl_KN N s M C off fs) (hH : bl_HD N s M C L hd (c + 1))
    (K : ∀ mt' iv' md' : Nat → Int32, post (nI (bl_01 (bl_true (bl_O N s M C) s (bl_cl L) c))) (nI N, nI s, nI c, kn, M, C, L, off, hd, fs, mt', iv', md')) : ∀ d i (mt iv md : Nat → Int32), i + d = c → (∀ j, j < i → ¬ bl_alone (bl_O N s M C) s (bl_cl L j)) → wX_allTrue_4 post (d + 1 + 1) 1 (nI i) (nI N) (nI s) (nI c) kn M C L off hd fs mt iv md := by
  have h400 := bl_cc hc
  intro d
  induction d with
  | zero =>
    intro i mt iv md hi h
    have e : i = c := by omega
    refine br_t (nI_le (by omega) (by omega)) (br_f (by decide) (bx_countFalse h3 hN hc hL hK.2 hH ?_))
    intro iv' md'
    have K2 := K mt iv' md'
    have hle := bl_FP_le (bl_O N s M C) s (bl_cl L) c (c * c)
    show wX_allTrue_55 post _ _ _ _ _ _ _ _ _ _ _ _ _ _
    refine pk_eq (bl_FP (bl_O N s M C) s (bl_cl L) c (c * c)) 0 (fun z => ?_) (fun z => ?_)
    · rw [bl_01t ⟨fun j hj => h j (by omega), bl_FP_0.mp z⟩] at K2
      exact K2
    · rw [bl_01f (fun w => z (bl_FP_0.mpr w.2))] at K2
      exact K2
  | succ d ih =>
    intro i mt iv md hi h
    refine br_f (nI_ge (by omega) (by omega)) (br_f (by decide) ⟨vp_in_nI (by omega) (by omega), ?_⟩)
    obtain ⟨l1, l2⟩ := hL i
    rw [nI_clamp (n := i) (by omega), l2]
    refine bx_aloneFalse h3 hN hs l1 (hK.1 _ l1) ?_
    intro mt' md'
    rcases Classical.em (bl_alone (bl_O N s M C) s (bl_cl L i)) with z | z
    · rw [bl_01t z]
      have K2 := K mt' iv md'
      rw [bl_01f (fun w => w.1 i (by omega) z)] at K2
      exact br_f (by decide) (fun x _ => br_c (fun _ => bx_at43_0 K2) (fun _ => br_t rfl (bx_at43_0 K2)))
    · rw [bl_01f z]
      refine br_t rfl (nm_r (nI_1 i) (ih (i + 1) mt' iv md' (by omega) ?_))
      intro j hj
      by_cases q : j = i
      · rw [q]; exact z
      · exact h j (by omega)
theorem bx_allTrue {post : Int32 → SX → Prop} (h3 : 3 ≤ N) (hN : N ≤ 6) (hs : s ≤ 12) (hc : c ≤ 20) (hL : bl_LL L) (hK : bl_KN N s M C off fs) (hH : bl_HD N s M C L hd (c + 1))
    (K : ∀ mt' iv' md' : Nat → Int32, post (nI (bl_01 (bl_true (bl_O N s M C) s (bl_cl L) c))) (nI N, nI s, nI c, kn, M, C, L, off, hd, fs, mt', iv', md')) : wpX_allTrue post (nI N, nI s, nI c, kn, M, C, L, off, hd, fs, mt, iv, md) := ⟨c + 1 + 1, bx_at4 h3 hN hs hc hL hK hH K c 0 mt iv md (by omega) (fun j hj => by omega)⟩
/-! what a reading call of X asks: any state that is known -/
def bl_PX (post : SX → Prop) (N s c : Nat) (M C L : Nat → Int32) : Prop := ∀ off hd fs mt iv md : Nat → Int32, bl_KN N s M C off fs → post (nI N, nI s, nI c, 1, M, C, L, off, hd, fs, mt, iv, md)
theorem bx_isTrue {post : Int32 → SX → Prop} (h3 : 3 ≤ N) (hN : N ≤ 6) (h1 : 1 ≤ s) (hs : s ≤ 12) (hc : c ≤ 20) (hL : bl_LL L) (hk : kn = 0 ∨ (kn = 1 ∧ bl_KN N s M C off fs))
    (K : bl_PX (post (nI (bl_01 (bl_true (bl_O N s M C) s (bl_cl L) c)))) N s c M C L) : wpX_isTrue post (nI N, nI s, nI c, kn, M, C, L, off, hd, fs, mt, iv, md) := by
  unfold wpX_isTrue
  refine bx_findHeads h3 hN h1 hs hc hL hk ?_
  intro off' hd' fs' md' hK hH
  refine bx_allTrue h3 hN hs hc hL hK hH ?_
  intro mt2 iv2 md2
  rcases Classical.em (bl_true (bl_O N s M C) s (bl_cl L) c) with z | z
  · rw [bl_01t z] at K ⊢
    exact br_f (by decide) (K off' hd' fs' mt2 iv2 md2 hK)
  · rw [bl_01f z] at K ⊢
    exact br_t rfl (K off' hd' fs' mt2 iv2 md2 hK)
theorem bx_falsePairs {post : Int32 → SX → Prop} (h3 : 3 ≤ N) (hN : N ≤ 6) (h1 : 1 ≤ s) (hs : s ≤ 12) (hc : c ≤ 20) (hL : bl_LL L) (hk : kn = 0 ∨ (kn = 1 ∧ bl_KN N s M C off fs))
    (K : bl_PX (post (nI (bl_FP (bl_O N s M C) s (bl_cl L) c (c * c)))) N s c M C L) : wpX_falsePairs post (nI N, nI s, nI c, kn, M, C, L, off, hd, fs, mt, iv, md) := by
  unfold wpX_falsePairs
  refine bx_findHeads h3 hN h1 hs hc hL hk ?_
  intro off' hd' fs' md' hK hH
  refine bx_countFalse h3 hN hc hL hK.2 hH ?_
  intro iv2 md2
  exact K off' hd' fs' mt iv2 md2 hK
theorem bx_badCall_f {post : Int32 → Prop} (u : SX) {call : Nat} (hc : call < 3) (K : post 0) : wpX_badCall post u (nI call) := by
  obtain ⟨u1, u2, u3, u4, u5, u6, u7, u8, u9, u10, u11, u12, u13⟩ := u
  exact br_f (nI_pos (by omega)) (br_t (nI_lt (b := 3) (by omega) (by omega)) K)
theorem bx_badCall_t {post : Int32 → Prop} (u : SX) {x : Int32} (hx : x < 0 ∨ nI 3 ≤ x) (K : post 1) : wpX_badCall post u x := by
  obtain ⟨u1, u2, u3, u4, u5, u6, u7, u8, u9, u10, u11, u12, u13⟩ := u
  by_cases h : x < 0
  · exact br_t h K
  · rcases hx with q | q
    · exact absurd q h
    · exact br_f h (br_f (Int32.not_lt.mpr q) K)
theorem bx_falseAlone {post : Int32 → SX → Prop} {call : Nat} (h3 : 3 ≤ N) (hN : N ≤ 6) (h1 : 1 ≤ s) (hs : s ≤ 12) (hcall : call < 3) (hk : kn = 0 ∨ (kn = 1 ∧ bl_KN N s M C off fs))
    (K : bl_PX (post (nI (bl_01 (bl_alone (bl_O N s M C) s call)))) N s c M C L) : wpX_falseAlone post (nI N, nI s, nI c, kn, M, C, L, off, hd, fs, mt, iv, md) (nI call) := by
  unfold wpX_falseAlone
  refine bx_badCall_f _ hcall (br_t rfl ?_)
  refine bx_find h3 hN h1 hs hk ?_
  intro off' fs' md' hK
  refine bx_aloneFalse h3 hN hs hcall (hK.1 _ hcall) ?_
  intro mt2 md2
  rcases Classical.em (bl_alone (bl_O N s M C) s call) with z | z
  · rw [bl_01t z] at K ⊢
    exact br_f (by decide) (K off' hd fs' mt2 iv md2 hK)
  · rw [bl_01f z] at K ⊢
    exact br_t rfl (K off' hd fs' mt2 iv md2 hK)
end BLN
end
section
/-! X: the reading calls -/
section BLR
variable {N s c : Nat} {kn : Int32} {M C L off hd fs mt iv md : Nat → Int32}
theorem bx_row19 {post : Int32 → SX → Prop} {k : Nat} (hN : N ≤ 6) (h1 : 1 ≤ s) (hs : s ≤ 12) (hc : c ≤ 20) (hL : bl_LL L) (hO : ∀ call, call < 3 → bl_OFF N s M C off call (s + 1)) (hH : bl_HD N s M C L hd (c + 1)) (hk : k ≤ c * s)
    (K : post (nI (bl_code (bl_G (bl_O N s M C) s (bl_cl L) k) N)) (nI N, nI s, nI c, kn, M, C, L, off, hd, fs, mt, iv, md)) : ∀ d p, p + d = N → wX_row_19 post (nI k) (nI N) (nI s) (nI c) kn M C L off hd fs mt iv md (d + 1) (nI (bl_code (bl_G (bl_O N s M C) s (bl_cl L) k) p)) (nI p) := by
  intro d
  induction d with
  | zero =>
    intro p hp
    have e : p = N := by omega
    rw [e]
    exact br_t (nI_le (by omega) (by omega)) K
  | succ d ih =>
    intro p hp
    refine br_f (nI_ge (by omega) (by omega)) (bx_bellAt hN h1 hs hc hL hO hH hk (by omega) ?_)
    refine nm_r (e' := nI (bl_code (bl_G (bl_O N s M C) s (bl_cl L) k) (p + 1))) ?_ (nm_r (nI_1 p) (ih (p + 1) (by omega)))
    rw [bl_m10, nI_add, nI_1]
    rfl
theorem bx_noRow_f {post : Int32 → Prop} {k : Nat} (hs : s ≤ 12) (hc : c ≤ 20) (hk : k ≤ c * s) (K : post 0) : wpX_noRow post (nI N, nI s, nI c, kn, M, C, L, off, hd, fs, mt, iv, md) (nI k) := by
  have h240 := bl_cs hs hc
  refine br_f (nI_pos (by omega)) (br_t ?_ K)
  rw [pk_mul]
  exact nI_le hk (by omega)
theorem bx_noRow_t {post : Int32 → Prop} {x : Int32} (hs : s ≤ 12) (hc : c ≤ 20) (hx : x < 0 ∨ nI (c * s + 1) ≤ x) (K : post 1) : wpX_noRow post (nI N, nI s, nI c, kn, M, C, L, off, hd, fs, mt, iv, md) x := by
  have h240 := bl_cs hs hc
  by_cases h : x < 0
  · exact br_t h K
  · refine br_f h (br_f ?_ K)
    rw [pk_mul]
    obtain ⟨j, hj, rfl⟩ := nI_of h
    rcases hx with q | q
    · exact absurd q h
    · rw [nI_leI (by omega) hj] at q
      exact nI_ge (by omega) hj
theorem bx_row {post : Int32 → SX → Prop} {k : Nat} (h3 : 3 ≤ N) (hN : N ≤ 6) (h1 : 1 ≤ s) (hs : s ≤ 12) (hc : c ≤ 20) (hL : bl_LL L) (hk : kn = 0 ∨ (kn = 1 ∧ bl_KN N s M C off fs)) (hkk : k ≤ c * s)
    (K : bl_PX (post (nI (bl_code (bl_G (bl_O N s M C) s (bl_cl L) k) N))) N s c M C L) : wpX_row post (nI N, nI s, nI c, kn, M, C, L, off, hd, fs, mt, iv, md) (nI k) := by
  unfold wpX_row
  refine bx_noRow_f hs hc hkk (br_t rfl ?_)
  refine bx_findHeads h3 hN h1 hs hc hL hk ?_
  intro off' hd' fs' md' hK hH
  exact ⟨N + 1, bx_row19 hN h1 hs hc hL hK.1 hH hkk (K off' hd' fs' mt iv md' hK) N 0 (by omega)⟩
theorem bx_pl35 {post : Int32 → SX → Prop} {b k t : Nat} (hN : N ≤ 6) (h1 : 1 ≤ s) (hs : s ≤ 12) (hc : c ≤ 20) (hL : bl_LL L) (hO : ∀ call, call < 3 → bl_OFF N s M C off call (s + 1)) (hH : bl_HD N s M C L hd (c + 1)) (hk : k ≤ c * s) (hb : b < N) (ht : t < N) (e : bl_G (bl_O N s M C) s (bl_cl L) k t = b)
    (K : post (nI t) (nI N, nI s, nI c, kn, M, C, L, off, hd, fs, mt, iv, md)) : ∀ d p, p + d = N → wX_place_35 post (nI (b + 1)) (nI k) (nI N) (nI s) (nI c) kn M C L off hd fs mt iv md (d + 1) (nI (if t < p then t else 0)) (nI p) := by
  have PG := bl_G_P (s := s) (cl := bl_cl L) (bl_OP N s M C) k
  intro d
  induction d with
  | zero =>
    intro p hp
    rw [if_pos (by omega)]
    exact br_t (nI_le (by omega) (by omega)) K
  | succ d ih =>
    intro p hp
    have a1 := bl_P_lt PG (show p < N by omega)
    refine br_f (nI_ge (by omega) (by omega)) (bx_bellAt hN h1 hs hc hL hO hH hk (by omega) ?_)
    have g := ih (p + 1) (by omega)
    rw [nI_pred]
    refine pk_eq (bl_G (bl_O N s M C) s (bl_cl L) k p) b (fun q => ?_) (fun q => ?_)
    · have ep : p = t := bl_P_inj PG (q.trans e.symm)
      rw [if_pos (by omega)] at g
      rw [← ep] at g
      exact nm_r (nI_1 p) g
    · have ep : p ≠ t := fun z => q (by rw [z]; exact e)
      have e3 : (if t < p + 1 then t else 0) = if t < p then t else 0 := by
        by_cases w : t < p
        · rw [if_pos w, if_pos (by omega)]
        · rw [if_neg w, if_neg (by omega)]
      rw [e3] at g
      exact nm_r (nI_1 p) g
theorem bx_place {post : Int32 → SX → Prop} {b k t : Nat} (h3 : 3 ≤ N) (hN : N ≤ 6) (h1 : 1 ≤ s) (hs : s ≤ 12) (hc : c ≤ 20) (hL : bl_LL L) (hk : kn = 0 ∨ (kn = 1 ∧ bl_KN N s M C off fs)) (hkk : k ≤ c * s) (hb : b < N) (ht : t < N) (e : bl_G (bl_O N s M C) s (bl_cl L) k t = b)
    (K : bl_PX (post (nI t)) N s c M C L) : wpX_place post (nI N, nI s, nI c, kn, M, C, L, off, hd, fs, mt, iv, md) (nI (b + 1)) (nI k) := by
  refine br_f (nI_nlt (b := 1) (by omega) (by omega)) (br_t (nI_le (by omega) (by omega)) ?_)
  refine bx_noRow_f hs hc hkk (br_t rfl ?_)
  refine bx_findHeads h3 hN h1 hs hc hL hk ?_
  intro off' hd' fs' md' hK hH
  have g := bx_pl35 hN h1 hs hc hL hK.1 hH hkk hb ht e (K off' hd' fs' mt iv md' hK) N 0 (by omega)
  rw [if_neg (by omega)] at g
  exact ⟨N + 1, g⟩
theorem bx_hm8_0 {post : Int32 → SX → Prop} (hN : N ≤ 6) (K : post 0 (nI N, nI s, nI c, kn, M, C, L, off, hd, fs, mt, iv, md)) : ∀ d p, p + d = N → wX_home_8 post (nI N) (nI s) (nI c) kn M C L off hd fs mt iv md (d + 1) 0 (nI p) := by
  intro d
  induction d with
  | zero =>
    intro p hp
    exact br_t (nI_le (by omega) (by omega)) (br_t rfl K)
  | succ d ih =>
    intro p hp
    exact br_f (nI_ge (by omega) (by omega)) (br_t rfl (nm_r (nI_1 p) (ih (p + 1) (by omega))))
theorem bx_hm8 {post : Int32 → SX → Prop} {H : Nat → Nat} (hN : N ≤ 6) (hc : c ≤ 20) (hH : ∀ p, p < N → hd (6 * c + p) = nI (H p)) (hl : ∀ p, p < N → H p < N)
    (K : post (nI (bl_01 (∀ p, p < N → H p = p))) (nI N, nI s, nI c, kn, M, C, L, off, hd, fs, mt, iv, md)) : ∀ d p, p + d = N → (∀ j, j < p → H j = j) → wX_home_8 post (nI N) (nI s) (nI c) kn M C L off hd fs mt iv md (d + 1) 1 (nI p) := by
  intro d
  induction d with
  | zero =>
    intro p hp h
    rw [bl_01t (fun j hj => h j (by omega))] at K
    exact br_t (nI_le (by omega) (by omega)) (br_f (by decide) K)
  | succ d ih =>
    intro p hp h
    have a1 := hl p (by omega)
    refine br_f (nI_ge (by omega) (by omega)) (br_f (by decide) ?_)
    rw [bl_m6, nI_add, nI_clamp (n := 6 * c + p) (by omega), hH p (by omega)]
    refine ⟨vp_in_nI (by omega) (by omega), pk_eq (H p) p (fun q => ?_) (fun q => ?_)⟩
    · refine nm_r (nI_1 p) (ih (p + 1) (by omega) ?_)
      intro j hj
      by_cases w : j = p
      · rw [w]; exact q
      · exact h j (by omega)
    · rw [bl_01f (fun z => q (z p (by omega)))] at K
      exact nm_r (nI_1 p) (bx_hm8_0 hN K d (p + 1) (by omega))
theorem bx_home {post : Int32 → SX → Prop} (h3 : 3 ≤ N) (hN : N ≤ 6) (h1 : 1 ≤ s) (hs : s ≤ 12) (hc : c ≤ 20) (hL : bl_LL L) (hk : kn = 0 ∨ (kn = 1 ∧ bl_KN N s M C off fs))
    (K : bl_PX (post (nI (bl_01 (∀ p, p < N → bl_H (bl_O N s M C) s (bl_cl L) c p = p)))) N s c M C L) : wpX_home post (nI N, nI s, nI c, kn, M, C, L, off, hd, fs, mt, iv, md) := by
  unfold wpX_home
  refine bx_findHeads h3 hN h1 hs hc hL hk ?_
  intro off' hd' fs' md' hK hH
  exact ⟨N + 1, bx_hm8 (H := bl_H (bl_O N s M C) s (bl_cl L) c) hN hc (fun p hp => hH c (by omega) p hp) (fun p hp => bl_P_lt (bl_H_P (bl_OP N s M C) c) hp) (K off' hd' fs' mt iv md' hK) N 0 (by omega) (fun j hj => by omega)⟩
theorem bx_ld23 {post : Int32 → SX → Prop} {b : Nat} (h3 : 3 ≤ N) (hN : N ≤ 6) (h1 : 1 ≤ s) (hs : s ≤ 12) (hc : c ≤ 20) (hL : bl_LL L) (hO : ∀ call, call < 3 → bl_OFF N s M C off call (s + 1)) (hH : bl_HD N s M C L hd (c + 1)) (hb : b < N)
    (K : post (nI (bl_cnt (fun k => bl_G (bl_O N s M C) s (bl_cl L) (k + 1) 0 = b) (c * s))) (nI N, nI s, nI c, kn, M, C, L, off, hd, fs, mt, iv, md)) : ∀ d k, k + d = c * s → wX_leads_23 post (nI (b + 1)) (nI N) (nI s) (nI c) kn M C L off hd fs mt iv md (d + 1) (nI (bl_cnt (fun k => bl_G (bl_O N s M C) s (bl_cl L) (k + 1) 0 = b) k)) (nI (k + 1)) := by
  have h240 := bl_cs hs hc
  intro d
  induction d with
  | zero =>
    intro k hk
    have e : k = c * s := by omega
    subst e
    refine br_t ?_ K
    rw [pk_mul]
    exact nI_lt (by omega) (by omega)
  | succ d ih =>
    intro k hk
    have a1 := bl_P_lt (bl_G_P (s := s) (cl := bl_cl L) (bl_OP N s M C) (k + 1)) (show 0 < N by omega)
    refine br_f ?_ ?_
    · rw [pk_mul]
      exact nI_nlt (by omega) (by omega)
    · refine bx_bellAt (p := 0) hN h1 hs hc hL hO hH (by omega) (by omega) ?_
      have g := ih (k + 1) (by omega)
      rw [nI_pred]
      refine pk_eq (bl_G (bl_O N s M C) s (bl_cl L) (k + 1) 0) b (fun q => ?_) (fun q => ?_)
      · rw [bl_cnt_t (P := fun k => bl_G (bl_O N s M C) s (bl_cl L) (k + 1) 0 = b) q] at g
        exact nm_r (nI_1 _) (nm_r (nI_1 (k + 1)) g)
      · rw [bl_cnt_f (P := fun k => bl_G (bl_O N s M C) s (bl_cl L) (k + 1) 0 = b) q] at g
        exact nm_r (nI_1 (k + 1)) g
theorem bx_leads {post : Int32 → SX → Prop} {b : Nat} (h3 : 3 ≤ N) (hN : N ≤ 6) (h1 : 1 ≤ s) (hs : s ≤ 12) (hc : c ≤ 20) (hL : bl_LL L) (hk : kn = 0 ∨ (kn = 1 ∧ bl_KN N s M C off fs)) (hb : b < N)
    (K : bl_PX (post (nI (bl_cnt (fun k => bl_G (bl_O N s M C) s (bl_cl L) (k + 1) 0 = b) (c * s)))) N s c M C L) : wpX_leads post (nI N, nI s, nI c, kn, M, C, L, off, hd, fs, mt, iv, md) (nI (b + 1)) := by
  refine br_f (nI_nlt (b := 1) (by omega) (by omega)) (br_t (nI_le (by omega) (by omega)) ?_)
  refine bx_findHeads h3 hN h1 hs hc hL hk ?_
  intro off' hd' fs' md' hK hH
  exact ⟨c * s + 1, bx_ld23 h3 hN h1 hs hc hL hK.1 hH hb (K off' hd' fs' mt iv md' hK) (c * s) 0 (by omega)⟩
theorem bx_df27 {post : Int32 → SX → Prop} {J : Int32 → Int32 → Int32 → Int32 → Int32 → Int32 → (Nat → Int32) → (Nat → Int32) → (Nat → Int32) → (Nat → Int32) → (Nat → Int32) → (Nat → Int32) → (Nat → Int32) → (Nat → Int32) → (Nat → Int32) → Prop} {a k : Nat} (h3 : 3 ≤ N) (hN : N ≤ 6) (h1 : 1 ≤ s) (hs : s ≤ 12) (hc : c ≤ 20) (hL : bl_LL L) (hO : ∀ call, call < 3 → bl_OFF N s M C off call (s + 1)) (hH : bl_HD N s M C L hd (c + 1)) (hk1 : 1 ≤ k) (hk : k ≤ c * s)
    (hM : bl_Met N (bl_G (bl_O N s M C) s (bl_cl L)) mt k)
    (K : ∀ mt' md' : Nat → Int32, bl_Met N (bl_G (bl_O N s M C) s (bl_cl L)) mt' (k + 1) → J (nI (a + bl_01 (bl_fresh (bl_G (bl_O N s M C) s (bl_cl L)) k))) (nI (k + 1)) (nI N) (nI s) (nI c) kn M C L off hd fs mt' iv md') : ∀ d p (md : Nat → Int32), p + d = N → (∀ j, j < p → md j = nI (bl_G (bl_O N s M C) s (bl_cl L) k j)) → wX_different_27 post J (nI a) (nI k) (nI N) (nI s) (nI c) kn (d + 1) (nI p) M C L off hd fs mt iv md := by
  have hG : ∀ k, bl_P N (bl_G (bl_O N s M C) s (bl_cl L) k) := fun k => bl_G_P (bl_OP N s M C) k
  intro d
  induction d with
  | zero =>
    intro p md hp h
    have e : p = N := by omega
    rw [e] at h ⊢
    refine br_t (nI_le (by omega) (by omega)) ?_
    refine bx_meetMade h3 hN (hG k) h ?_
    intro mt' hmt
    have K2 := K mt' md (bl_Met_s hk1 hM hmt)
    rw [bl_01c (bl_Met_f h3 hN hG hM)]
    rcases Classical.em (bl_fresh (bl_G (bl_O N s M C) s (bl_cl L)) k) with z | z
    · rw [bl_01t z] at K2 ⊢
      exact br_f (by decide) (nm_r (nI_1 a) (nm_r (nI_1 k) K2))
    · rw [bl_01f z] at K2 ⊢
      exact br_t rfl (nm_r (nI_1 k) K2)
  | succ d ih =>
    intro p md hp h
    have a1 := bl_P_lt (hG k) (show p < N by omega)
    refine br_f (nI_ge (by omega) (by omega)) (bx_bellAt hN h1 hs hc hL hO hH hk (by omega) ?_)
    rw [nI_clamp (n := p) (by omega), bl_nar8 (by omega)]
    refine ⟨vp_in_nI (by omega) (by omega), nm_e (nm_r (nI_1 p) (ih (p + 1) _ (by omega) ?_))⟩
    intro j hj
    by_cases q : j = p
    · subst q; exact pk_us
    · rw [pk_un q]; exact h j (by omega)
theorem bx_df12 {post : Int32 → SX → Prop} (h3 : 3 ≤ N) (hN : N ≤ 6) (h1 : 1 ≤ s) (hs : s ≤ 12) (hc : c ≤ 20) (hL : bl_LL L) (hO : ∀ call, call < 3 → bl_OFF N s M C off call (s + 1)) (hH : bl_HD N s M C L hd (c + 1))
    (K : ∀ mt' md' : Nat → Int32, post (nI (bl_cnt (fun k => bl_fresh (bl_G (bl_O N s M C) s (bl_cl L)) (k + 1)) (c * s))) (nI N, nI s, nI c, kn, M, C, L, off, hd, fs, mt', iv, md')) : ∀ d k (mt md : Nat → Int32), k + d = c * s → bl_Met N (bl_G (bl_O N s M C) s (bl_cl L)) mt (k + 1) → wX_different_12 post (d + 1) (nI (bl_cnt (fun k => bl_fresh (bl_G (bl_O N s M C) s (bl_cl L)) (k + 1)) k)) (nI (k + 1)) (nI N) (nI s) (nI c) kn M C L off hd fs mt iv md := by
  have h240 := bl_cs hs hc
  intro d
  induction d with
  | zero =>
    intro k mt md hk hM
    have e : k = c * s := by omega
    subst e
    refine br_t ?_ (K mt md)
    rw [pk_mul]
    exact nI_lt (by omega) (by omega)
  | succ d ih =>
    intro k mt md hk hM
    refine br_f ?_ ⟨N + 1, ?_⟩
    · rw [pk_mul]
      exact nI_nlt (by omega) (by omega)
    · refine bx_df27 h3 hN h1 hs hc hL hO hH (by omega) (by omega) hM ?_ N 0 md (by omega) (fun j hj => by omega)
      intro mt' md' hM'
      exact ih (k + 1) mt' md' (by omega) hM'
theorem bx_different {post : Int32 → SX → Prop} (h3 : 3 ≤ N) (hN : N ≤ 6) (h1 : 1 ≤ s) (hs : s ≤ 12) (hc : c ≤ 20) (hL : bl_LL L) (hk : kn = 0 ∨ (kn = 1 ∧ bl_KN N s M C off fs))
    (K : bl_PX (post (nI (bl_cnt (fun k => bl_fresh (bl_G (bl_O N s M C) s (bl_cl L)) (k + 1)) (c * s)))) N s c M C L) : wpX_different post (nI N, nI s, nI c, kn, M, C, L, off, hd, fs, mt, iv, md) := by
  unfold wpX_different
  refine bx_findHeads h3 hN h1 hs hc hL hk ?_
  intro off' hd' fs' md' hK hH
  refine bx_clearMet ?_
  intro mt' hz
  exact ⟨c * s + 1, bx_df12 h3 hN h1 hs hc hL hK.1 hH (fun mt2 md2 => K off' hd' fs' mt2 iv md2 hK) (c * s) 0 mt' md' (by omega) (bl_Met_1 hz)⟩
end BLR
end
section
/-! X: order, choices -/
section BLO
variable {N s c : Nat} {kn : Int32} {M C L off hd fs mt iv md : Nat → Int32}
theorem bx_gr5 {post : Int32 → Prop} : ∀ n x y, y < n → x < 2 ^ 31 → y < 2 ^ 31 → post (nI (Nat.gcd x y)) → wX_greatest_5 post (nI N) (nI s) (nI c) kn M C L off hd fs mt iv md n (nI x) (nI y) := by
  intro n
  induction n with
  | zero => intro x y hy _ _ _; exact absurd hy (Nat.not_lt_zero y)
  | succ n ih =>
    intro x y hy hx h31 K
    refine pk_le y 0 (fun h => ?_) (fun h => ?_)
    · have e : y = 0 := by omega
      rw [e, Nat.gcd_zero_right] at K
      exact K
    · refine ⟨nI_ne0 h h31, nm_r (pk_rem hx h h31) ?_⟩
      have hm : x % y < y := Nat.mod_lt _ h
      refine ih y (x % y) (by omega) h31 (by omega) ?_
      rw [Nat.gcd_comm, ← Nat.gcd_rec, Nat.gcd_comm]
      exact K
theorem bx_greatest {post : Int32 → Prop} {x y : Nat} (hx : x < 2 ^ 31) (hy : y < 2 ^ 31) (K : post (nI (Nat.gcd x y))) : wpX_greatest post (nI N, nI s, nI c, kn, M, C, L, off, hd, fs, mt, iv, md) (nI x) (nI y) := ⟨y + 1, bx_gr5 (y + 1) x y (by omega) hx hy K⟩
theorem bx_or85 {post : Int32 → SX → Prop} {J : Int32 → Int32 → Prop} {x2 : Int32} {T p r : Nat} (hT1 : 1 ≤ T) (hT : T ≤ 60) (hp : p < 6) (hr : r ≤ 6) (K : J (nI (T * r / Nat.gcd T r)) (nI (p + 1))) : wX_order_85 post J x2 (nI T) (nI p) (nI r) (nI N) (nI s) (nI c) kn M C L off hd fs mt iv md := by
  have hg : 0 < Nat.gcd T r := Nat.gcd_pos_of_pos_left r hT1
  have hg2 : Nat.gcd T r ≤ T := Nat.le_of_dvd hT1 (Nat.gcd_dvd_left T r)
  have hm : T * r ≤ 360 := Nat.mul_le_mul hT hr
  unfold wX_order_85
  refine bx_greatest (by omega) (by omega) ?_
  refine br_f (nI_nle hg (by omega)) ⟨nI_ne0 hg (by omega), nm_r (e' := nI (T * r / Nat.gcd T r)) ?_ (nm_r (nI_1 p) K)⟩
  rw [pk_mul, pk_div (by omega) hg (by omega)]
theorem bx_or52 {post : Int32 → SX → Prop} {J : Int32 → Int32 → Prop} {P : Nat → Nat} {e T p : Nat} (hN : N ≤ 6) (he : e + 6 ≤ 234) (PP : bl_P N P) (hO : ∀ p, p < N → off (e + p) = nI (P p)) (hp : p < N) (hT : bl_T P p T)
    (K : ∀ T', bl_T P (p + 1) T' → J (nI T') (nI (p + 1))) : ∀ d r, r + d = N → 1 ≤ r → (∀ t, 1 ≤ t → t < r → bl_it P t p ≠ p) → wX_order_52 post J (nI e) (nI T) (nI p) (nI N) (nI s) (nI c) kn M C L off hd fs mt iv md (d + 1) (nI r) (nI (bl_it P r p)) := by
  have fin : ∀ r, r ≤ N → 1 ≤ r → bl_it P r p = p → (∀ t, 1 ≤ t → t < r → bl_it P t p ≠ p) → wX_order_85 post J (nI e) (nI T) (nI p) (nI r) (nI N) (nI s) (nI c) kn M C L off hd fs mt iv md := fun r hrN h1 h2 h3 =>
    bx_or85 hT.1 (bl_T_le hT) (by omega) (by omega) (K _ (bl_T_s hT (by omega) ⟨h1, h2, h3⟩))
  intro d
  induction d with
  | zero =>
    intro r hr h1 h
    have a1 := bl_P_lt (bl_it_P PP r) hp
    refine pk_eq (bl_it P r p) p (fun q => fin r (by omega) h1 q h) (fun q => ?_)
    obtain ⟨r0, a, b, e0⟩ := bl_back PP hp
    rcases Nat.lt_or_ge r0 r with w | w
    · exact absurd e0 (h r0 a w)
    · have : r0 = r := by omega
      rw [this] at e0
      exact absurd e0 q
  | succ d ih =>
    intro r hr h1 h
    have a1 := bl_P_lt (bl_it_P PP r) hp
    refine pk_eq (bl_it P r p) p (fun q => fin r (by omega) h1 q h) (fun q => br_f (nI_ge (by omega) (by omega)) ?_)
    rw [nI_add, nI_clamp (n := e + bl_it P r p) (by omega), hO _ a1, bl_it_c (P := P) r p]
    refine ⟨vp_in_nI (by omega) (by omega), nm_e (nm_r (nI_1 r) (ih (r + 1) (by omega) (by omega) ?_))⟩
    intro t ht1 ht2
    by_cases w : t = r
    · rw [w]; exact q
    · exact h t ht1 (by omega)
theorem bx_or29 {post : Int32 → SX → Prop} {P : Nat → Nat} {e : Nat} (hN : N ≤ 6) (he : e + 6 ≤ 234) (PP : bl_P N P) (hO : ∀ p, p < N → off (e + p) = nI (P p))
    (K : ∀ T, bl_T P N T → post (nI T) (nI N, nI s, nI c, kn, M, C, L, off, hd, fs, mt, iv, md)) : ∀ d p T, p + d = N → bl_T P p T → wX_order_29 post (nI e) (nI N) (nI s) (nI c) kn M C L off hd fs mt iv md (d + 1) (nI T) (nI p) := by
  intro d
  induction d with
  | zero =>
    intro p T hp hT
    have e : p = N := by omega
    exact br_t (nI_le (by omega) (by omega)) (K T (e ▸ hT))
  | succ d ih =>
    intro p T hp hT
    refine br_f (nI_ge (by omega) (by omega)) ?_
    rw [nI_add, nI_clamp (n := e + p) (by omega), hO p (by omega)]
    refine ⟨vp_in_nI (by omega) (by omega), nm_e ⟨N - 1 + 1, ?_⟩⟩
    exact bx_or52 hN he PP hO (by omega) hT (fun T' hT' => ih (p + 1) T' (by omega) hT') (N - 1) 1 (by omega) (by omega) (fun t a b => by omega)
theorem bx_order {post : Int32 → SX → Prop} {call : Nat} (h3 : 3 ≤ N) (hN : N ≤ 6) (h1 : 1 ≤ s) (hs : s ≤ 12) (hcall : call < 3) (hk : kn = 0 ∨ (kn = 1 ∧ bl_KN N s M C off fs))
    (K : ∀ T, bl_T (bl_O N s M C call s) N T → bl_PX (post (nI T)) N s c M C L) : wpX_order post (nI N, nI s, nI c, kn, M, C, L, off, hd, fs, mt, iv, md) (nI call) := by
  unfold wpX_order
  refine bx_badCall_f _ hcall (br_t rfl ?_)
  refine bx_find h3 hN h1 hs hk ?_
  intro off' fs' md' hK
  refine bx_off _ ⟨N + 1, ?_⟩
  exact bx_or29 hN (by omega) (bl_O_P N s M C call s) (fun p hp => hK.1 call hcall s (by omega) p hp) (fun T hT => K T hT off' hd fs' mt iv md' hK) N 0 1 (by omega) (bl_T_0 _)
/-- a lead with a call may follow -/
def bl_go (O : Nat → Nat → Nat → Nat) (s : Nat) (cl : Nat → Nat) (c call : Nat) : Prop := bl_true O s (bl_ext cl c call) (c + 1)
theorem bx_ch32 {post : Int32 → SX → Prop} {J : Int32 → Int32 → Int32 → Int32 → Int32 → Int32 → (Nat → Int32) → (Nat → Int32) → (Nat → Int32) → (Nat → Int32) → (Nat → Int32) → (Nat → Int32) → (Nat → Int32) → (Nat → Int32) → (Nat → Int32) → Prop} {x1 : Int32} {a call : Nat} (h3 : 3 ≤ N) (hN : N ≤ 6) (hc : c ≤ 20) (hL : bl_LL L) (hF : bl_FF N s M C fs 9) (hH : bl_HD N s M C L hd (c + 1)) (hcall : call < 3)
    (K : ∀ iv' md' : Nat → Int32, J (nI (a + bl_01 (¬ bl_alone (bl_O N s M C) s call ∧ ∀ i, i < c → ¬ bl_shareX (bl_O N s M C) s (bl_cl L) i c call))) (nI (call + 1)) (nI N) (nI s) (nI c) kn M C L off hd fs mt iv' md') : ∀ d i (x4 : Nat) (iv md : Nat → Int32), i + d = c → x4 = bl_01 (bl_alone (bl_O N s M C) s call ∨ ∃ j, j < i ∧ bl_shareX (bl_O N s M C) s (bl_cl L) j c call) → wX_choices_32 post J x1 (nI a) (nI call) (d + 1) (nI x4) (nI i) (nI N) (nI s) (nI c) kn M C L off hd fs mt iv md := by
  have fin1 : ∀ (iv md : Nat → Int32), (bl_alone (bl_O N s M C) s call ∨ ∃ j, j < c ∧ bl_shareX (bl_O N s M C) s (bl_cl L) j c call) → wX_choices_65 post J x1 (nI a) (nI call) 1 (nI N) (nI s) (nI c) kn M C L off hd fs mt iv md := by
    intro iv md h
    have K2 := K iv md
    rw [bl_01f (fun w => by
      rcases h with z | ⟨j, hj, z⟩
      · exact w.1 z
      · exact w.2 j hj z)] at K2
    exact br_f (by decide) (nm_r (nI_1 call) K2)
  have fin0 : ∀ (iv md : Nat → Int32), ¬ (bl_alone (bl_O N s M C) s call ∨ ∃ j, j < c ∧ bl_shareX (bl_O N s M C) s (bl_cl L) j c call) → wX_choices_65 post J x1 (nI a) (nI call) 0 (nI N) (nI s) (nI c) kn M C L off hd fs mt iv md := by
    intro iv md h
    have K2 := K iv md
    rw [bl_01t ⟨fun z => h (Or.inl z), fun j hj z => h (Or.inr ⟨j, hj, z⟩)⟩] at K2
    exact br_t rfl (nm_r (nI_1 a) (nm_r (nI_1 call) K2))
  intro d
  induction d with
  | zero =>
    intro i x4 iv md hi hx
    have e : i = c := by omega
    rw [e] at hx
    refine br_t (nI_le (by omega) (by omega)) ?_
    rcases Classical.em (bl_alone (bl_O N s M C) s call ∨ ∃ j, j < c ∧ bl_shareX (bl_O N s M C) s (bl_cl L) j c call) with z | z
    · rw [hx, bl_01t z]; exact fin1 iv md z
    · rw [hx, bl_01f z]; exact fin0 iv md z
  | succ d ih =>
    intro i x4 iv md hi hx
    refine br_f (nI_ge (by omega) (by omega)) ?_
    rcases Classical.em (bl_alone (bl_O N s M C) s call ∨ ∃ j, j < i ∧ bl_shareX (bl_O N s M C) s (bl_cl L) j c call) with z | z
    · rw [hx, bl_01t z]
      refine br_f (by decide) (fin1 iv md ?_)
      rcases z with z | ⟨j, hj, z⟩
      · exact Or.inl z
      · exact Or.inr ⟨j, by omega, z⟩
    · rw [hx, bl_01f z]
      refine br_t rfl (bx_pairFalse h3 hN hc (by omega) (by omega) hcall hL hF hH ?_)
      intro iv' md'
      refine nm_r (nI_1 i) (ih (i + 1) _ iv' md' (by omega) (bl_01c ?_))
      constructor
      · intro w; exact Or.inr ⟨i, by omega, w⟩
      · rintro (w | ⟨j, hj, w⟩)
        · exact absurd (Or.inl w) z
        · by_cases q : j = i
          · rw [q] at w; exact w
          · exact absurd (Or.inr ⟨j, by omega, w⟩) z
theorem bx_ch13 {post : Int32 → SX → Prop} (h3 : 3 ≤ N) (hN : N ≤ 6) (hs : s ≤ 12) (hc : c ≤ 20) (hL : bl_LL L) (hK : bl_KN N s M C off fs) (hH : bl_HD N s M C L hd (c + 1)) (hT : bl_true (bl_O N s M C) s (bl_cl L) c)
    (K : ∀ mt' iv' md' : Nat → Int32, post (nI (bl_cnt (bl_go (bl_O N s M C) s (bl_cl L) c) 3)) (nI N, nI s, nI c, kn, M, C, L, off, hd, fs, mt', iv', md')) : ∀ d k (mt iv md : Nat → Int32), k + d = 3 → wX_choices_13 post 1 (d + 1) (nI (bl_cnt (bl_go (bl_O N s M C) s (bl_cl L) c) k)) (nI k) (nI N) (nI s) (nI c) kn M C L off hd fs mt iv md := by
  intro d
  induction d with
  | zero =>
    intro k mt iv md hk
    have e : k = 3 := by omega
    subst e
    exact br_t (nI_le (a := 3) (by omega) (by omega)) (K mt iv md)
  | succ d ih =>
    intro k mt iv md hk
    refine br_f (nI_ge (b := 3) (by omega) (by omega)) (br_f (by decide) ?_)
    refine bx_aloneFalse h3 hN hs (by omega) (hK.1 _ (by omega)) ?_
    intro mt' md'
    refine ⟨c + 1, bx_ch32 h3 hN hc hL hK.2 hH (by omega) ?_ c 0 _ iv md' (by omega) (bl_01c ?_)⟩
    · intro iv2 md2
      have g := ih (k + 1) mt' iv2 md2 (by omega)
      rw [bl_cnt_s] at g
      have e : bl_01 (bl_go (bl_O N s M C) s (bl_cl L) c k) = bl_01 (¬ bl_alone (bl_O N s M C) s k ∧ ∀ i, i < c → ¬ bl_shareX (bl_O N s M C) s (bl_cl L) i c k) := by
        refine bl_01c ?_
        unfold bl_go
        rw [bl_ext_true]
        exact ⟨fun z => z.2, fun z => ⟨hT, z⟩⟩
      rw [e] at g
      exact g
    · exact ⟨fun z => Or.inl z, fun z => by
        rcases z with z | ⟨j, hj, _⟩
        · exact z
        · omega⟩
theorem bx_choices {post : Int32 → SX → Prop} (h3 : 3 ≤ N) (hN : N ≤ 6) (h1 : 1 ≤ s) (hs : s ≤ 12) (hc : c ≤ 20) (hL : bl_LL L) (hk : kn = 0 ∨ (kn = 1 ∧ bl_KN N s M C off fs))
    (K : bl_PX (post (nI (bl_cnt (bl_go (bl_O N s M C) s (bl_cl L) c) 3))) N s c M C L) : wpX_choices post (nI N, nI s, nI c, kn, M, C, L, off, hd, fs, mt, iv, md) := by
  unfold wpX_choices
  refine bx_findHeads h3 hN h1 hs hc hL hk ?_
  intro off' hd' fs' md' hK hH
  refine bx_allTrue h3 hN hs hc hL hK hH ?_
  intro mt2 iv2 md2
  rcases Classical.em (bl_true (bl_O N s M C) s (bl_cl L) c) with z | z
  · rw [bl_01t z]
    exact ⟨4, bx_ch13 h3 hN hs hc hL hK hH z (fun mt3 iv3 md3 => K off' hd' fs' mt3 iv3 md3 hK) 3 0 mt2 iv2 md2 (by omega)⟩
  · rw [bl_01f z]
    have K2 := K off' hd' fs' mt2 iv2 md2 hK
    rw [bl_cnt_0 (P := bl_go (bl_O N s M C) s (bl_cl L) c) 3 (fun j _ w => z ((bl_ext_true.mp w).1))] at K2
    exact ⟨1, br_f (by decide) (br_t rfl K2)⟩
end BLO
end
section
/-! Y: rows written down -/
section BLY
variable {N s c : Nat} {ls : Int32} {M C L bs ro : Nat → Int32}
theorem yl_round2 {post : SY → Prop} (hN : N ≤ 6) (K : ∀ bs' : Nat → Int32, (∀ p, p < N → bs' p = nI (p + 1)) → post (nI N, nI s, nI c, ls, M, C, L, bs', ro)) : ∀ d p (bs : Nat → Int32), p + d = N → (∀ j, j < p → bs j = nI (j + 1)) → wY_round_2 post (nI N) (nI s) (nI c) ls (d + 1) (nI p) M C L bs ro := by
  intro d
  induction d with
  | zero =>
    intro p bs hp h
    have e : p = N := by omega
    exact br_t (nI_le (by omega) (by omega)) (K bs (e ▸ h))
  | succ d ih =>
    intro p bs hp h
    refine br_f (nI_ge (by omega) (by omega)) ⟨vp_in_nI (by omega) (by omega), ?_⟩
    rw [nI_clamp (n := p) (by omega), nI_1 p]
    refine nm_e (nm_e (ih (p + 1) _ (by omega) ?_))
    intro j hj
    by_cases q : j = p
    · subst q; exact pk_us
    · rw [pk_un q]; exact h j (by omega)
theorem yl_round {post : SY → Prop} (hN : N ≤ 6) (K : ∀ bs' : Nat → Int32, (∀ p, p < N → bs' p = nI (p + 1)) → post (nI N, nI s, nI c, ls, M, C, L, bs', ro)) : wpY_round post (nI N, nI s, nI c, ls, M, C, L, bs, ro) := ⟨N + 1, yl_round2 hN K N 0 bs (by omega) (fun j hj => by omega)⟩
theorem yl_code4 {post : Int32 → Prop} {f : Nat → Nat} (hN : N ≤ 6) (hb : ∀ p, p < N → bs p = nI (f p + 1)) (K : post (nI (bl_code f N))) : ∀ d p, p + d = N → wY_code_4 post (nI N) (nI s) (nI c) ls M C L bs ro (d + 1) (nI (bl_code f p)) (nI p) := by
  intro d
  induction d with
  | zero =>
    intro p hp
    have e : p = N := by omega
    rw [e]
    exact br_t (nI_le (by omega) (by omega)) K
  | succ d ih =>
    intro p hp
    refine br_f (nI_ge (by omega) (by omega)) ⟨vp_in_nI (by omega) (by omega), ?_⟩
    rw [nI_clamp (n := p) (by omega), hb p (by omega), bl_m10, nI_add]
    exact nm_e (nm_r (nI_1 p) (ih (p + 1) (by omega)))
theorem yl_code {post : Int32 → Prop} {f : Nat → Nat} (hN : N ≤ 6) (hb : ∀ p, p < N → bs p = nI (f p + 1)) (K : post (nI (bl_code f N))) : wpY_code post (nI N, nI s, nI c, ls, M, C, L, bs, ro) := ⟨N + 1, yl_code4 hN hb K N 0 (by omega)⟩
theorem yl_ex2 {post : SY → Prop} {z : Int32} (hN : N ≤ 6) : ∀ d p (bs : Nat → Int32), N ≤ p + d → p ≤ N + 1 → bl_ok N z d p = true →
    (∀ bs' : Nat → Int32, (∀ j, j < N → bs' j = bs (bl_g N z d p j)) → post (nI N, nI s, nI c, ls, M, C, L, bs', ro)) → wY_exchange_2 post z (nI N) (nI s) (nI c) ls (d + 1) (nI p) M C L bs ro := by
  intro d
  induction d with
  | zero =>
    intro p bs hd hp ok K
    exact br_t (nI_le (by omega) (by omega)) (K bs (fun j hj => rfl))
  | succ d ih =>
    intro p bs hd hp ok K
    rw [bl_ok_s] at ok
    refine pk_le N p (fun a => K bs (fun j hj => by rw [bl_g_s, if_pos a])) (fun a => ?_)
    rw [if_neg (show ¬ N ≤ p by omega)] at ok
    by_cases b : ((z >>> (nI p &&& 31)) &&& 1) = 1
    · rw [if_pos b] at ok
      refine br_t b (nm_r (nI_1 p) (ih (p + 1) bs (by omega) (by omega) ok (fun bs' A => K bs' (fun j hj => ?_))))
      rw [A j hj, bl_g_s, if_neg (by omega), if_pos b]
    · rw [if_neg b] at ok
      by_cases a2 : N ≤ p + 1
      · rw [if_pos a2] at ok
        exact absurd ok (by decide)
      · rw [if_neg a2] at ok
        have ok2 : bl_ok N z d (p + 2) = true := by
          by_cases b2 : ((z >>> (nI (p + 1) &&& 31)) &&& 1) = 0
          · rw [if_pos b2] at ok; exact ok
          · rw [if_neg b2] at ok; exact absurd ok (by decide)
        refine br_f b ?_
        rw [nI_1 p, nI_clamp (n := p) (by omega), nI_clamp (n := p + 1) (by omega)]
        refine ⟨vp_in_nI (by omega) (by omega), nm_e ⟨vp_in_nI (by omega) (by omega), vp_in_nI (by omega) (by omega), nm_e ⟨vp_in_nI (by omega) (by omega), nm_e (nm_r (bl_2 p) ?_)⟩⟩⟩
        refine ih (p + 2) _ (by omega) (by omega) ok2 (fun bs' A => K bs' (fun j hj => ?_))
        rw [A j hj, bl_g_s, if_neg (by omega), if_neg b, if_neg (by omega)]
        by_cases q1 : j = p
        · rw [if_pos q1, q1, bl_g_lo _ _ _ (by omega), pk_un (by omega), pk_us]
        · by_cases q2 : j = p + 1
          · rw [if_neg q1, if_pos q2, q2, bl_g_lo _ _ _ (by omega), pk_us]
          · rw [if_neg q1, if_neg q2]
            have hk : ¬ bl_g N z d (p + 2) j = p ∧ ¬ bl_g N z d (p + 2) j = p + 1 := by
              rcases Nat.lt_or_ge j p with w | w
              · rw [bl_g_lo _ _ _ (by omega)]; omega
              · have := bl_g_ge (N := N) (z := z) d (p + 2) j (by omega)
                omega
            rw [pk_un hk.2, pk_un hk.1]
theorem yl_exchange {post : SY → Prop} {z : Int32} {f : Nat → Nat} (hN : N ≤ 6) (ok : bl_ok N z N 0 = true) (hb : ∀ p, p < N → bs p = nI (f p + 1))
    (K : ∀ bs' : Nat → Int32, (∀ p, p < N → bs' p = nI (f (bl_g N z N 0 p) + 1)) → post (nI N, nI s, nI c, ls, M, C, L, bs', ro)) : wpY_exchange post (nI N, nI s, nI c, ls, M, C, L, bs, ro) z :=
  ⟨N + 1, yl_ex2 hN N 0 bs (by omega) (by omega) ok (fun bs' A => K bs' (fun p hp => by rw [A p hp, hb _ (bl_g_lt _ _ _ hp)]))⟩
/-- the changes are good ones -/
def bl_OK (N s : Nat) (M C : Nat → Int32) : Prop := (∀ i, i < s → bl_ok N (M i) N 0 = true) ∧ ∀ a, 1 ≤ a → a < 3 → bl_ok N (C a) N 0 = true
theorem bl_OK_set (h : bl_OK N s M C) {call i : Nat} (hc : call < 3) (hi : i < s) : bl_ok N (bl_set s M C call (i + 1)) N 0 = true := by
  unfold bl_set
  rw [Nat.add_sub_cancel]
  by_cases a : i + 1 = s
  · rw [if_pos a]
    by_cases b : 0 < call
    · rw [if_pos b]; exact h.2 call b hc
    · rw [if_neg b]; exact h.1 i hi
  · rw [if_neg a]; exact h.1 i hi
theorem yl_ring40 {post : SY → Prop} {J : Int32 → Int32 → Int32 → Int32 → Int32 → (Nat → Int32) → (Nat → Int32) → (Nat → Int32) → (Nat → Int32) → (Nat → Int32) → Prop} {x1 z : Int32} {i l : Nat} {f : Nat → Nat} (hN : N ≤ 6) (hl : l < 259) (ok : bl_ok N z N 0 = true) (hb : ∀ p, p < N → bs p = nI (f p + 1))
    (K : ∀ bs' : Nat → Int32, (∀ p, p < N → bs' p = nI (f (bl_g N z N 0 p) + 1)) → J (nI (i + 1)) (nI N) (nI s) (nI c) (nI (l + 1)) M C L bs' (upd ro (l + 1) (nI (bl_code (fun p => f (bl_g N z N 0 p)) N)))) : wY_ring_40 post J x1 (nI i) z (nI N) (nI s) (nI c) (nI l) M C L bs ro := by
  unfold wY_ring_40
  refine yl_exchange hN ok hb ?_
  intro bs' hb'
  refine nm_r (nI_1 l) ?_
  refine yl_code (f := fun p => f (bl_g N z N 0 p)) hN hb' ?_
  rw [nI_clamp (n := l + 1) (by omega)]
  exact ⟨vp_in_nI (by omega) (by omega), nm_e (nm_r (nI_1 i) (K bs' hb'))⟩
theorem yl_ring2 {post : SY → Prop} {call l : Nat} {h : Nat → Nat} (hN : N ≤ 6) (hs : s ≤ 12) (hc : call < 3) (hl : l + s < 260) (ok : bl_OK N s M C)
    (K : ∀ bs' ro' : Nat → Int32, (∀ p, p < N → bs' p = nI (h (bl_O N s M C call s p) + 1)) → (∀ k, 1 ≤ k → k ≤ s → ro' (l + k) = nI (bl_code (fun p => h (bl_O N s M C call k p)) N)) → (∀ j, j ≤ l → ro' j = ro j) → post (nI N, nI s, nI c, nI (l + s), M, C, L, bs', ro')) : ∀ d i (bs rc : Nat → Int32), i + d = s →
    (∀ p, p < N → bs p = nI (h (bl_O N s M C call i p) + 1)) → (∀ k, 1 ≤ k → k ≤ i → rc (l + k) = nI (bl_code (fun p => h (bl_O N s M C call k p)) N)) → (∀ j, j ≤ l → rc j = ro j) → wY_ring_2 post (nI call) (d + 1) (nI i) (nI N) (nI s) (nI c) (nI (l + i)) M C L bs rc := by
  intro d
  induction d with
  | zero =>
    intro i bs rc hi h1 h2 h3
    have e : i = s := by omega
    rw [e] at h1 h2 ⊢
    exact br_t (nI_le (by omega) (by omega)) (K bs rc h1 h2 h3)
  | succ d ih =>
    intro i bs rc hi h1 h2 h3
    have W : wY_ring_40 post (wY_ring_2 post (nI call) (d + 1)) (nI call) (nI i) (bl_set s M C call (i + 1)) (nI N) (nI s) (nI c) (nI (l + i)) M C L bs rc := by
      refine yl_ring40 (f := fun p => h (bl_O N s M C call i p)) hN (by omega) (bl_OK_set ok hc (by omega)) h1 ?_
      intro bs' hb'
      refine ih (i + 1) bs' _ (by omega) hb' ?_ ?_
      · intro k k1 k2
        by_cases q : k = i + 1
        · subst q; exact pk_us
        · rw [pk_un (by omega)]; exact h2 k k1 (by omega)
      · intro j hj
        rw [pk_un (by omega)]
        exact h3 j hj
    have W34 : bl_set s M C call (i + 1) = M i → wY_ring_34 post (wY_ring_2 post (nI call) (d + 1)) (nI call) (nI i) (nI N) (nI s) (nI c) (nI (l + i)) M C L bs rc := by
      intro e
      unfold wY_ring_34
      rw [nI_clamp (n := i) (by omega)]
      rw [e] at W
      exact ⟨vp_in_nI (by omega) (by omega), W⟩
    refine br_f (nI_ge (by omega) (by omega)) ?_
    rw [bl_s (by omega)]
    refine pk_eq i (s - 1) (fun e => ?_) (fun e => W34 (by unfold bl_set; rw [if_neg (by omega)]; rfl))
    refine pk_le call 0 (fun w => W34 (by unfold bl_set; rw [if_pos (by omega), if_neg (by omega)]; rfl)) (fun w => ⟨vp_in_nI hc (by omega), ?_⟩)
    rw [nI_clamp (n := call) (by omega)]
    have e2 : bl_set s M C call (i + 1) = C call := by unfold bl_set; rw [if_pos (by omega), if_pos w]
    rw [e2] at W
    exact W
theorem yl_ring {post : SY → Prop} {call l : Nat} {h : Nat → Nat} (hN : N ≤ 6) (hs : s ≤ 12) (hc : call < 3) (hl : l + s < 260) (ok : bl_OK N s M C) (hb : ∀ p, p < N → bs p = nI (h p + 1))
    (K : ∀ bs' ro' : Nat → Int32, (∀ p, p < N → bs' p = nI (h (bl_O N s M C call s p) + 1)) → (∀ k, 1 ≤ k → k ≤ s → ro' (l + k) = nI (bl_code (fun p => h (bl_O N s M C call k p)) N)) → (∀ j, j ≤ l → ro' j = ro j) → post (nI N, nI s, nI c, nI (l + s), M, C, L, bs', ro')) : wpY_ring post (nI N, nI s, nI c, nI l, M, C, L, bs, ro) (nI call) :=
  ⟨s + 1, yl_ring2 hN hs hc hl ok K s 0 bs ro (by omega) hb (fun k a b => by omega) (fun j hj => rfl)⟩
/-- the rows of the touch, written down -/
def bl_RW (N s : Nat) (M C L ro : Nat → Int32) (n : Nat) : Prop := ∀ k, k ≤ n → ro k = nI (bl_code (bl_G (bl_O N s M C) s (bl_cl L) k) N)
theorem bl_RW_s {ro' : Nat → Int32} {i : Nat} (h : bl_RW N s M C L ro (i * s)) (h2 : ∀ k, 1 ≤ k → k ≤ s → ro' (i * s + k) = nI (bl_code (fun p => bl_H (bl_O N s M C) s (bl_cl L) i (bl_O N s M C (bl_cl L i) k p)) N)) (h3 : ∀ j, j ≤ i * s → ro' j = ro j) : bl_RW N s M C L ro' (i * s + s) := by
  intro k hk
  rcases Nat.lt_or_ge (i * s) k with a | a
  · have e : k = i * s + (k - i * s) := by omega
    have r := h2 (k - i * s) (by omega) (by omega)
    rw [← e] at r
    rw [r]
    refine congrArg nI (bl_code_c N (fun p hp => ?_))
    have g := bl_G_ik (O := bl_O N s M C) (cl := bl_cl L) (i := i) (k := k - i * s) (s := s) (by omega) (by omega) p
    rw [← e] at g
    exact g.symm
  · rw [h3 k a]
    exact h k a
theorem yl_wr21 {post : SY → Prop} (hN : N ≤ 6) (hs : s ≤ 12) (hc : c ≤ 20) (hL : bl_LL L) (ok : bl_OK N s M C)
    (K : ∀ bs' ro' : Nat → Int32, (∀ p, p < N → bs' p = nI (bl_H (bl_O N s M C) s (bl_cl L) c p + 1)) → bl_RW N s M C L ro' (c * s) → post (nI N, nI s, nI c, nI (c * s), M, C, L, bs', ro')) : ∀ d i (bs ro : Nat → Int32), i + d = c → (∀ p, p < N → bs p = nI (bl_H (bl_O N s M C) s (bl_cl L) i p + 1)) → bl_RW N s M C L ro (i * s) → wY_write_21 post (d + 1) (nI i) (nI N) (nI s) (nI c) (nI (i * s)) M C L bs ro := by
  have h240 := bl_cs hs hc
  intro d
  induction d with
  | zero =>
    intro i bs ro hi h1 h2
    have e : i = c := by omega
    rw [e] at h1 h2 ⊢
    exact br_t (nI_le (by omega) (by omega)) (K bs ro h1 h2)
  | succ d ih =>
    intro i bs ro hi h1 h2
    have hle := bl_le (s := s) (show i < c by omega) (Nat.le_refl s)
    refine br_f (nI_ge (by omega) (by omega)) ⟨vp_in_nI (by omega) (by omega), ?_⟩
    obtain ⟨l1, l2⟩ := hL i
    rw [nI_clamp (n := i) (by omega), l2]
    refine yl_ring (h := bl_H (bl_O N s M C) s (bl_cl L) i) hN hs l1 (by omega) ok h1 ?_
    intro bs' ro' A B E
    have g := ih (i + 1) bs' ro' (by omega) A (by rw [Nat.add_mul, Nat.one_mul]; exact bl_RW_s h2 B E)
    rw [Nat.add_mul, Nat.one_mul] at g
    exact nm_r (nI_1 i) g
theorem yl_write {post : SY → Prop} (hN : N ≤ 6) (hs : s ≤ 12) (hc : c ≤ 20) (hL : bl_LL L) (ok : bl_OK N s M C)
    (K : ∀ bs' ro' : Nat → Int32, (∀ p, p < N → bs' p = nI (bl_H (bl_O N s M C) s (bl_cl L) c p + 1)) → bl_RW N s M C L ro' (c * s) → post (nI N, nI s, nI c, nI (c * s), M, C, L, bs', ro')) : wpY_write post (nI N, nI s, nI c, ls, M, C, L, bs, ro) := by
  unfold wpY_write
  refine yl_round hN ?_
  intro bs' hb
  refine yl_code (f := fun p => p) hN hb (nm_e ⟨c + 1, ?_⟩)
  have g := yl_wr21 (post := post) hN hs hc hL ok K c 0 bs' (upd ro 0 (nI (bl_code (fun p => p) N))) (by omega) hb (fun k hk => by
    rw [Nat.zero_mul] at hk
    have e : k = 0 := by omega
    subst e
    rw [pk_us]
    rfl)
  rw [Nat.zero_mul] at g
  exact g
end BLY
end
section
/-! Y: the reading calls -/
section BLZ
variable {N s c : Nat} {ls : Int32} {M C L bs ro : Nat → Int32}
/-! what a reading call of Y asks -/
def bl_PY (post : SY → Prop) (N s c : Nat) (M C L : Nat → Int32) : Prop := ∀ (ls : Int32) (bs ro : Nat → Int32), post (nI N, nI s, nI c, ls, M, C, L, bs, ro)
theorem yl_find_t {post : Int32 → Prop} {k l : Nat} (hl : l < 260) (hk : k ≤ l) (K : post (ro k)) : wpY_find post (nI N, nI s, nI c, nI l, M, C, L, bs, ro) (nI k) := by
  refine br_f (nI_pos (by omega)) (br_t (nI_le hk (by omega)) ⟨vp_in_nI (by omega) (by omega), ?_⟩)
  rw [nI_clamp (n := k) (by omega)]
  exact K
theorem yl_find_f {post : Int32 → Prop} {x : Int32} {l : Nat} (hl : l < 260) (hx : x < 0 ∨ nI (l + 1) ≤ x) (K : post (-4)) : wpY_find post (nI N, nI s, nI c, nI l, M, C, L, bs, ro) x := by
  by_cases h : x < 0
  · exact br_t h K
  · refine br_f h (br_f ?_ K)
    obtain ⟨j, hj, rfl⟩ := nI_of h
    rcases hx with q | q
    · exact absurd q h
    · rw [nI_leI (by omega) hj] at q
      exact nI_ge (by omega) hj
theorem yl_row {post : Int32 → SY → Prop} {k : Nat} (hN : N ≤ 6) (hs : s ≤ 12) (hc : c ≤ 20) (hL : bl_LL L) (ok : bl_OK N s M C) (hk : k ≤ c * s)
    (K : bl_PY (post (nI (bl_code (bl_G (bl_O N s M C) s (bl_cl L) k) N))) N s c M C L) : wpY_row post (nI N, nI s, nI c, ls, M, C, L, bs, ro) (nI k) := by
  have h240 := bl_cs hs hc
  unfold wpY_row
  refine yl_write hN hs hc hL ok ?_
  intro bs' ro' A B
  refine yl_find_t (by omega) hk ?_
  rw [B k hk]
  exact K _ bs' ro'
theorem yl_row_f {post : Int32 → SY → Prop} {x : Int32} (hN : N ≤ 6) (hs : s ≤ 12) (hc : c ≤ 20) (hL : bl_LL L) (ok : bl_OK N s M C) (hx : x < 0 ∨ nI (c * s + 1) ≤ x)
    (K : bl_PY (post (-4)) N s c M C L) : wpY_row post (nI N, nI s, nI c, ls, M, C, L, bs, ro) x := by
  have h240 := bl_cs hs hc
  unfold wpY_row
  refine yl_write hN hs hc hL ok ?_
  intro bs' ro' A B
  exact yl_find_f (by omega) hx (K _ bs' ro')
theorem yl_noBell_f {post : Int32 → Prop} {b : Nat} (hN : N ≤ 6) (hb : b < N) (K : post 0) : wpY_noBell post (nI N, nI s, nI c, ls, M, C, L, bs, ro) (nI (b + 1)) :=
  br_f (nI_nlt (b := 1) (by omega) (by omega)) (br_t (nI_le (by omega) (by omega)) K)
theorem yl_noBell_t {post : Int32 → Prop} {x : Int32} (hx : x < 1 ∨ ¬ x ≤ nI N) (K : post 1) : wpY_noBell post (nI N, nI s, nI c, ls, M, C, L, bs, ro) x := by
  by_cases h : x < 1
  · exact br_t h K
  · rcases hx with q | q
    · exact absurd q h
    · exact br_f h (br_f q K)
theorem bl_ne4 {m : Nat} (h : m < 2 ^ 31) : ¬ nI m = -4 := by
  intro e
  have := nI_pos (n := m) h
  rw [e] at this
  exact this (by decide)
theorem yl_pl37 {post : Int32 → SY → Prop} {f : Nat → Nat} {b t : Nat} (hN : N ≤ 6) (Pf : bl_P N f) (ht : t < N) (e : f t = b) (K : post (nI t) (nI N, nI s, nI c, ls, M, C, L, bs, ro)) : ∀ q, t < q → q ≤ N → wY_place_37 post (nI (b + 1)) (nI N) (nI s) (nI c) ls M C L bs ro q (nI (bl_code f q)) (nI (q - 1)) := by
  have h9 : ∀ p, p < N → f p < 9 := fun p hp => Nat.lt_trans (bl_P_lt Pf hp) (by omega)
  intro q
  induction q with
  | zero => intro h _; omega
  | succ q ih =>
    intro h1 h2
    have a1 := h9 q (by omega)
    have a2 := bl_code_6 (f := f) (n := q + 1) (by omega) (fun p hp => h9 p (by omega))
    have hb : b < 9 := by have := h9 t ht; omega
    have em : bl_code f (q + 1) % 10 = f q + 1 := by rw [bl_code_s]; omega
    have ed : bl_code f (q + 1) / 10 = bl_code f q := by rw [bl_code_s]; omega
    have e1 : nI (bl_code f (q + 1)) / 10 = nI (bl_code f q) := by
      have := pk_div (a := bl_code f (q + 1)) (d := 10) (by omega) (by omega) (by omega)
      rw [ed] at this
      exact this
    have e2 : nI (bl_code f (q + 1)) - nI (bl_code f (q + 1)) / 10 * 10 = nI (f q + 1) := by
      have := pk_rem (a := bl_code f (q + 1)) (d := 10) (by omega) (by omega) (by omega)
      rw [em] at this
      exact this
    refine ⟨by decide, ?_⟩
    rw [e2, e1]
    refine pk_eq (f q + 1) (b + 1) (fun w => ?_) (fun w => ⟨by decide, ?_⟩)
    · have : q = t := bl_P_inj Pf (by omega)
      rw [this]
      exact K
    · have hq : q ≠ t := fun z => w (by rw [z, e])
      refine nm_e (nm_r (e' := nI (q - 1)) ?_ (ih (by omega) (by omega)))
      exact bl_m (by omega)
theorem yl_place {post : Int32 → SY → Prop} {b k t : Nat} (h3 : 3 ≤ N) (hN : N ≤ 6) (hs : s ≤ 12) (hc : c ≤ 20) (hL : bl_LL L) (ok : bl_OK N s M C) (hk : k ≤ c * s) (hb : b < N) (ht : t < N) (e : bl_G (bl_O N s M C) s (bl_cl L) k t = b)
    (K : bl_PY (post (nI t)) N s c M C L) : wpY_place post (nI N, nI s, nI c, ls, M, C, L, bs, ro) (nI (b + 1)) (nI k) := by
  have h240 := bl_cs hs hc
  have PG := bl_G_P (s := s) (cl := bl_cl L) (bl_OP N s M C) k
  have h6 := bl_code_6 (f := bl_G (bl_O N s M C) s (bl_cl L) k) hN (fun p hp => Nat.lt_trans (bl_P_lt PG hp) (show N < 9 by omega))
  unfold wpY_place
  refine yl_noBell_f hN hb (br_t rfl ?_)
  refine yl_write hN hs hc hL ok ?_
  intro bs' ro' A B
  refine yl_find_t (by omega) hk ?_
  rw [B k hk]
  refine br_f (bl_ne4 (by omega)) (nm_r (e' := nI (N - 1)) (bl_s (by omega)) ⟨N, ?_⟩)
  exact yl_pl37 hN PG ht e (K _ bs' ro') N ht (Nat.le_refl N)
theorem yl_place_f {post : Int32 → SY → Prop} {b : Nat} {x : Int32} (hN : N ≤ 6) (hs : s ≤ 12) (hc : c ≤ 20) (hL : bl_LL L) (ok : bl_OK N s M C) (hb : b < N) (hx : x < 0 ∨ nI (c * s + 1) ≤ x)
    (K : bl_PY (post (-4)) N s c M C L) : wpY_place post (nI N, nI s, nI c, ls, M, C, L, bs, ro) (nI (b + 1)) x := by
  have h240 := bl_cs hs hc
  unfold wpY_place
  refine yl_noBell_f hN hb (br_t rfl ?_)
  refine yl_write hN hs hc hL ok ?_
  intro bs' ro' A B
  exact yl_find_f (by omega) hx (br_t rfl (K _ bs' ro'))
/-! how many rows are different -/
def bl_frm (G : Nat → Nat → Nat) (k n : Nat) : Prop := ∀ m, 1 ≤ m → m < n → ¬ ∀ p, G m p = G k p
theorem yl_cd17 {post : Int32 → Prop} {J : Int32 → Int32 → Prop} {G : Nat → Nat → Nat} {a k l : Nat} (hN : N ≤ 6) (hl : l < 260) (hG : ∀ k, bl_P N (G k)) (hR : ∀ k, 1 ≤ k → k ≤ l → ro k = nI (bl_code (G k) N)) (hk1 : 1 ≤ k) (hk : k ≤ l)
    (K : J (nI (a + bl_01 (bl_fresh G k))) (nI (k + 1))) : ∀ d m (x : Nat), m + d = k → 1 ≤ m → x = bl_01 (bl_frm G k m) → wY_countDifferent_17 post J (nI a) (nI k) (nI N) (nI s) (nI c) ls M C L bs ro (d + 1) (nI x) (nI m) := by
  intro d
  induction d with
  | zero =>
    intro m x hm hm1 hx
    have e : m = k := by omega
    rw [e] at hx
    refine br_t (nI_le (by omega) (by omega)) ?_
    rcases Classical.em (bl_fresh G k) with z | z
    · rw [bl_01t z] at K
      rw [hx, bl_01t (P := bl_frm G k k) z]
      exact br_f (by decide) (nm_r (nI_1 a) (nm_r (nI_1 k) K))
    · rw [bl_01f z] at K
      rw [hx, bl_01f (P := bl_frm G k k) z]
      exact br_t rfl (nm_r (nI_1 k) K)
  | succ d ih =>
    intro m x hm hm1 hx
    refine br_f (nI_ge (by omega) (by omega)) ?_
    rcases Classical.em (bl_frm G k m) with z | z
    · rw [hx, bl_01t z]
      refine br_f (by decide) ⟨vp_in_nI (by omega) (by omega), vp_in_nI (by omega) (by omega), ?_⟩
      rw [nI_clamp (n := m) (by omega), nI_clamp (n := k) (by omega), hR m hm1 (by omega), hR k hk1 hk]
      refine ek_if (bl_code_P hN (hG m) (hG k)) (fun q => ?_) (fun q => ?_)
      · exact nm_r (nI_1 m) (ih (m + 1) 0 (by omega) (by omega) (bl_01f (fun w => w m hm1 (by omega) q)).symm)
      · refine nm_r (nI_1 m) (ih (m + 1) 1 (by omega) (by omega) (bl_01t (fun m' a1 a2 => ?_)).symm)
        rcases Nat.lt_or_ge m' m with w | w
        · exact z m' a1 w
        · have : m' = m := by omega
          rw [this]; exact q
    · rw [hx, bl_01f z]
      exact br_t rfl (nm_r (nI_1 m) (ih (m + 1) 0 (by omega) (by omega) (bl_01f (fun w => z (fun m' a1 a2 => w m' a1 (by omega)))).symm))
theorem yl_cd4 {post : Int32 → Prop} {G : Nat → Nat → Nat} {l : Nat} (hN : N ≤ 6) (hl : l < 260) (hG : ∀ k, bl_P N (G k)) (hR : ∀ k, 1 ≤ k → k ≤ l → ro k = nI (bl_code (G k) N))
    (K : post (nI (bl_cnt (fun k => bl_fresh G (k + 1)) l))) : ∀ d k, k + d = l → wY_countDifferent_4 post (nI N) (nI s) (nI c) (nI l) M C L bs ro (d + 1) (nI (bl_cnt (fun k => bl_fresh G (k + 1)) k)) (nI (k + 1)) := by
  intro d
  induction d with
  | zero =>
    intro k hk
    have e : k = l := by omega
    rw [e]
    exact br_t (nI_lt (by omega) (by omega)) K
  | succ d ih =>
    intro k hk
    refine br_f (nI_nlt (by omega) (by omega)) ⟨k + 1, ?_⟩
    exact yl_cd17 hN hl hG hR (by omega) (by omega) (ih (k + 1) (by omega)) k 1 1 (by omega) (by omega) (bl_01t (fun m' a1 a2 => by omega)).symm
theorem yl_countDifferent {post : Int32 → Prop} {G : Nat → Nat → Nat} {l : Nat} (hN : N ≤ 6) (hl : l < 260) (hG : ∀ k, bl_P N (G k)) (hR : ∀ k, 1 ≤ k → k ≤ l → ro k = nI (bl_code (G k) N))
    (K : post (nI (bl_cnt (fun k => bl_fresh G (k + 1)) l))) : wpY_countDifferent post (nI N, nI s, nI c, nI l, M, C, L, bs, ro) := ⟨l + 1, yl_cd4 hN hl hG hR K l 0 (by omega)⟩
theorem yl_different {post : Int32 → SY → Prop} (hN : N ≤ 6) (hs : s ≤ 12) (hc : c ≤ 20) (hL : bl_LL L) (ok : bl_OK N s M C)
    (K : bl_PY (post (nI (bl_cnt (fun k => bl_fresh (bl_G (bl_O N s M C) s (bl_cl L)) (k + 1)) (c * s)))) N s c M C L) : wpY_different post (nI N, nI s, nI c, ls, M, C, L, bs, ro) := by
  have h240 := bl_cs hs hc
  unfold wpY_different
  refine yl_write hN hs hc hL ok ?_
  intro bs' ro' A B
  exact yl_countDifferent (G := bl_G (bl_O N s M C) s (bl_cl L)) hN (by omega) (fun k => bl_G_P (bl_OP N s M C) k) (fun k _ hk => B k hk) (K _ bs' ro')
theorem yl_isTrue {post : Int32 → SY → Prop} (hN : N ≤ 6) (hs : s ≤ 12) (hc : c ≤ 20) (hL : bl_LL L) (ok : bl_OK N s M C)
    (K : bl_PY (post (nI (bl_01 (bl_true (bl_O N s M C) s (bl_cl L) c)))) N s c M C L) : wpY_isTrue post (nI N, nI s, nI c, ls, M, C, L, bs, ro) := by
  have h240 := bl_cs hs hc
  unfold wpY_isTrue
  refine yl_write hN hs hc hL ok ?_
  intro bs' ro' A B
  refine yl_countDifferent (G := bl_G (bl_O N s M C) s (bl_cl L)) hN (by omega) (fun k => bl_G_P (bl_OP N s M C) k) (fun k _ hk => B k hk) ?_
  have hle := bl_cnt_le (fun k => bl_fresh (bl_G (bl_O N s M C) s (bl_cl L)) (k + 1)) (c * s)
  refine pk_eq (bl_cnt (fun k => bl_fresh (bl_G (bl_O N s M C) s (bl_cl L)) (k + 1)) (c * s)) (c * s) (fun q => ?_) (fun q => ?_)
  · rw [bl_01t ((bl_true_iff (bl_OP N s M C)).mpr ((bl_cnt_all _).mp q))] at K
    exact K _ bs' ro'
  · rw [bl_01f (fun w => q ((bl_cnt_all _).mpr ((bl_true_iff (bl_OP N s M C)).mp w)))] at K
    exact K _ bs' ro'
/-! two leads share a row -/
theorem yl_sh13 {post : Int32 → Prop} {J : Int32 → Prop} {E : Nat → Nat → Prop} {i j k : Nat} (hs : s ≤ 12) (hi : i * s + s < 260) (hj : j * s + s < 260) (hE : ∀ k m, 1 ≤ k → k ≤ s → 1 ≤ m → m ≤ s → (ro (i * s + k) = ro (j * s + m) ↔ E k m)) (hk1 : 1 ≤ k) (hk : k ≤ s)
    (K1 : (∃ m, 1 ≤ m ∧ m ≤ s ∧ E k m) → post 1) (K0 : (∀ m, 1 ≤ m → m ≤ s → ¬ E k m) → J (nI (k + 1))) : ∀ d m, m + d = s + 1 → 1 ≤ m → (∀ m', 1 ≤ m' → m' < m → ¬ E k m') → wY_share_13 post J (nI i) (nI j) (nI k) (nI N) (nI s) (nI c) ls M C L bs ro (d + 1) (nI m) := by
  intro d
  induction d with
  | zero =>
    intro m hm hm1 h
    exact br_t (nI_lt (by omega) (by omega)) (nm_r (nI_1 k) (K0 (fun m' a b => h m' a (by omega))))
  | succ d ih =>
    intro m hm hm1 h
    refine br_f (nI_nlt (by omega) (by omega)) ?_
    rw [pk_mul, pk_mul, nI_add, nI_add, nI_clamp (n := i * s + k) (by omega), nI_clamp (n := j * s + m) (by omega)]
    refine ⟨vp_in_nI (by omega) (by omega), vp_in_nI (by omega) (by omega), ek_if (hE k m hk1 hk hm1 (by omega)) (fun q => K1 ⟨m, hm1, by omega, q⟩) (fun q => nm_r (nI_1 m) (ih (m + 1) (by omega) (by omega) ?_))⟩
    intro m' a b
    by_cases w : m' = m
    · rw [w]; exact q
    · exact h m' a (by omega)
theorem yl_sh2 {post : Int32 → Prop} {E : Nat → Nat → Prop} {i j : Nat} (hs : s ≤ 12) (hi : i * s + s < 260) (hj : j * s + s < 260) (hE : ∀ k m, 1 ≤ k → k ≤ s → 1 ≤ m → m ≤ s → (ro (i * s + k) = ro (j * s + m) ↔ E k m))
    (K1 : (∃ k m, 1 ≤ k ∧ k ≤ s ∧ 1 ≤ m ∧ m ≤ s ∧ E k m) → post 1) (K0 : (∀ k m, 1 ≤ k → k ≤ s → 1 ≤ m → m ≤ s → ¬ E k m) → post 0) : ∀ d k, k + d = s + 1 → 1 ≤ k → (∀ k' m, 1 ≤ k' → k' < k → 1 ≤ m → m ≤ s → ¬ E k' m) → wY_share_2 post (nI i) (nI j) (nI N) (nI s) (nI c) ls M C L bs ro (d + 1) (nI k) := by
  intro d
  induction d with
  | zero =>
    intro k hk hk1 h
    exact br_t (nI_lt (by omega) (by omega)) (K0 (fun k' m a b c1 c2 => h k' m a (by omega) c1 c2))
  | succ d ih =>
    intro k hk hk1 h
    refine br_f (nI_nlt (by omega) (by omega)) ⟨s + 1, ?_⟩
    refine yl_sh13 hs hi hj hE hk1 (by omega) (fun ⟨m, a, b, z⟩ => K1 ⟨k, m, hk1, by omega, a, b, z⟩) (fun z => ih (k + 1) (by omega) (by omega) ?_) s 1 (by omega) (by omega) (fun m' a b => by omega)
    intro k' m a b c1 c2
    by_cases w : k' = k
    · rw [w]; exact z m c1 c2
    · exact h k' m a (by omega) c1 c2
theorem yl_share {post : Int32 → Prop} {i j : Nat} (hN : N ≤ 6) (hs : s ≤ 12) (hc : c ≤ 20) (hi : i < c) (hj : j < c) (hR : bl_RW N s M C L ro (c * s))
    (K : post (nI (bl_01 (bl_share (bl_O N s M C) s (bl_cl L) i j)))) : wpY_share post (nI N, nI s, nI c, ls, M, C, L, bs, ro) (nI i) (nI j) := by
  have h240 := bl_cs hs hc
  have b1 := bl_le (s := s) hi (Nat.le_refl s)
  have b2 := bl_le (s := s) hj (Nat.le_refl s)
  refine ⟨s + 1, yl_sh2 (E := fun k m => ∀ p, bl_R (bl_O N s M C) s (bl_cl L) i k p = bl_R (bl_O N s M C) s (bl_cl L) j m p) hs (by omega) (by omega) ?_ ?_ ?_ s 1 (by omega) (by omega) (fun k' m a b => by omega)⟩
  · intro k m k1 k2 m1 m2
    rw [hR _ (bl_le hi k2), hR _ (bl_le hj m2), bl_code_P hN (bl_G_P (bl_OP N s M C) _) (bl_G_P (bl_OP N s M C) _)]
    constructor
    · intro h p
      have := h p
      rw [bl_G_ik k1 k2, bl_G_ik m1 m2] at this
      exact this
    · intro h p
      rw [bl_G_ik k1 k2, bl_G_ik m1 m2]
      exact h p
  · intro z
    rw [bl_01t (P := bl_share (bl_O N s M C) s (bl_cl L) i j) z] at K
    exact K
  · intro z
    rw [bl_01f (P := bl_share (bl_O N s M C) s (bl_cl L) i j) (fun ⟨k, m, a1, a2, a3, a4, w⟩ => z k m a1 a2 a3 a4 w)] at K
    exact K
theorem yl_fp20 {post : Int32 → SY → Prop} {J : Int32 → Int32 → Prop} {a i : Nat} (hN : N ≤ 6) (hs : s ≤ 12) (hc : c ≤ 20) (hi : i < c) (hR : bl_RW N s M C L ro (c * s))
    (K : J (nI (a + bl_cnt (bl_Q (bl_O N s M C) s (bl_cl L) i) c)) (nI (i + 1))) : ∀ d j, j + d = c → i < j → wY_falsePairs_20 post J (nI i) (nI N) (nI s) (nI c) ls M C L bs ro (d + 1) (nI (a + bl_cnt (bl_Q (bl_O N s M C) s (bl_cl L) i) j)) (nI j) := by
  intro d
  induction d with
  | zero =>
    intro j hj hij
    have e : j = c := by omega
    rw [e]
    exact br_t (nI_le (by omega) (by omega)) (nm_r (nI_1 i) K)
  | succ d ih =>
    intro j hj hij
    refine br_f (nI_ge (by omega) (by omega)) (yl_share hN hs hc hi (by omega) hR ?_)
    have g := ih (j + 1) (by omega) (by omega)
    rcases Classical.em (bl_share (bl_O N s M C) s (bl_cl L) i j) with z | z
    · rw [bl_01t z]
      rw [bl_cnt_t ⟨hij, z⟩, ← Nat.add_assoc] at g
      exact br_f (by decide) (nm_r (nI_1 _) (nm_r (nI_1 j) g))
    · rw [bl_01f z]
      rw [bl_cnt_f (fun w => z w.2)] at g
      exact br_t rfl (nm_r (nI_1 j) g)
theorem yl_fp8 {post : Int32 → SY → Prop} (hN : N ≤ 6) (hs : s ≤ 12) (hc : c ≤ 20) (hR : bl_RW N s M C L ro (c * s))
    (K : post (nI (bl_sum (fun i => bl_cnt (bl_Q (bl_O N s M C) s (bl_cl L) i) c) c)) (nI N, nI s, nI c, ls, M, C, L, bs, ro)) : ∀ d i, i + d = c → wY_falsePairs_8 post (nI N) (nI s) (nI c) ls M C L bs ro (d + 1) (nI (bl_sum (fun i => bl_cnt (bl_Q (bl_O N s M C) s (bl_cl L) i) c) i)) (nI i) := by
  intro d
  induction d with
  | zero =>
    intro i hi
    have e : i = c := by omega
    rw [e]
    exact br_t (nI_le (by omega) (by omega)) K
  | succ d ih =>
    intro i hi
    refine br_f (nI_ge (by omega) (by omega)) (nm_r (nI_1 i) ⟨c - (i + 1) + 1, ?_⟩)
    have g := yl_fp20 (ls := ls) (bs := bs) (post := post) (J := wY_falsePairs_8 post (nI N) (nI s) (nI c) ls M C L bs ro (d + 1)) (a := bl_sum (fun i => bl_cnt (bl_Q (bl_O N s M C) s (bl_cl L) i) c) i) hN hs hc (show i < c by omega) hR (ih (i + 1) (by omega)) (c - (i + 1)) (i + 1) (by omega) (by omega)
    rw [bl_cnt_0 (i + 1) (fun j hj w => absurd w.1 (by omega)), Nat.add_zero] at g
    exact g
theorem yl_falsePairs {post : Int32 → SY → Prop} (hN : N ≤ 6) (hs : s ≤ 12) (hc : c ≤ 20) (hL : bl_LL L) (ok : bl_OK N s M C)
    (K : bl_PY (post (nI (bl_FP (bl_O N s M C) s (bl_cl L) c (c * c)))) N s c M C L) : wpY_falsePairs post (nI N, nI s, nI c, ls, M, C, L, bs, ro) := by
  unfold wpY_falsePairs
  refine yl_write hN hs hc hL ok ?_
  intro bs' ro' A B
  have e : bl_FP (bl_O N s M C) s (bl_cl L) c (c * c) = bl_sum (fun i => bl_cnt (bl_Q (bl_O N s M C) s (bl_cl L) i) c) c := bl_cnt_sq c c
  rw [e] at K
  exact ⟨c + 1, yl_fp8 hN hs hc B (K _ bs' ro') c 0 (by omega)⟩
end BLZ
end
section
/-! Y: a lead alone, order, home, leads, choices -/
section BLW
variable {N s c : Nat} {ls : Int32} {M C L bs ro : Nat → Int32}
theorem yl_noCall_f {post : Int32 → Prop} (u : SY) {call : Nat} (hc : call < 3) (K : post 0) : wpY_noCall post u (nI call) := by
  obtain ⟨u1, u2, u3, u4, u5, u6, u7, u8, u9⟩ := u
  exact br_f (nI_pos (by omega)) (br_t (nI_le (b := 2) (by omega) (by omega)) K)
theorem yl_noCall_t {post : Int32 → Prop} (u : SY) {x : Int32} (hx : x < 0 ∨ nI 3 ≤ x) (K : post 1) : wpY_noCall post u x := by
  obtain ⟨u1, u2, u3, u4, u5, u6, u7, u8, u9⟩ := u
  by_cases h : x < 0
  · exact br_t h K
  · obtain ⟨j, hj, rfl⟩ := nI_of h
    rcases hx with q | q
    · exact absurd q h
    · rw [nI_leI (by omega) hj] at q
      exact br_f h (br_f (nI_ge (a := 2) (by omega) hj) K)
theorem yl_falseAlone {post : Int32 → SY → Prop} {call : Nat} (hN : N ≤ 6) (hs : s ≤ 12) (hcall : call < 3) (ok : bl_OK N s M C)
    (K : bl_PY (post (nI (bl_01 (bl_alone (bl_O N s M C) s call)))) N s c M C L) : wpY_falseAlone post (nI N, nI s, nI c, ls, M, C, L, bs, ro) (nI call) := by
  unfold wpY_falseAlone
  refine yl_noCall_f _ hcall (br_t rfl ?_)
  refine yl_round hN ?_
  intro bs' hb
  refine yl_ring (l := 0) (h := fun p => p) hN hs hcall (by omega) ok hb ?_
  intro bs2 ro2 A B E
  refine yl_countDifferent (G := bl_O N s M C call) hN (by omega) (fun k => bl_O_P N s M C call k) (fun k a b => ?_) ?_
  · have := B k a (by omega)
    rw [Nat.zero_add] at this
    exact this
  · rw [Nat.zero_add]
    have hle := bl_cnt_le (fun k => bl_fresh (bl_O N s M C call) (k + 1)) s
    refine pk_le s (bl_cnt (fun k => bl_fresh (bl_O N s M C call) (k + 1)) s) (fun q => ?_) (fun q => ?_)
    · have h := (bl_cnt_all s).mp (Nat.le_antisymm hle q)
      rw [bl_01f (fun w => by
        obtain ⟨k, hk, z⟩ := bl_alone_iff.mp w
        rcases Nat.eq_zero_or_pos k with a | a
        · exact z (fun m a1 a2 => by omega)
        · have := h (k - 1) (by omega)
          rw [show k - 1 + 1 = k by omega] at this
          exact z this)] at K
      exact K _ _ _
    · rw [bl_01t (bl_alone_iff.mpr (by
        rcases Classical.em (∃ k, k ≤ s ∧ ¬ bl_fresh (bl_O N s M C call) k) with z | z
        · exact z
        · have : bl_cnt (fun k => bl_fresh (bl_O N s M C call) (k + 1)) s = s := (bl_cnt_all s).mpr (fun j hj => by
            rcases Classical.em (bl_fresh (bl_O N s M C call) (j + 1)) with w | w
            · exact w
            · exact absurd ⟨j + 1, by omega, w⟩ z)
          omega))] at K
      exact K _ _ _
theorem yl_or24 {post : Int32 → SY → Prop} {call T : Nat} (hN : N ≤ 6) (hs : s ≤ 12) (hcall : call < 3) (ok : bl_OK N s M C) (h1 : 1 ≤ s) (hT : bl_T (bl_O N s M C call s) N T) (K : bl_PY (post (nI T)) N s c M C L) : ∀ d m (ls : Int32) (bs ro : Nat → Int32), m + d + 1 = T → (∀ p, p < N → bs p = nI (bl_it (bl_O N s M C call s) m p + 1)) → wY_order_24 post (nI call) (nI (bl_code (fun p => p) N)) (d + 1 + 1) (nI m) 1 (nI N) (nI s) (nI c) ls M C L bs ro := by
  have h60 := bl_T_le hT
  intro d
  induction d with
  | zero =>
    intro m ls bs ro hm hb
    refine br_f (by decide) (yl_ring (l := 0) (h := bl_it (bl_O N s M C call s) m) hN hs hcall (by omega) ok hb ?_)
    intro bs' ro' A B E
    have r := B s h1 (Nat.le_refl s)
    have e : m + 1 = T := by omega
    refine nm_r (nI_1 m) ⟨vp_in_nI (by omega) (by omega), ?_⟩
    rw [nI_clamp (n := 0 + s) (by omega), r]
    have q := (bl_T_id hN (bl_O_P N s M C call s) hT (m + 1)).mpr (by rw [e]; exact Nat.dvd_refl T)
    refine br_t q ?_
    rw [e]
    exact br_t rfl (K _ _ _)
  | succ d ih =>
    intro m ls bs ro hm hb
    refine br_f (by decide) (yl_ring (l := 0) (h := bl_it (bl_O N s M C call s) m) hN hs hcall (by omega) ok hb ?_)
    intro bs' ro' A B E
    have r := B s h1 (Nat.le_refl s)
    refine nm_r (nI_1 m) ⟨vp_in_nI (by omega) (by omega), ?_⟩
    rw [nI_clamp (n := 0 + s) (by omega), r]
    have q : ¬ nI (bl_code (fun p => bl_it (bl_O N s M C call s) m (bl_O N s M C call s p)) N) = nI (bl_code (fun p => p) N) := fun w => by
      have w2 := (bl_T_id hN (bl_O_P N s M C call s) hT (m + 1)).mp w
      have := Nat.le_of_dvd (by omega) w2
      omega
    exact br_f q (ih (m + 1) _ bs' ro' (by omega) A)
theorem yl_order {post : Int32 → SY → Prop} {call T : Nat} (hN : N ≤ 6) (h1 : 1 ≤ s) (hs : s ≤ 12) (hcall : call < 3) (ok : bl_OK N s M C) (hT : bl_T (bl_O N s M C call s) N T)
    (K : bl_PY (post (nI T)) N s c M C L) : wpY_order post (nI N, nI s, nI c, ls, M, C, L, bs, ro) (nI call) := by
  unfold wpY_order
  refine yl_noCall_f _ hcall (br_t rfl ?_)
  refine yl_round hN ?_
  intro bs' hb
  refine yl_code (f := fun p => p) hN hb ⟨T - 1 + 1 + 1, ?_⟩
  have := hT.1
  exact yl_or24 hN hs hcall ok h1 hT K (T - 1) 0 ls bs' ro (by omega) hb
theorem bl_G_end {O : Nat → Nat → Nat → Nat} {s : Nat} {cl : Nat → Nat} {c : Nat} (h1 : 1 ≤ s) (p : Nat) : bl_G O s cl (c * s) p = bl_H O s cl c p := by
  rcases Nat.eq_zero_or_pos c with a | a
  · rw [a, Nat.zero_mul]; rfl
  · obtain ⟨i, rfl⟩ : ∃ i, c = i + 1 := ⟨c - 1, by omega⟩
    rw [Nat.add_mul, Nat.one_mul, bl_G_ik h1 (Nat.le_refl s)]
    rfl
theorem yl_home {post : Int32 → SY → Prop} (hN : N ≤ 6) (h1 : 1 ≤ s) (hs : s ≤ 12) (hc : c ≤ 20) (hL : bl_LL L) (ok : bl_OK N s M C)
    (K : bl_PY (post (nI (bl_01 (∀ p, p < N → bl_H (bl_O N s M C) s (bl_cl L) c p = p)))) N s c M C L) : wpY_home post (nI N, nI s, nI c, ls, M, C, L, bs, ro) := by
  have h240 := bl_cs hs hc
  unfold wpY_home
  refine yl_write hN hs hc hL ok ?_
  intro bs' ro' A B
  refine ⟨vp_in_nI (by omega) (by omega), ?_⟩
  rw [nI_clamp (n := c * s) (by omega), B _ (Nat.le_refl _), B 0 (by omega)]
  have P1 := bl_G_P (s := s) (cl := bl_cl L) (bl_OP N s M C) (c * s)
  have P0 := bl_G_P (s := s) (cl := bl_cl L) (bl_OP N s M C) 0
  refine ek_if (bl_code_P hN P1 P0) (fun q => ?_) (fun q => ?_)
  · rw [bl_01t (fun p _ => by have := q p; rw [bl_G_end h1] at this; exact this)] at K
    exact K _ bs' ro'
  · rw [bl_01f (fun w => q (bl_P_ext P1 P0 (fun p hp => by rw [bl_G_end h1]; exact w p hp)))] at K
    exact K _ bs' ro'
theorem yl_ld42 {post : Int32 → SY → Prop} {G : Nat → Nat → Nat} {b l : Nat} (h3 : 3 ≤ N) (hN : N ≤ 6) (hl : l < 260) (hb : b < N) (hG : ∀ k, bl_P N (G k)) (hR : ∀ k, 1 ≤ k → k ≤ l → ro k = nI (bl_code (G k) N))
    (K : post (nI (bl_cnt (fun k => G (k + 1) 0 = b) l)) (nI N, nI s, nI c, nI l, M, C, L, bs, ro)) : ∀ d k, k + d = l → wY_leads_42 post (nI (b + 1)) (nI (10 ^ (N - 1))) (nI N) (nI s) (nI c) (nI l) M C L bs ro (d + 1) (nI (bl_cnt (fun k => G (k + 1) 0 = b) k)) (nI (k + 1)) := by
  have hp : 10 ^ (N - 1) ≤ 10 ^ 5 := Nat.pow_le_pow_right (by decide) (by omega)
  have hp0 : 0 < 10 ^ (N - 1) := Nat.pow_pos (by decide)
  intro d
  induction d with
  | zero =>
    intro k hk
    have e : k = l := by omega
    rw [e]
    exact br_t (nI_lt (by omega) (by omega)) K
  | succ d ih =>
    intro k hk
    have h9 : ∀ p, p < N → G (k + 1) p < 9 := fun p hp => Nat.lt_trans (bl_P_lt (hG (k + 1)) hp) (by omega)
    have h6 := bl_code_6 hN h9
    have e : bl_code (G (k + 1)) N / 10 ^ (N - 1) = G (k + 1) 0 + 1 := by
      have := bl_code_top (f := G (k + 1)) (N - 1) (fun p hp => h9 p (by omega))
      rw [show N - 1 + 1 = N by omega] at this
      exact this
    have a1 := h9 0 (by omega)
    refine br_f (nI_nlt (by omega) (by omega)) ⟨vp_in_nI (by omega) (by omega), nI_ne0 hp0 (by omega), ?_⟩
    rw [nI_clamp (n := k + 1) (by omega), hR (k + 1) (by omega) (by omega), pk_div (by omega) hp0 (by omega), e]
    have g := ih (k + 1) (by omega)
    refine pk_eq (G (k + 1) 0 + 1) (b + 1) (fun q => ?_) (fun q => ?_)
    · rw [bl_cnt_t (P := fun k => G (k + 1) 0 = b) (show G (k + 1) 0 = b by omega)] at g
      exact nm_r (nI_1 _) (nm_r (nI_1 (k + 1)) g)
    · rw [bl_cnt_f (P := fun k => G (k + 1) 0 = b) (fun w : G (k + 1) 0 = b => q (by omega))] at g
      exact nm_r (nI_1 (k + 1)) g
theorem yl_ld18 {post : Int32 → SY → Prop} {x : Int32} (h3 : 3 ≤ N) (hN : N ≤ 6) (K : ∃ n, wY_leads_42 post x (nI (10 ^ (N - 1))) (nI N) (nI s) (nI c) ls M C L bs ro n 0 1) : ∀ d p, p + d = N → 1 ≤ p → wY_leads_18 post x (nI N) (nI s) (nI c) ls M C L bs ro (d + 1) (nI (10 ^ (p - 1))) (nI p) := by
  intro d
  induction d with
  | zero =>
    intro p hp hp1
    have e : p = N := by omega
    rw [e]
    exact br_t (nI_le (by omega) (by omega)) K
  | succ d ih =>
    intro p hp hp1
    refine br_f (nI_ge (by omega) (by omega)) (nm_r (e' := nI (10 ^ p)) ?_ (nm_r (nI_1 p) (ih (p + 1) (by omega) (by omega))))
    obtain ⟨q, rfl⟩ : ∃ q, p = q + 1 := ⟨p - 1, by omega⟩
    rw [bl_m10, Nat.add_sub_cancel, Nat.pow_succ, Nat.mul_comm]
theorem yl_leads {post : Int32 → SY → Prop} {b : Nat} (h3 : 3 ≤ N) (hN : N ≤ 6) (hs : s ≤ 12) (hc : c ≤ 20) (hL : bl_LL L) (ok : bl_OK N s M C) (hb : b < N)
    (K : bl_PY (post (nI (bl_cnt (fun k => bl_G (bl_O N s M C) s (bl_cl L) (k + 1) 0 = b) (c * s)))) N s c M C L) : wpY_leads post (nI N, nI s, nI c, ls, M, C, L, bs, ro) (nI (b + 1)) := by
  have h240 := bl_cs hs hc
  unfold wpY_leads
  refine yl_noBell_f hN hb (br_t rfl ?_)
  refine yl_write hN hs hc hL ok ?_
  intro bs' ro' A B
  refine ⟨N - 1 + 1, yl_ld18 h3 hN ⟨c * s + 1, ?_⟩ (N - 1) 1 (by omega) (by omega)⟩
  exact yl_ld42 h3 hN (by omega) hb (fun k => bl_G_P (bl_OP N s M C) k) (fun k _ hk => B k hk) (K _ bs' ro') (c * s) 0 (by omega)
theorem yl_ch4 {post : Int32 → SY → Prop} (hN : N ≤ 6) (hs : s ≤ 12) (hc : c ≤ 20) (hL : bl_LL L) (ok : bl_OK N s M C)
    (K : bl_PY (post (nI (bl_cnt (bl_go (bl_O N s M C) s (bl_cl L) c) 3))) N s c M C L) : ∀ d k (ls : Int32) (bs ro : Nat → Int32), k + d = 3 → wY_choices_4 post (d + 1) (nI (bl_cnt (bl_go (bl_O N s M C) s (bl_cl L) c) k)) (nI k) (nI N) (nI s) (nI c) ls M C L bs ro := by
  have h240 := bl_cs hs hc
  intro d
  induction d with
  | zero =>
    intro k ls bs ro hk
    have e : k = 3 := by omega
    rw [e]
    exact br_t (nI_le (a := 3) (by omega) (by omega)) (K _ _ _)
  | succ d ih =>
    intro k ls bs ro hk
    refine br_f (nI_ge (b := 3) (by omega) (by omega)) ?_
    refine yl_write hN hs hc hL ok ?_
    intro bs' ro' A B
    refine yl_ring (l := c * s) (h := bl_H (bl_O N s M C) s (bl_cl L) c) hN hs (by omega) (by omega) ok A ?_
    intro bs2 ro2 A2 B2 E2
    have hG : ∀ k', bl_P N (bl_G (bl_O N s M C) s (bl_ext (bl_cl L) c k) k') := fun k' => bl_G_P (bl_OP N s M C) k'
    refine yl_countDifferent (G := bl_G (bl_O N s M C) s (bl_ext (bl_cl L) c k)) hN (by omega) hG ?_ ?_
    · intro k' a b
      rcases Nat.lt_or_ge (c * s) k' with w | w
      · have e : k' = c * s + (k' - c * s) := by omega
        have r := B2 (k' - c * s) (by omega) (by omega)
        rw [← e] at r
        rw [r]
        refine congrArg nI (bl_code_c N (fun p hp => ?_))
        have g := bl_G_ik (O := bl_O N s M C) (cl := bl_ext (bl_cl L) c k) (i := c) (k := k' - c * s) (s := s) (by omega) (by omega) p
        rw [← e, bl_ext_Rc] at g
        exact g.symm
      · rw [E2 k' w, B k' w]
        refine congrArg nI (bl_code_c N (fun p hp => ?_))
        obtain ⟨i, m, hi, m1, m2, e⟩ := bl_split (s := s) (c := c) a w
        rw [e, bl_G_ik m1 m2, bl_G_ik m1 m2, bl_ext_R hi]
    · have hle := bl_cnt_le (fun k' => bl_fresh (bl_G (bl_O N s M C) s (bl_ext (bl_cl L) c k)) (k' + 1)) (c * s + s)
      have g := ih (k + 1) (nI (c * s + s)) bs2 ro2 (by omega)
      have ti : bl_go (bl_O N s M C) s (bl_cl L) c k ↔ bl_cnt (fun k' => bl_fresh (bl_G (bl_O N s M C) s (bl_ext (bl_cl L) c k)) (k' + 1)) (c * s + s) = c * s + s := by
        unfold bl_go
        rw [bl_true_iff (bl_OP N s M C), bl_cnt_all, Nat.add_mul, Nat.one_mul]
      refine pk_eq _ (c * s + s) (fun q => ?_) (fun q => ?_)
      · rw [bl_cnt_t (ti.mpr q)] at g
        exact nm_r (nI_1 _) (nm_r (nI_1 k) g)
      · rw [bl_cnt_f (fun w => q (ti.mp w))] at g
        exact nm_r (nI_1 k) g
theorem yl_choices {post : Int32 → SY → Prop} (hN : N ≤ 6) (hs : s ≤ 12) (hc : c ≤ 20) (hL : bl_LL L) (ok : bl_OK N s M C)
    (K : bl_PY (post (nI (bl_cnt (bl_go (bl_O N s M C) s (bl_cl L) c) 3))) N s c M C L) : wpY_choices post (nI N, nI s, nI c, ls, M, C, L, bs, ro) := ⟨4, yl_ch4 hN hs hc hL ok K 3 0 ls bs ro (by omega)⟩
end BLW
end
section
/-! THE RELATION -/
def bl_RI (N s c : Nat) (kn : Int32) (M C L off fs : Nat → Int32) : Prop := 3 ≤ N ∧ N ≤ 6 ∧ 1 ≤ s ∧ s ≤ 12 ∧ c ≤ 20 ∧ (∀ i, ∃ m, m < 64 ∧ M i = nI m) ∧ (∀ i, ∃ m, m < 64 ∧ C i = nI m) ∧ bl_LL L ∧ bl_OK N s M C ∧ (kn = 0 ∨ (kn = 1 ∧ bl_KN N s M C off fs))
def i_Rel (k : Nat) (u : SX) (v : SY) : Prop := ∃ (N s c : Nat) (kn : Int32) (M C L off hd fs mt iv md : Nat → Int32) (ls : Int32) (bs ro : Nat → Int32), u = (nI N, nI s, nI c, kn, M, C, L, off, hd, fs, mt, iv, md) ∧ v = (nI N, nI s, nI c, ls, M, C, L, bs, ro) ∧ bl_RI N s c kn M C L off fs
theorem i_up {k : Nat} {u : SX} {v : SY} (h : i_Rel k u v) : i_Rel (k + 3) u v := h
theorem bl_el {P : SX → SY → Prop} (h : ∀ (N s c : Nat) (kn : Int32) (M C L off hd fs mt iv md : Nat → Int32) (ls : Int32) (bs ro : Nat → Int32), bl_RI N s c kn M C L off fs → P (nI N, nI s, nI c, kn, M, C, L, off, hd, fs, mt, iv, md) (nI N, nI s, nI c, ls, M, C, L, bs, ro)) {k : Nat} {u : SX} {v : SY} (I : i_Rel k u v) : P u v :=
  Exists.elim I (fun N I => Exists.elim I (fun s I => Exists.elim I (fun c I => Exists.elim I (fun kn I => Exists.elim I (fun M I => Exists.elim I (fun C I => Exists.elim I (fun L I => Exists.elim I (fun off I => Exists.elim I (fun hd I => Exists.elim I (fun fs I => Exists.elim I (fun mt I => Exists.elim I (fun iv I => Exists.elim I (fun md I => Exists.elim I (fun ls I => Exists.elim I (fun bs I => Exists.elim I (fun ro I => I.1.symm ▸ I.2.1.symm ▸ h N s c kn M C L off hd fs mt iv md ls bs ro I.2.2))))))))))))))))
section BLQ
variable {N s c k : Nat} {kn ls : Int32} {M C L off hd fs mt iv md bs ro : Nat → Int32}
theorem bl_mk (h : bl_RI N s c kn M C L off fs) : i_Rel k (nI N, nI s, nI c, kn, M, C, L, off, hd, fs, mt, iv, md) (nI N, nI s, nI c, ls, M, C, L, bs, ro) := ⟨N, s, c, kn, M, C, L, off, hd, fs, mt, iv, md, ls, bs, ro, rfl, rfl, h⟩
theorem bl_RI_k {off' fs' : Nat → Int32} (h : bl_RI N s c kn M C L off fs) (h2 : bl_KN N s M C off' fs') : bl_RI N s c 1 M C L off' fs' := by
  obtain ⟨h3, hN, h1, hs, hc, hM, hC, hL, ok, hk⟩ := h
  exact ⟨h3, hN, h1, hs, hc, hM, hC, hL, ok, Or.inr ⟨rfl, h2⟩⟩
end BLQ
theorem i_vc_isTrue {k : Nat} {u : SX} {v : SY} (I : i_Rel k u v) (hk : k + 3 ≤ 1537) : wpX_isTrue (fun r u' => wpY_isTrue (fun r' v' => r' = r ∧ i_Rel (k + 3) u' v') v) u := by
  refine bl_el (P := fun u v => wpX_isTrue (fun r u' => wpY_isTrue (fun r' v' => r' = r ∧ i_Rel (k + 3) u' v') v) u) ?_ I
  clear I
  intro N s c kn M C L off hd fs mt iv md ls bs ro R
  obtain ⟨h3, hN, h1, hs, hc, hM, hC, hL, ok, hkn⟩ := id R
  refine bx_isTrue h3 hN h1 hs hc hL hkn ?_
  intro off2 hd2 fs2 mt2 iv2 md2 hK
  refine yl_isTrue hN hs hc hL ok ?_
  intro ls2 bs2 ro2
  exact ⟨rfl, bl_mk (bl_RI_k R hK)⟩
theorem i_vc_different {k : Nat} {u : SX} {v : SY} (I : i_Rel k u v) (hk : k + 3 ≤ 1537) : wpX_different (fun r u' => wpY_different (fun r' v' => r' = r ∧ i_Rel (k + 3) u' v') v) u := by
  refine bl_el (P := fun u v => wpX_different (fun r u' => wpY_different (fun r' v' => r' = r ∧ i_Rel (k + 3) u' v') v) u) ?_ I
  clear I
  intro N s c kn M C L off hd fs mt iv md ls bs ro R
  obtain ⟨h3, hN, h1, hs, hc, hM, hC, hL, ok, hkn⟩ := id R
  refine bx_different h3 hN h1 hs hc hL hkn ?_
  intro off2 hd2 fs2 mt2 iv2 md2 hK
  refine yl_different hN hs hc hL ok ?_
  intro ls2 bs2 ro2
  exact ⟨rfl, bl_mk (bl_RI_k R hK)⟩
theorem i_vc_falsePairs {k : Nat} {u : SX} {v : SY} (I : i_Rel k u v) (hk : k + 3 ≤ 1537) : wpX_falsePairs (fun r u' => wpY_falsePairs (fun r' v' => r' = r ∧ i_Rel (k + 3) u' v') v) u := by
  refine bl_el (P := fun u v => wpX_falsePairs (fun r u' => wpY_falsePairs (fun r' v' => r' = r ∧ i_Rel (k + 3) u' v') v) u) ?_ I
  clear I
  intro N s c kn M C L off hd fs mt iv md ls bs ro R
  obtain ⟨h3, hN, h1, hs, hc, hM, hC, hL, ok, hkn⟩ := id R
  refine bx_falsePairs h3 hN h1 hs hc hL hkn ?_
  intro off2 hd2 fs2 mt2 iv2 md2 hK
  refine yl_falsePairs hN hs hc hL ok ?_
  intro ls2 bs2 ro2
  exact ⟨rfl, bl_mk (bl_RI_k R hK)⟩
theorem i_vc_home {k : Nat} {u : SX} {v : SY} (I : i_Rel k u v) (hk : k + 3 ≤ 1537) : wpX_home (fun r u' => wpY_home (fun r' v' => r' = r ∧ i_Rel (k + 3) u' v') v) u := by
  refine bl_el (P := fun u v => wpX_home (fun r u' => wpY_home (fun r' v' => r' = r ∧ i_Rel (k + 3) u' v') v) u) ?_ I
  clear I
  intro N s c kn M C L off hd fs mt iv md ls bs ro R
  obtain ⟨h3, hN, h1, hs, hc, hM, hC, hL, ok, hkn⟩ := id R
  refine bx_home h3 hN h1 hs hc hL hkn ?_
  intro off2 hd2 fs2 mt2 iv2 md2 hK
  refine yl_home hN h1 hs hc hL ok ?_
  intro ls2 bs2 ro2
  exact ⟨rfl, bl_mk (bl_RI_k R hK)⟩
theorem i_vc_choices {k : Nat} {u : SX} {v : SY} (I : i_Rel k u v) (hk : k + 3 ≤ 1537) : wpX_choices (fun r u' => wpY_choices (fun r' v' => r' = r ∧ i_Rel (k + 3) u' v') v) u := by
  refine bl_el (P := fun u v => wpX_choices (fun r u' => wpY_choices (fun r' v' => r' = r ∧ i_Rel (k + 3) u' v') v) u) ?_ I
  clear I
  intro N s c kn M C L off hd fs mt iv md ls bs ro R
  obtain ⟨h3, hN, h1, hs, hc, hM, hC, hL, ok, hkn⟩ := id R
  refine bx_choices h3 hN h1 hs hc hL hkn ?_
  intro off2 hd2 fs2 mt2 iv2 md2 hK
  refine yl_choices hN hs hc hL ok ?_
  intro ls2 bs2 ro2
  exact ⟨rfl, bl_mk (bl_RI_k R hK)⟩
theorem i_vc_falseAlone {k : Nat} {u : SX} {v : SY} (I : i_Rel k u v) (hk : k + 3 ≤ 1537) (v1 : Int32) : wpX_falseAlone (fun r u' => wpY_falseAlone (fun r' v' => r' = r ∧ i_Rel (k + 3) u' v') v v1) u v1 := by
  refine bl_el (P := fun u v => wpX_falseAlone (fun r u' => wpY_falseAlone (fun r' v' => r' = r ∧ i_Rel (k + 3) u' v') v v1) u v1) ?_ I
  clear I
  intro N s c kn M C L off hd fs mt iv md ls bs ro R
  obtain ⟨h3, hN, h1, hs, hc, hM, hC, hL, ok, hkn⟩ := id R
  rcases pk_ix v1 (n := 3) (by omega) with h | h | ⟨j, hj, rfl⟩
  · unfold wpX_falseAlone
    refine bx_badCall_t _ (Or.inl h) (br_f (by decide) ?_)
    unfold wpY_falseAlone
    exact yl_noCall_t _ (Or.inl h) (br_f (by decide) ⟨rfl, bl_mk R⟩)
  · unfold wpX_falseAlone
    refine bx_badCall_t _ (Or.inr h) (br_f (by decide) ?_)
    unfold wpY_falseAlone
    exact yl_noCall_t _ (Or.inr h) (br_f (by decide) ⟨rfl, bl_mk R⟩)
  · refine bx_falseAlone h3 hN h1 hs hj hkn ?_
    intro off2 hd2 fs2 mt2 iv2 md2 hK
    refine yl_falseAlone hN hs hj ok ?_
    intro ls2 bs2 ro2
    exact ⟨rfl, bl_mk (bl_RI_k R hK)⟩
theorem i_vc_order {k : Nat} {u : SX} {v : SY} (I : i_Rel k u v) (hk : k + 3 ≤ 1537) (v1 : Int32) : wpX_order (fun r u' => wpY_order (fun r' v' => r' = r ∧ i_Rel (k + 3) u' v') v v1) u v1 := by
  refine bl_el (P := fun u v => wpX_order (fun r u' => wpY_order (fun r' v' => r' = r ∧ i_Rel (k + 3) u' v') v v1) u v1) ?_ I
  clear I
  intro N s c kn M C L off hd fs mt iv md ls bs ro R
  obtain ⟨h3, hN, h1, hs, hc, hM, hC, hL, ok, hkn⟩ := id R
  rcases pk_ix v1 (n := 3) (by omega) with h | h | ⟨j, hj, rfl⟩
  · unfold wpX_order
    refine bx_badCall_t _ (Or.inl h) (br_f (by decide) ?_)
    unfold wpY_order
    exact yl_noCall_t _ (Or.inl h) (br_f (by decide) ⟨rfl, bl_mk R⟩)
  · unfold wpX_order
    refine bx_badCall_t _ (Or.inr h) (br_f (by decide) ?_)
    unfold wpY_order
    exact yl_noCall_t _ (Or.inr h) (br_f (by decide) ⟨rfl, bl_mk R⟩)
  · refine bx_order h3 hN h1 hs hj hkn ?_
    intro T hT off2 hd2 fs2 mt2 iv2 md2 hK
    refine yl_order hN h1 hs hj ok hT ?_
    intro ls2 bs2 ro2
    exact ⟨rfl, bl_mk (bl_RI_k R hK)⟩
theorem i_vc_row {k : Nat} {u : SX} {v : SY} (I : i_Rel k u v) (hk : k + 3 ≤ 1537) (v1 : Int32) : wpX_row (fun r u' => wpY_row (fun r' v' => r' = r ∧ i_Rel (k + 3) u' v') v v1) u v1 := by
  refine bl_el (P := fun u v => wpX_row (fun r u' => wpY_row (fun r' v' => r' = r ∧ i_Rel (k + 3) u' v') v v1) u v1) ?_ I
  clear I
  intro N s c kn M C L off hd fs mt iv md ls bs ro R
  obtain ⟨h3, hN, h1, hs, hc, hM, hC, hL, ok, hkn⟩ := id R
  have h240 := bl_cs hs hc
  have bad : (v1 < 0 ∨ nI (c * s + 1) ≤ v1) → wpX_row (fun r u' => wpY_row (fun r' v' => r' = r ∧ i_Rel (k + 3) u' v') (nI N, nI s, nI c, ls, M, C, L, bs, ro) v1) (nI N, nI s, nI c, kn, M, C, L, off, hd, fs, mt, iv, md) v1 := by
    intro h
    unfold wpX_row
    refine bx_noRow_t hs hc h (br_f (by decide) ?_)
    refine yl_row_f hN hs hc hL ok h ?_
    intro ls2 bs2 ro2
    exact ⟨rfl, bl_mk R⟩
  rcases pk_ix v1 (n := c * s + 1) (by omega) with h | h | ⟨j, hj, rfl⟩
  · exact bad (Or.inl h)
  · exact bad (Or.inr h)
  · refine bx_row h3 hN h1 hs hc hL hkn (by omega) ?_
    intro off2 hd2 fs2 mt2 iv2 md2 hK
    refine yl_row hN hs hc hL ok (by omega) ?_
    intro ls2 bs2 ro2
    exact ⟨rfl, bl_mk (bl_RI_k R hK)⟩
theorem bl_bell {N : Nat} (hN : N ≤ 6) (x : Int32) : x < 1 ∨ (¬ x < 1 ∧ ¬ x ≤ nI N) ∨ ∃ b, b < N ∧ x = nI (b + 1) := by
  by_cases h : x < 1
  · exact Or.inl h
  · have h0 : ¬ x < 0 := fun z => h (Int32.lt_trans z (by decide))
    obtain ⟨j, hj, rfl⟩ := nI_of h0
    have j1 : 1 ≤ j := by
      rcases Nat.eq_zero_or_pos j with a | a
      · rw [a] at h; exact absurd (by decide) h
      · exact a
    rcases Nat.lt_or_ge N j with a | a
    · exact Or.inr (Or.inl ⟨h, nI_ge a hj⟩)
    · exact Or.inr (Or.inr ⟨j - 1, by omega, by rw [show j - 1 + 1 = j by omega]⟩)
theorem i_vc_place {k : Nat} {u : SX} {v : SY} (I : i_Rel k u v) (hk : k + 3 ≤ 1537) (v1 : Int32) (v2 : Int32) : wpX_place (fun r u' => wpY_place (fun r' v' => r' = r ∧ i_Rel (k + 3) u' v') v v1 v2) u v1 v2 := by
  refine bl_el (P := fun u v => wpX_place (fun r u' => wpY_place (fun r' v' => r' = r ∧ i_Rel (k + 3) u' v') v v1 v2) u v1 v2) ?_ I
  clear I
  intro N s c kn M C L off hd fs mt iv md ls bs ro R
  obtain ⟨h3, hN, h1, hs, hc, hM, hC, hL, ok, hkn⟩ := id R
  have h240 := bl_cs hs hc
  rcases bl_bell hN v1 with h | ⟨h, h'⟩ | ⟨b, hb, rfl⟩
  · refine br_t h ?_
    unfold wpY_place
    exact yl_noBell_t (Or.inl h) (br_f (by decide) ⟨rfl, bl_mk R⟩)
  · refine br_f h (br_f h' ?_)
    unfold wpY_place
    exact yl_noBell_t (Or.inr h') (br_f (by decide) ⟨rfl, bl_mk R⟩)
  · have bad : (v2 < 0 ∨ nI (c * s + 1) ≤ v2) → wpX_place (fun r u' => wpY_place (fun r' v' => r' = r ∧ i_Rel (k + 3) u' v') (nI N, nI s, nI c, ls, M, C, L, bs, ro) (nI (b + 1)) v2) (nI N, nI s, nI c, kn, M, C, L, off, hd, fs, mt, iv, md) (nI (b + 1)) v2 := by
      intro h
      refine br_f (nI_nlt (b := 1) (by omega) (by omega)) (br_t (nI_le (by omega) (by omega)) ?_)
      refine bx_noRow_t hs hc h (br_f (by decide) ?_)
      refine yl_place_f hN hs hc hL ok hb h ?_
      intro ls2 bs2 ro2
      exact ⟨rfl, bl_mk R⟩
    rcases pk_ix v2 (n := c * s + 1) (by omega) with h | h | ⟨j, hj, rfl⟩
    · exact bad (Or.inl h)
    · exact bad (Or.inr h)
    · obtain ⟨g, g1, g2, g3, g4, g5⟩ := bl_G_P (s := s) (cl := bl_cl L) (bl_OP N s M C) j
      refine bx_place h3 hN h1 hs hc hL hkn (by omega) hb (g4 b hb) (g2 b) ?_
      intro off2 hd2 fs2 mt2 iv2 md2 hK
      refine yl_place h3 hN hs hc hL ok (by omega) hb (g4 b hb) (g2 b) ?_
      intro ls2 bs2 ro2
      exact ⟨rfl, bl_mk (bl_RI_k R hK)⟩
theorem i_vc_leads {k : Nat} {u : SX} {v : SY} (I : i_Rel k u v) (hk : k + 3 ≤ 1537) (v1 : Int32) : wpX_leads (fun r u' => wpY_leads (fun r' v' => r' = r ∧ i_Rel (k + 3) u' v') v v1) u v1 := by
  refine bl_el (P := fun u v => wpX_leads (fun r u' => wpY_leads (fun r' v' => r' = r ∧ i_Rel (k + 3) u' v') v v1) u v1) ?_ I
  clear I
  intro N s c kn M C L off hd fs mt iv md ls bs ro R
  obtain ⟨h3, hN, h1, hs, hc, hM, hC, hL, ok, hkn⟩ := id R
  rcases bl_bell hN v1 with h | ⟨h, h'⟩ | ⟨b, hb, rfl⟩
  · refine br_t h ?_
    unfold wpY_leads
    exact yl_noBell_t (Or.inl h) (br_f (by decide) ⟨rfl, bl_mk R⟩)
  · refine br_f h (br_f h' ?_)
    unfold wpY_leads
    exact yl_noBell_t (Or.inr h') (br_f (by decide) ⟨rfl, bl_mk R⟩)
  · refine bx_leads h3 hN h1 hs hc hL hkn hb ?_
    intro off2 hd2 fs2 mt2 iv2 md2 hK
    refine yl_leads h3 hN hs hc hL ok hb ?_
    intro ls2 bs2 ro2
    exact ⟨rfl, bl_mk (bl_RI_k R hK)⟩
end
section
/-! the calls that write -/
theorem bl_LL_of {L : Nat → Int32} (h : ∀ i, ∃ m, m < 3 ∧ L i = nI m) : bl_LL L := by
  intro i
  obtain ⟨m, hm, e⟩ := h i
  have e2 : bl_cl L i = m := by unfold bl_cl; rw [e, nI_clamp (by omega)]
  rw [e2]
  exact ⟨hm, e⟩
theorem bl_LL_to {L : Nat → Int32} (h : bl_LL L) (i : Nat) : ∃ m, m < 3 ∧ L i = nI m := ⟨_, (h i).1, (h i).2⟩
theorem bl_upd_in {A : Nat → Int32} {B k : Nat} {x : Int32} (h : ∀ i, ∃ m, m < B ∧ A i = nI m) (hx : ∃ m, m < B ∧ x = nI m) : ∀ i, ∃ m, m < B ∧ upd A k x i = nI m := by
  intro i
  by_cases q : i = k
  · subst q
    rw [pk_us]
    exact hx
  · rw [pk_un q]
    exact h i
def bl_shf (A : Nat → Int32) (n : Nat) : Nat → Int32 := fun i => if i < n then A (i + 1) else A i
theorem bl_shf_0 (A : Nat → Int32) : bl_shf A 0 = A := by
  funext i
  unfold bl_shf
  rw [if_neg (by omega)]
theorem bl_shf_at (A : Nat → Int32) (n : Nat) : bl_shf A n (n + 1) = A (n + 1) := by
  unfold bl_shf
  rw [if_neg (by omega)]
theorem bl_shf_s (A : Nat → Int32) (n : Nat) : upd (bl_shf A n) n (A (n + 1)) = bl_shf A (n + 1) := by
  funext i
  by_cases q : i = n
  · subst q
    rw [pk_us]
    unfold bl_shf
    rw [if_pos (by omega)]
  · rw [pk_un q]
    unfold bl_shf
    by_cases w : i < n
    · rw [if_pos w, if_pos (by omega)]
    · rw [if_neg w, if_neg (by omega)]
theorem bl_shf_in {A : Nat → Int32} {B n : Nat} (h : ∀ i, ∃ m, m < B ∧ A i = nI m) : ∀ i, ∃ m, m < B ∧ bl_shf A n i = nI m := by
  intro i
  unfold bl_shf
  by_cases w : i < n
  · rw [if_pos w]; exact h _
  · rw [if_neg w]; exact h _
section BLV
variable {N s c k : Nat} {kn ls : Int32} {M C L off hd fs mt iv md bs ro : Nat → Int32}
theorem bx_drop30 {post : Int32 → SX → Prop} {x1 : Int32} (hs : s < 12) (hM : ∀ i, ∃ m, m < 64 ∧ M i = nI m) (K : post x1 (nI N, nI s, nI c, 0, bl_shf M s, C, L, off, hd, fs, mt, iv, md)) : ∀ d i, i + d = s → wX_drop_30 post x1 (nI N) (nI s) (nI c) kn (d + 1) (nI i) (bl_shf M i) C L off hd fs mt iv md := by
  intro d
  induction d with
  | zero =>
    intro i hi
    have e : i = s := by omega
    rw [e]
    exact br_t (nI_le (by omega) (by omega)) K
  | succ d ih =>
    intro i hi
    refine br_f (nI_ge (by omega) (by omega)) ?_
    obtain ⟨m, hm, e⟩ := hM (i + 1)
    rw [nI_1 i, nI_clamp (n := i + 1) (by omega), nI_clamp (n := i) (by omega), bl_shf_at, e, bl_nar (m := m) (by omega), ← e, bl_shf_s]
    exact ⟨vp_in_nI (by omega) (by omega), vp_in_nI (by omega) (by omega), nm_e (nm_e (ih (i + 1) (by omega)))⟩
theorem yl_drop30 {post : Int32 → SY → Prop} {x1 : Int32} (hs : s < 12) (K : post x1 (nI N, nI s, nI c, ls, bl_shf M s, C, L, bs, ro)) : ∀ d i, i + d = s → wY_drop_30 post x1 (nI N) (nI s) (nI c) ls (d + 1) (nI i) (bl_shf M i) C L bs ro := by
  intro d
  induction d with
  | zero =>
    intro i hi
    have e : i = s := by omega
    rw [e]
    exact br_t (nI_le (by omega) (by omega)) K
  | succ d ih =>
    intro i hi
    refine br_f (nI_ge (by omega) (by omega)) ?_
    rw [nI_1 i, nI_clamp (n := i + 1) (by omega), nI_clamp (n := i) (by omega), bl_shf_at, bl_shf_s]
    exact ⟨vp_in_nI (by omega) (by omega), vp_in_nI (by omega) (by omega), nm_e (nm_e (ih (i + 1) (by omega)))⟩
theorem bx_turn19 {post : Int32 → SX → Prop} {x1 : Int32} (hc : c ≤ 20) (hc1 : 1 ≤ c) (hL : ∀ i, ∃ m, m < 3 ∧ L i = nI m) (hx : ∃ m, m < 3 ∧ x1 = nI m) (K : post x1 (nI N, nI s, nI c, kn, M, C, upd (bl_shf L (c - 1)) (c - 1) x1, off, hd, fs, mt, iv, md)) : ∀ d i, i + 1 + d = c → wX_turn_19 post x1 (nI N) (nI s) (nI c) kn (d + 1) (nI (i + 1)) M C (bl_shf L i) off hd fs mt iv md := by
  intro d
  induction d with
  | zero =>
    intro i hi
    have e : i = c - 1 := by omega
    obtain ⟨m, hm, ex⟩ := hx
    refine br_t (nI_le (by omega) (by omega)) ?_
    rw [bl_s (by omega), nI_clamp (n := c - 1) (by omega), e]
    refine ⟨vp_in_nI (by omega) (by omega), nm_r ?_ K⟩
    rw [ex, bl_nar (by omega)]
  | succ d ih =>
    intro i hi
    refine br_f (nI_ge (by omega) (by omega)) ?_
    obtain ⟨m, hm, e⟩ := hL (i + 1)
    rw [nI_pred, nI_clamp (n := i + 1) (by omega), nI_clamp (n := i) (by omega), bl_shf_at, e, bl_nar (m := m) (by omega), ← e, bl_shf_s]
    exact ⟨vp_in_nI (by omega) (by omega), vp_in_nI (by omega) (by omega), nm_e (nm_r (nI_1 (i + 1)) (ih (i + 1) (by omega)))⟩
theorem yl_turn19 {post : Int32 → SY → Prop} {x1 : Int32} (hc : c ≤ 20) (hc1 : 1 ≤ c) (K : post x1 (nI N, nI s, nI c, ls, M, C, upd (bl_shf L (c - 1)) (c - 1) x1, bs, ro)) : ∀ d i, i + 1 + d = c → wY_turn_19 post x1 (nI N) (nI s) (nI c) ls (d + 1) (nI i) M C (bl_shf L i) bs ro := by
  intro d
  induction d with
  | zero =>
    intro i hi
    have e : i = c - 1 := by omega
    rw [e]
    unfold wY_turn_19
    rw [bl_s (by omega), nI_clamp (n := c - 1) (by omega)]
    exact br_t (nI_le (by omega) (by omega)) ⟨vp_in_nI (by omega) (by omega), nm_e K⟩
  | succ d ih =>
    intro i hi
    unfold wY_turn_19
    rw [bl_s (by omega)]
    refine br_f (nI_ge (by omega) (by omega)) ?_
    rw [nI_1 i, nI_clamp (n := i + 1) (by omega), nI_clamp (n := i) (by omega), bl_shf_at, bl_shf_s]
    exact ⟨vp_in_nI (by omega) (by omega), vp_in_nI (by omega) (by omega), nm_e (nm_e (ih (i + 1) (by omega)))⟩
end BLV
theorem i_vc_change {k : Nat} {u : SX} {v : SY} (I : i_Rel k u v) (hk : k + 3 ≤ 1537) (v1 : Int32) : wpX_change (fun r u' => wpY_change (fun r' v' => r' = r ∧ i_Rel (k + 3) u' v') v v1) u v1 := by
  refine bl_el (P := fun u v => wpX_change (fun r u' => wpY_change (fun r' v' => r' = r ∧ i_Rel (k + 3) u' v') v v1) u v1) ?_ I
  clear I
  intro N s c kn M C L off hd fs mt iv md ls bs ro R
  obtain ⟨h3, hN, h1, hs, hc, hM, hC, hL, ok, hkn⟩ := id R
  unfold wpX_change
  refine bx_isChange hN ?_
  by_cases z : bl_isC N v1 = 0
  · refine br_t z ?_
    unfold wpY_change
    exact yl_isChange hN (br_t z ⟨rfl, bl_mk R⟩)
  · obtain ⟨o1, m, hm, rfl⟩ := bl_isC_ok h3 hN z
    refine br_f z ?_
    refine pk_eq s 12 (fun e => ?_) (fun e => ?_)
    · unfold wpY_change
      refine yl_isChange hN (br_f z (br_t ?_ ⟨rfl, bl_mk R⟩))
      rw [e]; rfl
    · rw [nI_clamp (n := s) (by omega), bl_nar8 (m := m) (by omega)]
      refine ⟨vp_in_nI (by omega) (by omega), nm_e (nm_r (nI_1 s) ?_)⟩
      unfold wpY_change
      refine yl_isChange hN (br_f z (br_f (fun w => e ((nI_eq (b := 12) (by omega) (by omega)).mp w)) ?_))
      rw [nI_clamp (n := s) (by omega)]
      refine ⟨vp_in_nI (by omega) (by omega), nm_e (nm_r (nI_1 s) ⟨rfl, bl_mk ⟨h3, hN, by omega, by omega, hc, bl_upd_in hM ⟨m, hm, rfl⟩, hC, hL, ⟨fun i hi => ?_, ok.2⟩, Or.inl rfl⟩⟩)⟩
      by_cases q : i = s
      · subst q
        rw [pk_us]
        exact o1
      · rw [pk_un q]
        exact ok.1 i (by omega)
theorem i_vc_drop {k : Nat} {u : SX} {v : SY} (I : i_Rel k u v) (hk : k + 3 ≤ 1537) : wpX_drop (fun r u' => wpY_drop (fun r' v' => r' = r ∧ i_Rel (k + 3) u' v') v) u := by
  refine bl_el (P := fun u v => wpX_drop (fun r u' => wpY_drop (fun r' v' => r' = r ∧ i_Rel (k + 3) u' v') v) u) ?_ I
  clear I
  intro N s c kn M C L off hd fs mt iv md ls bs ro R
  obtain ⟨h3, hN, h1, hs, hc, hM, hC, hL, ok, hkn⟩ := id R
  refine pk_eq s 1 (fun e => ?_) (fun e => ?_)
  · refine br_t ?_ ⟨rfl, bl_mk R⟩
    rw [e]; rfl
  · refine nm_e (nm_r (bl_s (by omega)) ⟨s - 1 + 1, ?_⟩)
    have g := bx_drop30 (s := s - 1) (post := fun r u' => wpY_drop (fun r' v' => r' = r ∧ i_Rel (k + 3) u' v') (nI N, nI s, nI c, ls, M, C, L, bs, ro)) (x1 := M 0) (N := N) (c := c) (kn := kn) (M := M) (C := C) (L := L) (off := off) (hd := hd) (fs := fs) (mt := mt) (iv := iv) (md := md) (by omega) hM ?_ (s - 1) 0 (by omega)
    · rw [bl_shf_0] at g
      exact g
    · refine br_f (fun w => e ((nI_eq (b := 1) (by omega) (by omega)).mp w)) (nm_e (nm_r (bl_s (by omega)) ⟨s - 1 + 1, ?_⟩))
      have g2 := yl_drop30 (s := s - 1) (post := fun r' v' => r' = M 0 ∧ i_Rel (k + 3) (nI N, nI (s - 1), nI c, 0, bl_shf M (s - 1), C, L, off, hd, fs, mt, iv, md) v') (x1 := M 0) (N := N) (c := c) (ls := ls) (M := M) (C := C) (L := L) (bs := bs) (ro := ro) (by omega) ⟨rfl, bl_mk ⟨h3, hN, by omega, by omega, hc, bl_shf_in hM, hC, hL, ⟨fun i hi => ?_, ok.2⟩, Or.inl rfl⟩⟩ (s - 1) 0 (by omega)
      · rw [bl_shf_0] at g2
        exact g2
      · unfold bl_shf
        rw [if_pos hi]
        exact ok.1 (i + 1) (by omega)
theorem i_vc_call {k : Nat} {u : SX} {v : SY} (I : i_Rel k u v) (hk : k + 3 ≤ 1537) (v1 : Int32) (v2 : Int32) : wpX_call (fun r u' => wpY_call (fun r' v' => r' = r ∧ i_Rel (k + 3) u' v') v v1 v2) u v1 v2 := by
  refine bl_el (P := fun u v => wpX_call (fun r u' => wpY_call (fun r' v' => r' = r ∧ i_Rel (k + 3) u' v') v v1 v2) u v1 v2) ?_ I
  clear I
  intro N s c kn M C L off hd fs mt iv md ls bs ro R
  obtain ⟨h3, hN, h1, hs, hc, hM, hC, hL, ok, hkn⟩ := id R
  unfold wpX_call
  refine bx_isChange hN ?_
  by_cases a1 : v1 < 1
  · exact br_t a1 (br_t a1 ⟨rfl, bl_mk R⟩)
  · refine br_f a1 ?_
    by_cases a2 : 2 < v1
    · exact br_t a2 (br_f a1 (br_t a2 ⟨rfl, bl_mk R⟩))
    · refine br_f a2 ?_
      have a0 : ¬ v1 < 0 := fun w => a1 (Int32.lt_trans w (by decide))
      obtain ⟨j, hj, rfl⟩ := nI_of a0
      have j2 : j < 3 := by
        rcases Nat.lt_or_ge j 3 with w | w
        · exact w
        · exact absurd (nI_lt (a := 2) (by omega) hj) a2
      have j1 : 1 ≤ j := by
        rcases Nat.eq_zero_or_pos j with w | w
        · rw [w] at a1; exact absurd (by decide) a1
        · exact w
      by_cases z : bl_isC N v2 = 0
      · exact br_t z (br_f a1 (br_f a2 (yl_isChange hN (br_t z ⟨rfl, bl_mk R⟩))))
      · obtain ⟨o1, m, hm, rfl⟩ := bl_isC_ok h3 hN z
        refine br_f z ?_
        rw [nI_clamp (n := j) (by omega), bl_nar8 (m := m) (by omega)]
        refine ⟨vp_in_nI j2 (by omega), nm_e ⟨vp_in_nI j2 (by omega), nm_e (br_f a1 (br_f a2 (yl_isChange hN (br_f z ?_))))⟩⟩
        rw [nI_clamp (n := j) (by omega)]
        refine ⟨vp_in_nI j2 (by omega), nm_e ⟨vp_in_nI j2 (by omega), nm_e ⟨rfl, bl_mk ⟨h3, hN, h1, hs, hc, hM, bl_upd_in hC ⟨m, hm, rfl⟩, hL, ⟨ok.1, fun a ha hb => ?_⟩, Or.inl rfl⟩⟩⟩⟩
        by_cases q : a = j
        · subst q
          rw [pk_us]
          exact o1
        · rw [pk_un q]
          exact ok.2 a ha hb
/-- what is known doesn't hang on the touch -/
theorem bl_RI_L {N s c c' : Nat} {kn : Int32} {M C L L' off fs : Nat → Int32} (h : bl_RI N s c kn M C L off fs) (hc : c' ≤ 20) (hL : bl_LL L') : bl_RI N s c' kn M C L' off fs := by
  obtain ⟨h3, hN, h1, hs, _, hM, hC, _, ok, hk⟩ := h
  exact ⟨h3, hN, h1, hs, hc, hM, hC, hL, ok, hk⟩
theorem i_vc_lead {k : Nat} {u : SX} {v : SY} (I : i_Rel k u v) (hk : k + 3 ≤ 1537) (v1 : Int32) : wpX_lead (fun r u' => wpY_lead (fun r' v' => r' = r ∧ i_Rel (k + 3) u' v') v v1) u v1 := by
  refine bl_el (P := fun u v => wpX_lead (fun r u' => wpY_lead (fun r' v' => r' = r ∧ i_Rel (k + 3) u' v') v v1) u v1) ?_ I
  clear I
  intro N s c kn M C L off hd fs mt iv md ls bs ro R
  obtain ⟨h3, hN, h1, hs, hc, hM, hC, hL, ok, hkn⟩ := id R
  unfold wpX_lead
  have bad : (v1 < 0 ∨ nI 3 ≤ v1) → wpX_lead (fun r u' => wpY_lead (fun r' v' => r' = r ∧ i_Rel (k + 3) u' v') (nI N, nI s, nI c, ls, M, C, L, bs, ro) v1) (nI N, nI s, nI c, kn, M, C, L, off, hd, fs, mt, iv, md) v1 := by
    intro h
    unfold wpX_lead
    refine bx_badCall_t _ h (br_f (by decide) ?_)
    unfold wpY_lead
    exact yl_noCall_t _ h (br_f (by decide) ⟨rfl, bl_mk R⟩)
  rcases pk_ix v1 (n := 3) (by omega) with h | h | ⟨j, hj, rfl⟩
  · exact bad (Or.inl h)
  · exact bad (Or.inr h)
  · refine bx_badCall_f _ hj (br_t rfl ?_)
    refine pk_eq c 20 (fun e => ?_) (fun e => ?_)
    · unfold wpY_lead
      refine yl_noCall_f _ hj (br_t rfl (br_t ?_ ⟨rfl, bl_mk R⟩))
      rw [e]; rfl
    · rw [nI_clamp (n := c) (by omega), bl_nar8 (m := j) (by omega)]
      refine ⟨vp_in_nI (by omega) (by omega), nm_e (nm_r (nI_1 c) ?_)⟩
      unfold wpY_lead
      refine yl_noCall_f _ hj (br_t rfl (br_f (fun w => e ((nI_eq (b := 20) (by omega) (by omega)).mp w)) ?_))
      rw [nI_clamp (n := c) (by omega)]
      exact ⟨vp_in_nI (by omega) (by omega), nm_e (nm_r (nI_1 c) ⟨rfl, bl_mk (bl_RI_L R (by omega) (bl_LL_of (bl_upd_in (bl_LL_to hL) ⟨j, hj, rfl⟩)))⟩)⟩
theorem i_vc_back {k : Nat} {u : SX} {v : SY} (I : i_Rel k u v) (hk : k + 3 ≤ 1537) : wpX_back (fun r u' => wpY_back (fun r' v' => r' = r ∧ i_Rel (k + 3) u' v') v) u := by
  refine bl_el (P := fun u v => wpX_back (fun r u' => wpY_back (fun r' v' => r' = r ∧ i_Rel (k + 3) u' v') v) u) ?_ I
  clear I
  intro N s c kn M C L off hd fs mt iv md ls bs ro R
  obtain ⟨h3, hN, h1, hs, hc, hM, hC, hL, ok, hkn⟩ := id R
  refine pk_eq c 0 (fun e => ?_) (fun e => ?_)
  · refine br_t ?_ ⟨rfl, bl_mk R⟩
    rw [e]; rfl
  · refine nm_r (bl_s (by omega)) ⟨vp_in_nI (by omega) (by omega), br_f (nI_ne0 (by omega) (by omega)) (nm_r (bl_s (by omega)) ⟨vp_in_nI (by omega) (by omega), rfl, bl_mk (bl_RI_L R (by omega) hL)⟩)⟩
theorem i_vc_turn {k : Nat} {u : SX} {v : SY} (I : i_Rel k u v) (hk : k + 3 ≤ 1537) : wpX_turn (fun r u' => wpY_turn (fun r' v' => r' = r ∧ i_Rel (k + 3) u' v') v) u := by
  refine bl_el (P := fun u v => wpX_turn (fun r u' => wpY_turn (fun r' v' => r' = r ∧ i_Rel (k + 3) u' v') v) u) ?_ I
  clear I
  intro N s c kn M C L off hd fs mt iv md ls bs ro R
  obtain ⟨h3, hN, h1, hs, hc, hM, hC, hL, ok, hkn⟩ := id R
  refine pk_eq c 0 (fun e => ?_) (fun e => ?_)
  · refine br_t ?_ ⟨rfl, bl_mk R⟩
    rw [e]; rfl
  · refine nm_e ⟨c - 1 + 1, ?_⟩
    have g := bx_turn19 (post := fun r u' => wpY_turn (fun r' v' => r' = r ∧ i_Rel (k + 3) u' v') (nI N, nI s, nI c, ls, M, C, L, bs, ro)) (x1 := L 0) (N := N) (s := s) (c := c) (kn := kn) (M := M) (C := C) (L := L) (off := off) (hd := hd) (fs := fs) (mt := mt) (iv := iv) (md := md) hc (by omega) (bl_LL_to hL) (bl_LL_to hL 0) ?_ (c - 1) 0 (by omega)
    · rw [bl_shf_0] at g
      exact g
    · refine br_f (nI_ne0 (by omega) (by omega)) (nm_e ⟨c - 1 + 1, ?_⟩)
      have g2 := yl_turn19 (post := fun r' v' => r' = L 0 ∧ i_Rel (k + 3) (nI N, nI s, nI c, kn, M, C, upd (bl_shf L (c - 1)) (c - 1) (L 0), off, hd, fs, mt, iv, md) v') (x1 := L 0) (N := N) (s := s) (c := c) (ls := ls) (M := M) (C := C) (L := L) (bs := bs) (ro := ro) hc (by omega) ⟨rfl, bl_mk (bl_RI_L R hc (bl_LL_of (bl_upd_in (bl_shf_in (bl_LL_to hL)) (bl_LL_to hL 0))))⟩ (c - 1) 0 (by omega)
      rw [bl_shf_0] at g2
      exact g2
theorem i_vc_last {k : Nat} {u : SX} {v : SY} (I : i_Rel k u v) (hk : k + 3 ≤ 1537) : wpX_last (fun r => wpY_last (fun r' => r' = r ∧ i_Rel (k + 3) u v) v) u := by
  refine bl_el (P := fun u v => wpX_last (fun r => wpY_last (fun r' => r' = r ∧ i_Rel (k + 3) u v) v) u) ?_ I
  clear I
  intro N s c kn M C L off hd fs mt iv md ls bs ro R
  exact ⟨rfl, bl_mk R⟩
theorem bl_i0 {N : Nat} (h3 : 3 ≤ N) (hN : N ≤ 6) : ∃ m, m < 64 ∧ ((1 : Int32) <<< (nI N &&& 31)) - 1 = nI m ∧ bl_ok N (nI m) N 0 = true := by
  have h : N = 3 ∨ N = 4 ∨ N = 5 ∨ N = 6 := by omega
  rcases h with rfl | rfl | rfl | rfl
  · exact ⟨7, by omega, by decide, by decide +kernel⟩
  · exact ⟨15, by omega, by decide, by decide +kernel⟩
  · exact ⟨31, by omega, by decide, by decide +kernel⟩
  · exact ⟨63, by omega, by decide, by decide +kernel⟩
def bl_A0 (m : Nat) : Nat → Int32 := upd (fun _ => 0) 0 (nI m)
def bl_C0 (m : Nat) : Nat → Int32 := upd (upd (fun _ => 0) 1 (nI m)) 2 (nI m)
theorem bx_i99 {post : SX → Prop} {N m : Nat} (hm : m < 64) (e : ((1 : Int32) <<< (nI N &&& 31)) - 1 = nI m) (K : post (nI N, 1, 0, 0, bl_A0 m, bl_C0 m, (fun _ => 0), (fun _ => 0), (fun _ => 0), (fun _ => 0), (fun _ => 0), (fun _ => 0), (fun _ => 0))) : wX_init_99 post (nI N) 0 0 0 0 (fun _ => 0) (fun _ => 0) (fun _ => 0) (fun _ => 0) (fun _ => 0) (fun _ => 0) (fun _ => 0) (fun _ => 0) (fun _ => 0) := by
  unfold wX_init_99
  rw [e, bl_nar8 (m := m) (by omega)]
  refine nm_e ?_
  rw [pk_us, bl_nar (m := m) (by omega)]
  exact nm_e (nm_e K)
theorem yl_i71 {post : SY → Prop} {N m : Nat} (e : ((1 : Int32) <<< (nI N &&& 31)) - 1 = nI m) (K : post (nI N, 1, 0, 0, bl_A0 m, bl_C0 m, (fun _ => 0), (fun _ => 0), (fun _ => 0))) : wY_init_71 post (nI N) 0 1 0 0 (fun _ => 0) (fun _ => 0) (fun _ => 0) (fun _ => 0) (fun _ => 0) := by
  unfold wY_init_71
  rw [e]
  refine nm_e ?_
  rw [pk_us]
  exact nm_e (nm_e K)
theorem bl_RI_0 {N m : Nat} {off fs : Nat → Int32} (h3 : 3 ≤ N) (hN : N ≤ 6) (hm : m < 64) (ok : bl_ok N (nI m) N 0 = true) : bl_RI N 1 0 0 (bl_A0 m) (bl_C0 m) (fun _ => 0) off fs := by
  have z : ∀ B : Nat, 0 < B → ∀ i : Nat, ∃ m, m < B ∧ (fun _ : Nat => (0 : Int32)) i = nI m := fun B hB i => ⟨0, hB, rfl⟩
  refine ⟨h3, hN, by omega, by omega, by omega, bl_upd_in (z 64 (by omega)) ⟨m, hm, rfl⟩, bl_upd_in (bl_upd_in (z 64 (by omega)) ⟨m, hm, rfl⟩) ⟨m, hm, rfl⟩, bl_LL_of (z 3 (by omega)), ⟨fun i hi => ?_, fun a ha hb => ?_⟩, Or.inl rfl⟩
  · have : i = 0 := by omega
    subst this
    unfold bl_A0
    rw [pk_us]
    exact ok
  · have e : bl_C0 m a = nI m := by
      have h : a = 1 ∨ a = 2 := by omega
      rcases h with rfl | rfl
      · unfold bl_C0
        rw [pk_un (by omega), pk_us]
      · unfold bl_C0
        rw [pk_us]
    rw [e]
    exact ok
theorem i_vc0 (k0 : Int32) : wpX_init (fun u => wpY_init (fun v => i_Rel 1 u v) k0) k0 := by
  have go : ∀ N m : Nat, 3 ≤ N → N ≤ 6 → m < 64 → bl_ok N (nI m) N 0 = true → i_Rel 1 (nI N, 1, 0, 0, bl_A0 m, bl_C0 m, (fun _ => 0), (fun _ => 0), (fun _ => 0), (fun _ => 0), (fun _ => 0), (fun _ => 0), (fun _ => 0)) (nI N, 1, 0, 0, bl_A0 m, bl_C0 m, (fun _ => 0), (fun _ => 0), (fun _ => 0)) := fun N m h3 hN hm ok => bl_mk (bl_RI_0 h3 hN hm ok)
  by_cases a : 3 ≤ k0
  · by_cases b : k0 ≤ 6
    · have a0 : ¬ k0 < 0 := fun w => absurd (Int32.lt_of_lt_of_le w (Int32.le_trans (by decide : (0 : Int32) ≤ 3) a)) Int32.lt_irrefl
      obtain ⟨j, hj, rfl⟩ := nI_of a0
      have j3 : 3 ≤ j := (nI_leI (a := 3) (by omega) hj).mp a
      have j6 : j ≤ 6 := (nI_leI (b := 6) hj (by omega)).mp b
      obtain ⟨m, hm, e, ok⟩ := bl_i0 j3 j6
      exact br_t a (br_t b (bx_i99 hm e (br_t a (br_t b (yl_i71 e (go j m j3 j6 hm ok))))))
    · obtain ⟨m, hm, e, ok⟩ := bl_i0 (N := 6) (by omega) (by omega)
      exact br_t a (br_f b (bx_i99 (N := 6) hm e (br_t a (br_f b (yl_i71 (N := 6) e (go 6 m (by omega) (by omega) hm ok))))))
  · obtain ⟨m, hm, e, ok⟩ := bl_i0 (N := 3) (by omega) (by omega)
    exact br_f a (bx_i99 (N := 3) hm e (br_f a (yl_i71 (N := 3) e (go 3 m (by omega) (by omega) hm ok))))
end
