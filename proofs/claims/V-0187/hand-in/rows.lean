section
theorem pk_us {f : Nat → Int32} {k : Nat} {x : Int32} : upd f k x k = x := if_pos rfl
theorem pk_un {f : Nat → Int32} {k j : Nat} {x : Int32} (h : j ≠ k) : upd f k x j = f j := if_neg h
theorem pk_uLs {f : Nat → Int64} {k : Nat} {x : Int64} : vp_updL f k x k = x := if_pos rfl
theorem pk_uLn {f : Nat → Int64} {k j : Nat} {x : Int64} (h : j ≠ k) : vp_updL f k x j = f j := if_neg h
theorem pk_sub {a b : Nat} (h : b ≤ a) : nI a - nI b = nI (a - b) := by
  obtain ⟨c, rfl⟩ : ∃ c, a = c + b := ⟨a - b, by omega⟩
  rw [← nI_add, Int32.add_sub_cancel, Nat.add_sub_cancel]
theorem pk_m1 (n : Nat) : nI (n + 1) + (-1) = nI n := by
  rw [← nI_1, Int32.add_assoc, show (1 : Int32) + (-1) = 0 from rfl, Int32.add_zero]
theorem pk_mul (a b : Nat) : nI a * nI b = nI (a * b) := (Int32.ofNat_mul a b).symm
theorem pk_div {a d : Nat} (ha : a < 2 ^ 31) (h0 : 0 < d) (hd : d < 2 ^ 31) : nI a / nI d = nI (a / d) := by
  apply Int32.toInt_inj.mp
  rw [lg_idiv_nonneg (by rw [nI_toInt ha]; omega) (by rw [nI_toInt hd]; omega), nI_toInt ha, nI_toInt hd, nI_toInt (Nat.lt_of_le_of_lt (Nat.div_le_self a d) ha)]
  first | rfl | exact (Int.natCast_ediv _ _).symm
theorem pk_rem {a d : Nat} (ha : a < 2 ^ 31) (h0 : 0 < d) (hd : d < 2 ^ 31) : nI a - nI a / nI d * nI d = nI (a % d) := by
  rw [pk_div ha h0 hd, pk_mul, pk_sub (Nat.div_mul_le_self a d)]
  exact congrArg nI (by have := Nat.div_add_mod' a d; omega)
theorem pk_sub_toInt {a b : Nat} (ha : a < 2 ^ 30) (hb : b < 2 ^ 30) : (nI a - nI b).toInt = (a : Int) - b := by
  rw [Int32.toInt_sub, nI_toInt (by omega), nI_toInt (by omega)]
  exact Int.bmod_eq_of_le (by omega) (by omega)
theorem pk_sneg {a b : Nat} (hb : b < 2 ^ 30) (h : a < b) : nI a - nI b < 0 := by
  rw [Int32.lt_iff_toInt_lt, pk_sub_toInt (by omega) hb, show (0 : Int32).toInt = 0 from by decide]
  omega
theorem pk_ix (x : Int32) {n : Nat} (hn : n < 2 ^ 31) : x < 0 ∨ nI n ≤ x ∨ ∃ j : Nat, j < n ∧ x = nI j := by
  by_cases h : x < 0
  · exact Or.inl h
  · obtain ⟨j, hj, rfl⟩ := nI_of h
    by_cases h2 : j < n
    · exact Or.inr (Or.inr ⟨j, h2, rfl⟩)
    · exact Or.inr (Or.inl (nI_le (by omega) hj))
theorem pk_le {x y : Int32} {A B : Prop} (a b : Nat) (f : a ≤ b → A) (g : b < a → B) (hx : x = nI a := by rfl) (hy : y = nI b := by rfl) (ha : a < 2 ^ 31 := by omega) (hb : b < 2 ^ 31 := by omega) : (x ≤ y → A) ∧ (¬ x ≤ y → B) := by
  subst hx hy
  rw [nI_leI ha hb]
  exact ⟨f, fun z => g (by omega)⟩
theorem pk_lt {x y : Int32} {A B : Prop} (a b : Nat) (f : a < b → A) (g : b ≤ a → B) (hx : x = nI a := by rfl) (hy : y = nI b := by rfl) (ha : a < 2 ^ 31 := by omega) (hb : b < 2 ^ 31 := by omega) : (x < y → A) ∧ (¬ x < y → B) := by
  subst hx hy
  rw [nI_ltI ha hb]
  exact ⟨f, fun z => g (by omega)⟩
theorem pk_eq {x y : Int32} {A B : Prop} (a b : Nat) (f : a = b → A) (g : a ≠ b → B) (hx : x = nI a := by rfl) (hy : y = nI b := by rfl) (ha : a < 2 ^ 31 := by omega) (hb : b < 2 ^ 31 := by omega) : (x = y → A) ∧ (¬ x = y → B) := by
  subst hx hy
  rw [nI_eq ha hb]
  exact ⟨f, g⟩
theorem pk_in {x : Int32} (n N : Nat) (h : n < N) (hx : x = nI n := by rfl) (hN : N < 2 ^ 31 := by omega) : vp_in x N := by
  subst hx
  exact vp_in_nI h hN
theorem pk_cl {x : Int32} (n : Nat) (hx : x = nI n := by rfl) (h : n < 2 ^ 31 := by omega) : x.toNatClampNeg = n := by
  subst hx
  exact nI_clamp h
theorem pk_tn {n : Nat} (h : n < 2 ^ 32) : (nI n).toBitVec.toNat = n := Nat.mod_eq_of_lt h
theorem pk_and (x : Int32) {m : Int32} (k : Nat) (hm : m.toBitVec.toNat = 2 ^ k - 1) : x &&& m = nI (x.toBitVec.toNat % 2 ^ k) := by
  apply Int32.toBitVec_inj.mp
  apply BitVec.eq_of_toNat_eq
  rw [Int32.toBitVec_and, BitVec.toNat_and, hm, Nat.and_two_pow_sub_one_eq_mod]
  show _ = (BitVec.ofNat 32 _).toNat
  rw [BitVec.toNat_ofNat]
  exact (Nat.mod_eq_of_lt (Nat.lt_of_le_of_lt (Nat.mod_le _ _) x.toBitVec.isLt)).symm
theorem pk_andN {n : Nat} (h : n < 2 ^ 32) {m : Int32} (k : Nat) (hm : m.toBitVec.toNat = 2 ^ k - 1) : nI n &&& m = nI (n % 2 ^ k) := by
  rw [pk_and _ k hm, pk_tn h]
theorem pk_andE (x : Int32) {m : Int32} (k : Nat) (hm : m.toBitVec.toNat = 2 ^ k - 1) : ∃ j : Nat, j < 2 ^ k ∧ x &&& m = nI j := ⟨_, Nat.mod_lt _ (Nat.two_pow_pos k), pk_and x k hm⟩
theorem pk_andIn (x : Int32) {m : Int32} (k : Nat) (hm : m.toBitVec.toNat = 2 ^ k - 1) (hk : k ≤ 30) : vp_in (x &&& m) (2 ^ k) := by
  obtain ⟨j, hj, e⟩ := pk_andE x k hm
  rw [e]
  exact vp_in_nI hj (Nat.lt_of_le_of_lt (Nat.pow_le_pow_right (by decide) hk) (by decide))
theorem pk_shl (a s : Int32) (k : Nat) (hs : (s.toBitVec.smod 32).toNat = k) : (a <<< s).toBitVec.toNat = a.toBitVec.toNat * 2 ^ k % 2 ^ 32 := by
  show (a.toBitVec <<< (s.toBitVec.smod 32).toNat).toNat = _
  rw [hs, BitVec.toNat_shiftLeft, Nat.shiftLeft_eq]
theorem pk_shlN {n : Nat} (s : Int32) (k : Nat) (hs : (s.toBitVec.smod 32).toNat = k) (h : n * 2 ^ k < 2 ^ 32) : nI n <<< s = nI (n * 2 ^ k) := by
  apply Int32.toBitVec_inj.mp
  apply BitVec.eq_of_toNat_eq
  have hn : n < 2 ^ 32 := Nat.lt_of_le_of_lt (Nat.le_mul_of_pos_right n (Nat.two_pow_pos k)) h
  rw [pk_shl _ _ k hs, pk_tn hn, pk_tn h, Nat.mod_eq_of_lt h]
theorem pk_shr (a s : Int32) (k : Nat) (hs : (s.toBitVec.smod 32).toNat = k) : (a >>> s).toInt = a.toInt >>> k := by
  show (a.toBitVec.sshiftRight (s.toBitVec.smod 32).toNat).toInt = _
  rw [hs, BitVec.toInt_sshiftRight]
  rfl
theorem pk_shrN {n : Nat} (h : n < 2 ^ 31) (s : Int32) (k : Nat) (hs : (s.toBitVec.smod 32).toNat = k) : nI n >>> s = nI (n / 2 ^ k) := by
  apply Int32.toInt_inj.mp
  have h2 : n / 2 ^ k ≤ n := Nat.div_le_self _ _
  rw [pk_shr _ _ k hs, nI_toInt h, nI_toInt (by omega), Int.shiftRight_eq_div_pow]
  rfl
theorem pk_ushr (x s : Int32) (k : Nat) (hs : ((s.toUInt32 &&& Int32.toUInt32 31).toBitVec % 32).toNat = k) : (x.toUInt32 >>> (s.toUInt32 &&& Int32.toUInt32 31)).toInt32.toBitVec.toNat = x.toBitVec.toNat / 2 ^ k := by
  have e : (x.toUInt32 >>> (s.toUInt32 &&& Int32.toUInt32 31)).toInt32.toBitVec = x.toBitVec >>> k := by
    rw [← hs]
    exact UInt32.toBitVec_shiftRight _ _
  rw [e, BitVec.toNat_ushiftRight, Nat.shiftRight_eq_div_pow]
theorem pk_ushrN {n : Nat} (hn : n < 2 ^ 32) (s : Int32) (k : Nat) (hs : ((s.toUInt32 &&& Int32.toUInt32 31).toBitVec % 32).toNat = k) : ((nI n).toUInt32 >>> (s.toUInt32 &&& Int32.toUInt32 31)).toInt32 = nI (n / 2 ^ k) := by
  apply Int32.toBitVec_inj.mp
  apply BitVec.eq_of_toNat_eq
  rw [pk_ushr _ s k hs, pk_tn hn, pk_tn (Nat.lt_of_le_of_lt (Nat.div_le_self _ _) hn)]
def bt (x : Int32) (i : Nat) : Bool := x.toBitVec.getLsbD i
theorem b_ext {x y : Int32} (h : ∀ i, i < 32 → bt x i = bt y i) : x = y := Int32.toBitVec_inj.mp (BitVec.eq_of_getLsbD_eq (fun i hi => h i hi))
theorem b_or (x y : Int32) (i : Nat) : bt (x ||| y) i = (bt x i || bt y i) := by unfold bt; rw [Int32.toBitVec_or, BitVec.getLsbD_or]
theorem b_and (x y : Int32) (i : Nat) : bt (x &&& y) i = (bt x i && bt y i) := by unfold bt; rw [Int32.toBitVec_and, BitVec.getLsbD_and]
theorem b_xor (x y : Int32) (i : Nat) : bt (x ^^^ y) i = (bt x i ^^ bt y i) := by unfold bt; rw [Int32.toBitVec_xor, BitVec.getLsbD_xor]
theorem b_big {x : Int32} {i : Nat} (h : 32 ≤ i) : bt x i = false := BitVec.getLsbD_of_ge _ _ h
theorem b_255 (i : Nat) : bt 255 i = decide (i < 8) := by
  rcases Nat.lt_or_ge i 32 with h | h
  · exact (by decide +kernel : ∀ i, i < 32 → bt 255 i = decide (i < 8)) i h
  · rw [b_big h, decide_eq_false (by omega)]
theorem b_65535 (i : Nat) : bt 65535 i = decide (i < 16) := by
  rcases Nat.lt_or_ge i 32 with h | h
  · exact (by decide +kernel : ∀ i, i < 32 → bt 65535 i = decide (i < 16)) i h
  · rw [b_big h, decide_eq_false (by omega)]
theorem b_m1 : ∀ i, i < 32 → bt (-1) i = true := by decide +kernel
theorem b_0 (i : Nat) : bt 0 i = false := BitVec.getLsbD_zero
theorem s_l : ∀ n, n < 32 → ((nI n &&& 31).toBitVec.smod 32).toNat = n := by decide +kernel
theorem s_u : ∀ n, n < 32 → (((nI n).toUInt32 &&& Int32.toUInt32 31).toBitVec % 32).toNat = n := by decide +kernel
theorem b_shl (n : Nat) (hn : n < 32) (x : Int32) {i : Nat} (hi : i < 32) : bt (x <<< (nI n &&& 31)) i = (decide (n ≤ i) && bt x (i - n)) := by
  unfold bt
  rw [Int32.toBitVec_shiftLeft]
  show (x.toBitVec <<< ((nI n &&& 31).toBitVec.smod 32).toNat).getLsbD i = _
  rw [s_l n hn, BitVec.getLsbD_shiftLeft]
  rcases Nat.lt_or_ge i n with h | h
  · simp [h, Nat.not_le.mpr h]
  · simp [hi, h, Nat.not_lt.mpr h]
theorem b_ushr (n : Nat) (hn : n < 32) (x : Int32) (i : Nat) : bt ((x.toUInt32 >>> ((nI n).toUInt32 &&& Int32.toUInt32 31)).toInt32) i = bt x (n + i) := by
  show (x.toUInt32 >>> ((nI n).toUInt32 &&& Int32.toUInt32 31)).toBitVec.getLsbD i = x.toUInt32.toBitVec.getLsbD (n + i)
  rw [UInt32.toBitVec_shiftRight]
  show (x.toUInt32.toBitVec >>> (((nI n).toUInt32 &&& Int32.toUInt32 31).toBitVec % 32).toNat).getLsbD i = _
  rw [s_u n hn, BitVec.getLsbD_ushiftRight]
theorem b_sshr (n : Nat) (hn : n < 32) (x : Int32) {i : Nat} (hi : i < 32) : bt (x >>> (nI n &&& 31)) i = if n + i < 32 then bt x (n + i) else bt x 31 := by
  unfold bt
  rw [Int32.toBitVec_shiftRight]
  show (x.toBitVec.sshiftRight ((nI n &&& 31).toBitVec.smod 32).toNat).getLsbD i = _
  rw [s_l n hn, BitVec.getLsbD_sshiftRight, BitVec.msb_eq_getLsbD_last]
  simp [hi]
theorem b_shl8 (x : Int32) {i : Nat} (hi : i < 32) : bt (x <<< ((8 : Int32) &&& 31)) i = (decide (8 ≤ i) && bt x (i - 8)) := b_shl 8 (by omega) x hi
theorem b_shl16 (x : Int32) {i : Nat} (hi : i < 32) : bt (x <<< ((16 : Int32) &&& 31)) i = (decide (16 ≤ i) && bt x (i - 16)) := b_shl 16 (by omega) x hi
theorem b_shl24 (x : Int32) {i : Nat} (hi : i < 32) : bt (x <<< ((24 : Int32) &&& 31)) i = (decide (24 ≤ i) && bt x (i - 24)) := b_shl 24 (by omega) x hi
theorem b_sshr8 (x : Int32) {i : Nat} (hi : i < 32) : bt (x >>> ((8 : Int32) &&& 31)) i = if 8 + i < 32 then bt x (8 + i) else bt x 31 := b_sshr 8 (by omega) x hi
end
section
/-! bits, booleans as ints, counts -/
theorem lz_notb (x : Int32) {i : Nat} (hi : i < 32) : bt (x ^^^ (-1)) i = !bt x i := by
  rw [b_xor, b_m1 i hi]; cases bt x i <;> rfl
theorem lz_bt1 : ∀ i, i < 32 → bt 1 i = decide (i = 0) := by decide +kernel
theorem lz_one {e : Nat} (he : e < 32) {i : Nat} (hi : i < 32) : bt ((1 : Int32) <<< (nI e &&& 31)) i = decide (i = e) := by
  rw [b_shl e he 1 hi]
  by_cases h : e ≤ i
  · rw [lz_bt1 (i - e) (by omega)]
    by_cases h2 : i = e
    · subst h2; simp
    · rw [decide_eq_true h, decide_eq_false (by omega : ¬ i - e = 0), decide_eq_false h2]; rfl
  · rw [decide_eq_false h, decide_eq_false (by omega : ¬ i = e)]; rfl
theorem lz_test {x : Int32} {e : Nat} (he : e < 32) : (x &&& ((1 : Int32) <<< (nI e &&& 31))) = 0 ↔ bt x e = false := by
  constructor
  · intro h
    have h2 : bt (x &&& ((1 : Int32) <<< (nI e &&& 31))) e = false := by rw [h, b_0]
    rw [b_and, lz_one he he, decide_eq_true rfl, Bool.and_true] at h2
    exact h2
  · intro h
    apply b_ext
    intro i hi
    rw [b_and, lz_one he hi, b_0]
    by_cases h2 : i = e
    · subst h2; rw [h]; rfl
    · rw [decide_eq_false h2, Bool.and_false]
theorem lz_bitOf (x : Int32) {e : Nat} (he : e < 32) : ((x.toUInt32 >>> ((nI e).toUInt32 &&& Int32.toUInt32 31)).toInt32 &&& 1) = if bt x e = true then 1 else 0 := by
  apply b_ext
  intro i hi
  rw [b_and, b_ushr e he, lz_bt1 i hi]
  by_cases h : i = 0
  · subst h
    rw [Nat.add_zero, decide_eq_true rfl, Bool.and_true]
    by_cases h2 : bt x e = true
    · rw [if_pos h2, h2, lz_bt1 0 (by omega), decide_eq_true rfl]
    · rw [if_neg h2, b_0]
      exact Bool.eq_false_iff.mpr h2
  · rw [decide_eq_false h, Bool.and_false]
    by_cases h2 : bt x e = true
    · rw [if_pos h2, lz_bt1 i hi, decide_eq_false h]
    · rw [if_neg h2, b_0]
theorem lz_all : ∀ m, m < 26 → ∀ i, i < 32 → bt (((1 : Int32) <<< (nI m &&& 31)) - 1) i = decide (i < m) := by decide +kernel
theorem lz_isall {x : Int32} {n : Nat} (hn : n ≤ 24) (hx : ∀ i, i < 32 → bt x i = true → i < n) : x = (((1 : Int32) <<< (nI n &&& 31)) - 1) ↔ ∀ i, i < n → bt x i = true := by
  constructor
  · intro h i hi
    rw [h, lz_all n (by omega) i (by omega), decide_eq_true hi]
  · intro h
    apply b_ext
    intro i hi
    rw [lz_all n (by omega) i hi]
    by_cases h2 : i < n
    · rw [h i h2, decide_eq_true h2]
    · rw [decide_eq_false h2]
      exact Bool.eq_false_iff.mpr (fun z => h2 (hx i hi z))
noncomputable def lz_b (P : Prop) : Int32 := @ite Int32 P (Classical.propDecidable P) 1 0
theorem lz_b_t {P : Prop} (h : P) : lz_b P = 1 := by unfold lz_b; rw [if_pos h]
theorem lz_b_f {P : Prop} (h : ¬ P) : lz_b P = 0 := by unfold lz_b; rw [if_neg h]
theorem lz_b_0 {P : Prop} : lz_b P = 0 ↔ ¬ P := by
  rcases Classical.em P with h | h
  · rw [lz_b_t h]; exact ⟨fun z => absurd z (by decide), fun z => absurd h z⟩
  · rw [lz_b_f h]; exact ⟨fun _ => h, fun _ => rfl⟩
theorem lz_b_eq {P Q : Prop} (h : P ↔ Q) : lz_b P = lz_b Q := by rw [propext h]
theorem lz_b_nar (P : Prop) : narrow .boolean (.int (lz_b P)) = .int (lz_b P) := by
  rcases Classical.em P with h | h
  · rw [lz_b_t h]; rfl
  · rw [lz_b_f h]; rfl
theorem lz_b_bit {x : Int32} {e : Nat} {P : Prop} (h : bt x e = true ↔ P) : (if bt x e = true then (1 : Int32) else 0) = lz_b P := by
  by_cases z : bt x e = true
  · rw [if_pos z, lz_b_t (h.mp z)]
  · rw [if_neg z, lz_b_f (fun y => z (h.mpr y))]
theorem lz_n1 : vp_nar .boolean 1 = 1 := rfl
theorem lz_n0 : vp_nar .boolean 0 = 0 := rfl
noncomputable def lz_c (P : Prop) : Nat := @ite Nat P (Classical.propDecidable P) 1 0
theorem lz_c_t {P : Prop} (h : P) : lz_c P = 1 := by unfold lz_c; rw [if_pos h]
theorem lz_c_f {P : Prop} (h : ¬ P) : lz_c P = 0 := by unfold lz_c; rw [if_neg h]
theorem lz_c_le (P : Prop) : lz_c P ≤ 1 := by
  rcases Classical.em P with h | h
  · rw [lz_c_t h]; omega
  · rw [lz_c_f h]; omega
theorem lz_c_mono {P Q : Prop} (h : P → Q) : lz_c P ≤ lz_c Q := by
  rcases Classical.em P with hp | hp
  · rw [lz_c_t hp, lz_c_t (h hp)]; omega
  · rw [lz_c_f hp]; omega
noncomputable def lz_cn (P : Nat → Prop) : Nat → Nat
  | 0 => 0
  | k + 1 => lz_cn P k + lz_c (P k)
theorem lz_cn_mono {P Q : Nat → Prop} : ∀ {N : Nat}, (∀ k, k < N → P k → Q k) → lz_cn P N ≤ lz_cn Q N
  | 0, _ => Nat.le_refl _
  | N + 1, h => by
    have a := lz_cn_mono (P := P) (Q := Q) (N := N) (fun k hk => h k (by omega))
    have b := lz_c_mono (h N (by omega))
    simp only [lz_cn]; omega
theorem lz_cn_lt {P Q : Nat → Prop} {a : Nat} (hp : ¬ P a) (hq : Q a) : ∀ {N : Nat}, (∀ k, k < N → P k → Q k) → a < N → lz_cn P N < lz_cn Q N
  | 0, _, h => by omega
  | N + 1, h, ha => by
    simp only [lz_cn]
    rcases Nat.lt_or_ge a N with z | z
    · have x := lz_cn_lt hp hq (N := N) (fun k hk => h k (by omega)) z
      have b := lz_c_mono (h N (by omega))
      omega
    · have e : a = N := by omega
      subst e
      have x := lz_cn_mono (P := P) (Q := Q) (N := a) (fun k hk => h k (by omega))
      rw [lz_c_t hq, lz_c_f hp]; omega
theorem lz_cn_le (P : Nat → Prop) : ∀ N, lz_cn P N ≤ N
  | 0 => Nat.le_refl _
  | N + 1 => by have := lz_cn_le P N; have := lz_c_le (P N); simp only [lz_cn]; omega
theorem lz_cn_pos {P : Nat → Prop} {a : Nat} (h : P a) : ∀ {N : Nat}, a < N → 1 ≤ lz_cn P N
  | 0, h => by omega
  | N + 1, ha => by
    simp only [lz_cn]
    rcases Nat.lt_or_ge a N with z | z
    · have := lz_cn_pos h z; omega
    · have e : a = N := by omega
      subst e
      rw [lz_c_t h]; omega
end
section
/-! least sets over a graph; the reference's path sets against the component's greatest solutions -/
def lz_R (E : Nat → Nat → Prop) (C : Nat → Prop) (a n : Nat) : Prop := ∀ S : Nat → Prop, (¬ C a → S a) → (∀ i j, S i → E i j → ¬ C j → S j) → S n
def lz_NA (E : Nat → Nat → Prop) (C B : Nat → Prop) (n : Nat) : Prop := ∀ S : Nat → Prop, (∀ i, ¬ C i → B i → S i) → (∀ i j, ¬ C i → E i j → S j → S i) → S n
def lz_NV (E : Nat → Nat → Prop) (C H : Nat → Prop) (n : Nat) : Prop := ∀ S : Nat → Prop, S 0 → (∀ i j, E i j → (H i ∨ (¬ C i ∧ S i)) → S j) → S n
def lz_First (E : Nat → Nat → Prop) (C H NA NV : Nat → Prop) (m t : Nat) : Prop := ¬ NA t ∧ ¬ (¬ H m ∧ (C m ∨ ¬ NV m)) ∧ (H m ∨ ∃ j, E m j ∧ NA j)
def lz_NW (E : Nat → Nat → Prop) (C : Nat → Prop) (P0 : Prop) (F : Nat → Nat → Prop) (n : Nat) : Prop := ∀ S : Nat → Prop, (P0 → S 0) → (∀ i j, E i j → ¬ F i j → (C i ∨ S i) → S j) → S n
def lz_F (E : Nat → Nat → Prop) (G : Prop → Nat → Nat → Prop) (k k' : Nat) : Prop := ∃ t, E (k / 2) t ∧ ((k' = 2 * t + 1 ∧ G (k % 2 = 1) (k / 2) t) ∨ (k' = 2 * t ∧ ¬ G (k % 2 = 1) (k / 2) t))
def lz_no : Nat → Prop := fun _ => False
section
variable {E : Nat → Nat → Prop} {C H B : Nat → Prop} {P0 : Prop} {F1 : Nat → Nat → Prop} {G : Prop → Nat → Nat → Prop}
theorem lz_R0 {a : Nat} (h : ¬ C a) : lz_R E C a a := fun _ h0 _ => h0 h
theorem lz_Rs {a i j : Nat} (h : lz_R E C a i) (he : E i j) (hj : ¬ C j) : lz_R E C a j := fun S h0 hs => hs i j (h S h0 hs) he hj
theorem lz_NA0 {i : Nat} (hc : ¬ C i) (hb : B i) : lz_NA E C B i := fun _ h0 _ => h0 i hc hb
theorem lz_NAs {i j : Nat} (hc : ¬ C i) (he : E i j) (h : lz_NA E C B j) : lz_NA E C B i := fun S h0 hs => hs i j hc he (h S h0 hs)
theorem lz_NV0 : lz_NV E C H 0 := fun _ h0 _ => h0
theorem lz_NVs {i j : Nat} (he : E i j) (h : H i ∨ (¬ C i ∧ lz_NV E C H i)) : lz_NV E C H j := fun S h0 hs => hs i j he (h.elim Or.inl (fun z => Or.inr ⟨z.1, z.2 S h0 hs⟩))
theorem lz_NW0 (h : P0) : lz_NW E C P0 F1 0 := fun _ h0 _ => h0 h
theorem lz_NWs {i j : Nat} (he : E i j) (hf : ¬ F1 i j) (h : C i ∨ lz_NW E C P0 F1 i) : lz_NW E C P0 F1 j := fun S h0 hs => hs i j he hf (h.elim Or.inl (fun z => Or.inr (z S h0 hs)))
theorem lz_NA_R {n : Nat} : lz_NA E C B n ↔ ∃ m, lz_R E C n m ∧ B m := by
  constructor
  · intro h
    refine h (fun n => ∃ m, lz_R E C n m ∧ B m) (fun i hc hb => ⟨i, lz_R0 hc, hb⟩) ?_
    rintro i j hc he ⟨m, hR, hb⟩
    exact ⟨m, fun S h0 hs => hR S (fun hcj => hs i j (h0 hc) he hcj) hs, hb⟩
  · rintro ⟨m, hR, hb⟩
    have h := hR (fun m => ¬ C m ∧ (lz_NA E C B m → lz_NA E C B n)) (fun hc => ⟨hc, id⟩) (fun i j hi he hcj => ⟨hcj, fun z => hi.2 (lz_NAs hi.1 he z)⟩)
    exact h.2 (lz_NA0 h.1 hb)
theorem lz_no' (i : Nat) : ¬ lz_no i := id
/-- every node that a path from 0 reaches is reached in the doubled graph, with some fact -/
theorem lz_dbl {st i : Nat} (hst : st / 2 = 0) (h : lz_R E lz_no 0 i) : ∃ k, k / 2 = i ∧ lz_R (lz_F E G) lz_no st k := by
  refine h (fun i => ∃ k, k / 2 = i ∧ lz_R (lz_F E G) lz_no st k) (fun _ => ⟨st, hst, lz_R0 (lz_no' _)⟩) ?_
  rintro i j ⟨k, rfl, hk⟩ he -
  rcases Classical.em (G (k % 2 = 1) (k / 2) j) with g | g
  · exact ⟨2 * j + 1, by omega, lz_Rs hk ⟨j, he, Or.inl ⟨rfl, g⟩⟩ (lz_no' _)⟩
  · exact ⟨2 * j, by omega, lz_Rs hk ⟨j, he, Or.inr ⟨rfl, g⟩⟩ (lz_no' _)⟩
theorem lz_NV_F {n : Nat} (hr : ∀ i j, E i j → lz_R E lz_no 0 i) : lz_NV E C H n ↔ lz_R (lz_F E (fun f m _ => (f ∨ C m) ∧ ¬ H m)) lz_no 0 (2 * n) := by
  constructor
  · intro h
    refine h (fun n => lz_R (lz_F E (fun f m _ => (f ∨ C m) ∧ ¬ H m)) lz_no 0 (2 * n)) (lz_R0 (lz_no' _)) ?_
    rintro i j he (hH | ⟨hC, hS⟩)
    · obtain ⟨k, rfl, hk⟩ := lz_dbl (G := fun f m _ => (f ∨ C m) ∧ ¬ H m) (st := 0) rfl (hr i j he)
      exact lz_Rs hk ⟨j, he, Or.inr ⟨rfl, fun z => z.2 hH⟩⟩ (lz_no' _)
    · refine lz_Rs hS ⟨j, ?_, Or.inr ⟨rfl, ?_⟩⟩ (lz_no' _)
      · rw [show 2 * i / 2 = i from by omega]; exact he
      · rw [show 2 * i / 2 = i from by omega]
        rintro ⟨z | z, -⟩
        · omega
        · exact hC z
  · intro h
    have k := h (fun k => k % 2 = 0 → lz_NV E C H (k / 2)) (fun _ _ => lz_NV0) ?_
    · have := k (by omega)
      rwa [show 2 * n / 2 = n from by omega] at this
    · rintro k k' hk ⟨t, he, ⟨rfl, g⟩ | ⟨rfl, g⟩⟩ - hev
      · omega
      · rw [show 2 * t / 2 = t from by omega]
        rcases Classical.em (H (k / 2)) with hH | hH
        · exact lz_NVs he (Or.inl hH)
        · have g2 : ¬ (k % 2 = 1 ∨ C (k / 2)) := fun z => g ⟨z, hH⟩
          exact lz_NVs he (Or.inr ⟨fun z => g2 (Or.inr z), hk (by have q : ¬ k % 2 = 1 := fun z => g2 (Or.inl z); omega)⟩)
theorem lz_NW_F {n st : Nat} (hr : ∀ i j, E i j → lz_R E lz_no 0 i) (h0 : P0 → st = 0) (h1 : ¬ P0 → st = 1) : lz_NW E C P0 F1 n ↔ lz_R (lz_F E (fun f m t => (f ∧ ¬ C m) ∨ F1 m t)) lz_no st (2 * n) := by
  have hst : st / 2 = 0 := by
    rcases Classical.em P0 with z | z
    · rw [h0 z]
    · rw [h1 z]
  constructor
  · intro h
    refine h (fun n => lz_R (lz_F E (fun f m t => (f ∧ ¬ C m) ∨ F1 m t)) lz_no st (2 * n)) (fun z => ?_) ?_
    · rw [h0 z]; exact lz_R0 (lz_no' _)
    rintro i j he hF (hC | hS)
    · obtain ⟨k, rfl, hk⟩ := lz_dbl (G := fun f m t => (f ∧ ¬ C m) ∨ F1 m t) hst (hr i j he)
      exact lz_Rs hk ⟨j, he, Or.inr ⟨rfl, fun z => z.elim (fun y => y.2 hC) hF⟩⟩ (lz_no' _)
    · refine lz_Rs hS ⟨j, ?_, Or.inr ⟨rfl, ?_⟩⟩ (lz_no' _)
      · rw [show 2 * i / 2 = i from by omega]; exact he
      · rw [show 2 * i / 2 = i from by omega]
        rintro (⟨z, -⟩ | z)
        · omega
        · exact hF z
  · intro h
    have k := h (fun k => k % 2 = 0 → lz_NW E C P0 F1 (k / 2)) (fun _ => ?_) ?_
    · have := k (by omega)
      rwa [show 2 * n / 2 = n from by omega] at this
    · intro hev
      rcases Classical.em P0 with z | z
      · rw [h0 z]; exact lz_NW0 z
      · rw [h1 z] at hev; omega
    · rintro k k' hk ⟨t, he, ⟨rfl, g⟩ | ⟨rfl, g⟩⟩ - hev
      · omega
      · rw [show 2 * t / 2 = t from by omega]
        have hF : ¬ F1 (k / 2) t := fun z => g (Or.inr z)
        rcases Classical.em (C (k / 2)) with hC | hC
        · exact lz_NWs he hF (Or.inl hC)
        · exact lz_NWs he hF (Or.inr (hk (by have q : ¬ k % 2 = 1 := fun z => g (Or.inl ⟨z, hC⟩); omega)))
end
/-! the growing of a set of marks, round by round -/
def lz_mk (A : Nat → Int32) (k : Nat) : Prop := ¬ A k = 0
def lz_GI (N : Nat) (R : Nat → Prop) (A0 A : Nat → Int32) (fl : Int32) : Prop :=
  (∀ k, k < N → lz_mk A0 k → lz_mk A k) ∧ (∀ k, k < N → lz_mk A k → R k) ∧ (fl = 0 → ∀ k, k < N → lz_mk A k → lz_mk A0 k) ∧ (¬ fl = 0 → lz_cn (lz_mk A0) N < lz_cn (lz_mk A) N)
theorem lz_GI_0 {N : Nat} {R : Nat → Prop} {A : Nat → Int32} (h : ∀ k, k < N → lz_mk A k → R k) : lz_GI N R A A 0 := ⟨fun _ _ => id, h, fun _ _ _ => id, fun z => absurd rfl z⟩
theorem lz_GI_s {N : Nat} {R : Nat → Prop} {A0 A : Nat → Int32} {fl : Int32} {t : Nat} (h : lz_GI N R A0 A fl) (ht : t < N) (h0 : A t = 0) (hR : R t) : lz_GI N R A0 (upd A t 1) 1 ∧ ∀ k, k < N → lz_mk A k → lz_mk (upd A t 1) k := by
  have hm : ∀ k, k < N → lz_mk A k → lz_mk (upd A t 1) k := by
    intro k _ hk
    unfold lz_mk
    by_cases z : k = t
    · subst z; exact absurd h0 hk
    · rw [pk_un z]; exact hk
  have ht1 : lz_mk (upd A t 1) t := by unfold lz_mk; rw [pk_us]; decide
  refine ⟨⟨fun k hk z => hm k hk (h.1 k hk z), ?_, fun z => absurd z (by decide), fun _ => ?_⟩, hm⟩
  · intro k hk z
    by_cases e : k = t
    · subst e; exact hR
    · unfold lz_mk at z; rw [pk_un e] at z; exact h.2.1 k hk z
  · have a1 := lz_cn_mono (P := lz_mk A0) (Q := lz_mk A) (N := N) h.1
    have a2 := lz_cn_lt (P := lz_mk A) (Q := lz_mk (upd A t 1)) (a := t) (fun z => z h0) ht1 (N := N) hm ht
    omega
/-- between rounds: r rounds are done -/
def lz_GO (N : Nat) (R : Nat → Prop) (c r : Nat) (fl : Int32) (A : Nat → Int32) : Prop :=
  (∀ k, k < N → lz_mk A k → R k) ∧ (fl = 0 → ∀ k, k < N → R k → lz_mk A k) ∧ ((∀ k, k < N → R k → lz_mk A k) ∨ r + c ≤ lz_cn (lz_mk A) N)
theorem lz_GO_s {N : Nat} {R : Nat → Prop} {c r : Nat} {fl0 fl : Int32} {A0 A : Nat → Int32} (h : lz_GO N R c r fl0 A0) (g : lz_GI N R A0 A fl) (hd : (∀ k, k < N → lz_mk A k → lz_mk A0 k) → ∀ k, k < N → R k → lz_mk A k) : lz_GO N R c (r + 1) fl A := by
  refine ⟨g.2.1, fun z => hd (g.2.2.1 z), ?_⟩
  rcases h.2.2 with z | z
  · exact Or.inl fun k hk hR => g.1 k hk (z k hk hR)
  · by_cases e : fl = 0
    · exact Or.inl (hd (g.2.2.1 e))
    · have := g.2.2.2 e
      exact Or.inr (by omega)
theorem lz_GO_end {N : Nat} {R : Nat → Prop} {c r : Nat} {fl : Int32} {A : Nat → Int32} (h : lz_GO N R c r fl A) (hr : N < r + c ∨ fl = 0) : ∀ k, k < N → (lz_mk A k ↔ R k) := by
  refine fun k hk => ⟨h.1 k hk, ?_⟩
  rcases hr with z | z
  · rcases h.2.2 with y | y
    · exact y k hk
    · have := lz_cn_le (lz_mk A) N
      omega
  · exact h.2.1 z k hk
/-! the clearing of bits, round by round: Z A e i: the bit e of A i is cleared; L: the least set of what must be cleared -/
def lz_Z (A : Nat → Int32) (e i : Nat) : Prop := bt (A i) e = false
def lz_Inv (n m : Nat) (L : Nat → Nat → Prop) (A0 A : Nat → Int32) (fl : Int32) (done : Nat → Prop) : Prop :=
  (∀ e i, e < m → i < n → lz_Z A0 e i → lz_Z A e i) ∧ (∀ e i, e < m → i < n → lz_Z A e i → L e i) ∧ (fl = 0 → A = A0) ∧
  (∀ e, e < m → (∃ i, i < n ∧ ¬ lz_Z A0 e i ∧ lz_Z A e i) ∨ ((∀ i, i < n → (lz_Z A e i ↔ lz_Z A0 e i)) ∧ done e))
theorem lz_Inv_0 {n m : Nat} {L : Nat → Nat → Prop} {A : Nat → Int32} {done : Nat → Prop} (h : ∀ e i, e < m → i < n → lz_Z A e i → L e i) (hd : ∀ e, e < m → done e) : lz_Inv n m L A A 0 done :=
  ⟨fun _ _ _ _ => id, h, fun _ => rfl, fun e he => Or.inr ⟨fun _ _ => Iff.rfl, hd e he⟩⟩
theorem lz_Z_us {A : Nat → Int32} {t e : Nat} {v : Int32} : lz_Z (upd A t v) e t ↔ bt v e = false := by unfold lz_Z; rw [pk_us]
theorem lz_Z_un {A : Nat → Int32} {t e i : Nat} {v : Int32} (h : i ≠ t) : lz_Z (upd A t v) e i ↔ lz_Z A e i := by unfold lz_Z; rw [pk_un h]
theorem lz_Inv_w {n m : Nat} {L : Nat → Nat → Prop} {A0 A : Nat → Int32} {fl : Int32} {done done' : Nat → Prop} (h : lz_Inv n m L A0 A fl done) (hd : ∀ e, e < m → done e → done' e) : lz_Inv n m L A0 A fl done' :=
  ⟨h.1, h.2.1, h.2.2.1, fun e he => (h.2.2.2 e he).imp id (fun z => ⟨z.1, hd e he z.2⟩)⟩
/-- one step that finds nothing new -/
theorem lz_Inv_k {n m : Nat} {L : Nat → Nat → Prop} {A0 A : Nat → Int32} {fl : Int32} {done done' : Nat → Prop} {t : Nat} {v : Int32} (h : lz_Inv n m L A0 A fl done) (ht : t < n) (hv : v = A t)
    (hd : ∀ e, e < m → done e → (∀ i, i < n → (lz_Z A e i ↔ lz_Z A0 e i)) → (bt v e = false → lz_Z A0 e t) → done' e) : lz_Inv n m L A0 A fl done' :=
  ⟨h.1, h.2.1, h.2.2.1, fun e he => (h.2.2.2 e he).imp id (fun z => ⟨z.1, hd e he z.2 z.1 (fun y => (z.1 t ht).mp (by unfold lz_Z; rw [← hv]; exact y))⟩)⟩
/-- one step that stores -/
theorem lz_Inv_s {n m : Nat} {L : Nat → Nat → Prop} {A0 A : Nat → Int32} {fl : Int32} {done done' : Nat → Prop} {t : Nat} {v : Int32} (h : lz_Inv n m L A0 A fl done) (ht : t < n)
    (hmo : ∀ e, e < m → lz_Z A e t → bt v e = false) (hso : ∀ e, e < m → bt v e = false → L e t)
    (hd : ∀ e, e < m → done e → (∀ i, i < n → (lz_Z A e i ↔ lz_Z A0 e i)) → (bt v e = false → lz_Z A0 e t) → done' e) : lz_Inv n m L A0 (upd A t v) 1 done' := by
  have mono : ∀ e i, e < m → i < n → lz_Z A e i → lz_Z (upd A t v) e i := by
    intro e i he hi z
    by_cases c : i = t
    · subst c; exact lz_Z_us.mpr (hmo e he z)
    · exact (lz_Z_un c).mpr z
  refine ⟨fun e i he hi z => mono e i he hi (h.1 e i he hi z), ?_, fun z => absurd z (by decide), ?_⟩
  · intro e i he hi z
    by_cases c : i = t
    · subst c; exact hso e he (lz_Z_us.mp z)
    · exact h.2.1 e i he hi ((lz_Z_un c).mp z)
  · intro e he
    rcases h.2.2.2 e he with ⟨i, hi, a, b⟩ | ⟨a, b⟩
    · exact Or.inl ⟨i, hi, a, mono e i he hi b⟩
    · by_cases c : bt v e = false ∧ ¬ lz_Z A0 e t
      · exact Or.inl ⟨t, ht, c.2, lz_Z_us.mpr c.1⟩
      · have c2 : bt v e = false → lz_Z A0 e t := fun z => Classical.byContradiction fun y => c ⟨z, y⟩
        refine Or.inr ⟨fun i hi => ?_, hd e he b a c2⟩
        by_cases d : i = t
        · subst d; exact ⟨fun z => c2 (lz_Z_us.mp z), fun z => mono e i he hi ((a i hi).mpr z)⟩
        · exact (lz_Z_un d).trans (a i hi)
def lz_Out (n m : Nat) (L : Nat → Nat → Prop) (r : Nat) (fl : Int32) (A : Nat → Int32) : Prop :=
  (∀ e i, e < m → i < n → lz_Z A e i → L e i) ∧ (fl = 0 → ∀ e i, e < m → i < n → L e i → lz_Z A e i) ∧ (∀ e, e < m → (∀ i, i < n → L e i → lz_Z A e i) ∨ r ≤ lz_cn (lz_Z A e) n)
theorem lz_Out_0 {n m : Nat} {L : Nat → Nat → Prop} {A : Nat → Int32} (h : ∀ e i, e < m → i < n → lz_Z A e i → L e i) : lz_Out n m L 0 1 A :=
  ⟨h, fun z => absurd z (by decide), fun _ _ => Or.inr (Nat.zero_le _)⟩
theorem lz_Out_s {n m : Nat} {L : Nat → Nat → Prop} {r : Nat} {fl0 fl : Int32} {A0 A : Nat → Int32} {done : Nat → Prop} (h : lz_Out n m L r fl0 A0) (g : lz_Inv n m L A0 A fl done) (hd : ∀ e, e < m → done e → ∀ i, i < n → L e i → lz_Z A0 e i) : lz_Out n m L (r + 1) fl A := by
  refine ⟨g.2.1, ?_, ?_⟩
  · intro z e i he hi hL
    rcases g.2.2.2 e he with ⟨j, -, a, b⟩ | ⟨a, b⟩
    · rw [g.2.2.1 z] at b; exact absurd b a
    · exact (a i hi).mpr (hd e he b i hi hL)
  · intro e he
    rcases h.2.2 e he with z | z
    · exact Or.inl fun i hi hL => g.1 e i he hi (z i hi hL)
    · rcases g.2.2.2 e he with ⟨j, hj, a, b⟩ | ⟨a, b⟩
      · have := lz_cn_lt (P := lz_Z A0 e) (Q := lz_Z A e) (a := j) a b (N := n) (fun k hk y => g.1 e k he hk y) hj
        exact Or.inr (by omega)
      · exact Or.inl fun i hi hL => (a i hi).mpr (hd e he b i hi hL)
theorem lz_Out_end {n m : Nat} {L : Nat → Nat → Prop} {r : Nat} {fl : Int32} {A : Nat → Int32} (h : lz_Out n m L r fl A) (hr : n < r ∨ fl = 0) : ∀ e i, e < m → i < n → (lz_Z A e i ↔ L e i) := by
  refine fun e i he hi => ⟨h.1 e i he hi, ?_⟩
  rcases hr with z | z
  · rcases h.2.2 e he with y | y
    · exact y i hi
    · have := lz_cn_le (lz_Z A e) n
      omega
  · exact h.2.1 z e i he hi
end
section
/-! the graph that both sides hold; small methods -/
def lz_sl (kd : Nat → Int32) (i : Nat) : Nat := if kd i = 6 then 0 else if kd i = 5 then 2 else 1
def lz_tg (s0 s1 : Nat → Int32) (i s : Nat) : Int32 := if s = 0 then s0 i else s1 i
def lz_nx (s0 s1 : Nat → Int32) (i s : Nat) : Nat := (lz_tg s0 s1 i s).toNatClampNeg
def lz_E (n : Nat) (kd s0 s1 : Nat → Int32) (i j : Nat) : Prop := i < n ∧ ∃ s, s < lz_sl kd i ∧ lz_nx s0 s1 i s = j
def lz_C (kd ay : Nat → Int32) (e : Int32) (i : Nat) : Prop := kd i = 3 ∧ ay i = e
def lz_H (kd ax ea eb : Nat → Int32) (e i : Nat) : Prop := (kd i = 1 ∨ kd i = 2 ∨ kd i = 3) ∧ (ax i = ea e ∨ ax i = eb e)
def lz_TG (n : Nat) (kd s0 s1 : Nat → Int32) : Prop := ∀ i s, i < n → s < lz_sl kd i → lz_tg s0 s1 i s = nI (lz_nx s0 s1 i s) ∧ lz_nx s0 s1 i s < n
def lz_in (v : Int32) (n : Nat) : Prop := ∃ j, j < n ∧ v = nI j
theorem lz_sl2 (kd : Nat → Int32) (i : Nat) : lz_sl kd i ≤ 2 := by
  unfold lz_sl
  split
  · omega
  · split <;> omega
theorem lz_br {P A B : Prop} (a : ¬ P → A) (b : P → B) : (lz_b P = 0 → A) ∧ (¬ lz_b P = 0 → B) := ⟨fun h => a (lz_b_0.mp h), fun h => b (Classical.byContradiction fun z => h (lz_b_0.mpr z))⟩
theorem lz_rng {post : Int32 → Prop} {v : Int32} {n : Nat} (hn : n < 2 ^ 31) (h : post (lz_b (lz_in v n))) : (v < 0 → post 0) ∧ (¬ v < 0 → ((nI n ≤ v → post 0) ∧ (¬ nI n ≤ v → post 1))) := by
  rcases pk_ix v hn with h1 | h1 | ⟨j, hj, rfl⟩
  · have z : ¬ lz_in v n := by
      rintro ⟨j, hj, rfl⟩
      exact nI_pos (by omega) h1
    rw [lz_b_f z] at h
    exact br_t h1 h
  · have z : ¬ lz_in v n := by
      rintro ⟨j, hj, rfl⟩
      exact nI_ge hj hn h1
    rw [lz_b_f z] at h
    by_cases h0 : v < 0
    · exact br_t h0 h
    · exact br_f h0 (br_t h1 h)
  · have z : lz_in (nI j) n := ⟨j, hj, rfl⟩
    rw [lz_b_t z] at h
    exact br_f (nI_pos (by omega)) (br_f (nI_ge hj hn) h)
theorem lz_run {post : Int32 → Prop} {st : Int32} (h : post (lz_b (st = 2 ∨ st = 3))) : (st = 2 → post 1) ∧ (¬ st = 2 → ((st = 3 → post 1) ∧ (¬ st = 3 → post 0))) := by
  by_cases h2 : st = 2
  · rw [lz_b_t (Or.inl h2)] at h; exact br_t h2 h
  · by_cases h3 : st = 3
    · rw [lz_b_t (Or.inr h3)] at h; exact br_f h2 (br_t h3 h)
    · rw [lz_b_f (fun z => z.elim h2 h3)] at h; exact br_f h2 (br_f h3 h)
section
variable {nl vl el tl st nt et fe pe vt oo mo : Int32} {kd ax ay s0 s1 eo ea eb pr cm ch an av wt f0 f1 p0 p1 wk ov mv os ms oe me tp lt cs : Nat → Int32}
variable {post : Int32 → Prop} {v : Int32} {n i s : Nat}
theorem xg_isNode (hn : n < 2 ^ 31) (h : post (lz_b (lz_in v n))) : wpX_isNode post (nl, vl, el, tl, st, nI n, et, fe, pe, vt, oo, mo, kd, ax, ay, s0, s1, eo, ea, eb, pr, cm, ch, an, av, wt, f0, f1, p0, p1, wk, ov, mv, os, ms, oe, me, tp, lt, cs) v := lz_rng hn h
theorem xg_isVariable (hn : n < 2 ^ 31) (h : post (lz_b (lz_in v n))) : wpX_isVariable post (nl, nI n, el, tl, st, nt, et, fe, pe, vt, oo, mo, kd, ax, ay, s0, s1, eo, ea, eb, pr, cm, ch, an, av, wt, f0, f1, p0, p1, wk, ov, mv, os, ms, oe, me, tp, lt, cs) v := lz_rng hn h
theorem xg_isExpr (hn : n < 2 ^ 31) (h : post (lz_b (lz_in v n))) : wpX_isExpr post (nl, vl, el, tl, st, nt, nI n, fe, pe, vt, oo, mo, kd, ax, ay, s0, s1, eo, ea, eb, pr, cm, ch, an, av, wt, f0, f1, p0, p1, wk, ov, mv, os, ms, oe, me, tp, lt, cs) v := lz_rng hn h
theorem xg_hasRun (h : post (lz_b (st = 2 ∨ st = 3))) : wpX_hasRun post (nl, vl, el, tl, st, nt, et, fe, pe, vt, oo, mo, kd, ax, ay, s0, s1, eo, ea, eb, pr, cm, ch, an, av, wt, f0, f1, p0, p1, wk, ov, mv, os, ms, oe, me, tp, lt, cs) := lz_run h
theorem xg_isRunChoice (h : post (lz_b (v = 0 ∨ v = 1))) : wpX_isRunChoice post (nl, vl, el, tl, st, nt, et, fe, pe, vt, oo, mo, kd, ax, ay, s0, s1, eo, ea, eb, pr, cm, ch, an, av, wt, f0, f1, p0, p1, wk, ov, mv, os, ms, oe, me, tp, lt, cs) v := by
  by_cases h2 : v = 0
  · rw [lz_b_t (Or.inl h2)] at h; exact br_t h2 h
  · by_cases h3 : v = 1
    · rw [lz_b_t (Or.inr h3)] at h; exact br_f h2 (br_t h3 h)
    · rw [lz_b_f (fun z => z.elim h2 h3)] at h; exact br_f h2 (br_f h3 h)
theorem xg_slotCount (hi : i < 24) (h : post (nI (lz_sl kd i))) : wpX_slotCount post (nl, vl, el, tl, st, nt, et, fe, pe, vt, oo, mo, kd, ax, ay, s0, s1, eo, ea, eb, pr, cm, ch, an, av, wt, f0, f1, p0, p1, wk, ov, mv, os, ms, oe, me, tp, lt, cs) (nI i) := by
  have e : (nI i).toNatClampNeg = i := nI_clamp (by omega)
  have w : vp_in (nI i) 24 := vp_in_nI hi (by decide)
  unfold lz_sl at h
  refine And.intro w ?_
  rw [e]
  by_cases h6 : kd i = 6
  · rw [if_pos h6] at h; exact br_t h6 h
  · rw [if_neg h6] at h
    refine br_f h6 (And.intro w ?_)
    by_cases h5 : kd i = 5
    · rw [if_pos h5] at h; exact br_t h5 h
    · rw [if_neg h5] at h; exact br_f h5 h
theorem xg_slotTarget (hi : i < 24) (hs : s < 2) (h : post (lz_tg s0 s1 i s)) : wpX_slotTarget post (nl, vl, el, tl, st, nt, et, fe, pe, vt, oo, mo, kd, ax, ay, s0, s1, eo, ea, eb, pr, cm, ch, an, av, wt, f0, f1, p0, p1, wk, ov, mv, os, ms, oe, me, tp, lt, cs) (nI i) (nI s) := by
  have e : (nI i).toNatClampNeg = i := nI_clamp (by omega)
  have w : vp_in (nI i) 24 := vp_in_nI hi (by decide)
  unfold lz_tg at h
  by_cases z : s = 0
  · subst z
    rw [if_pos rfl] at h
    refine br_t rfl (And.intro w ?_)
    rw [e]; exact h
  · rw [if_neg z] at h
    refine br_f (nI_ne0 (by omega) (by omega)) (And.intro w ?_)
    rw [e]; exact h
theorem xg_hasSlot (hi : i < 24) (h : post (lz_b (lz_in v (lz_sl kd i)))) : wpX_hasSlot post (nl, vl, el, tl, st, nt, et, fe, pe, vt, oo, mo, kd, ax, ay, s0, s1, eo, ea, eb, pr, cm, ch, an, av, wt, f0, f1, p0, p1, wk, ov, mv, os, ms, oe, me, tp, lt, cs) (nI i) v := by
  unfold wpX_hasSlot
  exact xg_slotCount hi (lz_rng (by have := lz_sl2 kd i; omega) h)
end
section
variable {nl vl el tl st nt et vt oo : Int32} {kd ax ay s0 s1 eo ea eb pr ov wk os mk yn yv yw : Nat → Int32}
variable {post : Int32 → Prop} {v x : Int32} {n i s e : Nat}
theorem yg_isNode (hn : n < 2 ^ 31) (h : post (lz_b (lz_in v n))) : wpY_isNode post (nl, vl, el, tl, st, nI n, et, vt, oo, kd, ax, ay, s0, s1, eo, ea, eb, pr, ov, wk, os, mk, yn, yv, yw) v := lz_rng hn h
theorem yg_isVar (hn : n < 2 ^ 31) (h : post (lz_b (lz_in v n))) : wpY_isVar post (nl, nI n, el, tl, st, nt, et, vt, oo, kd, ax, ay, s0, s1, eo, ea, eb, pr, ov, wk, os, mk, yn, yv, yw) v := lz_rng hn h
theorem yg_isExpr (hn : n < 2 ^ 31) (h : post (lz_b (lz_in v n))) : wpY_isExpr post (nl, vl, el, tl, st, nt, nI n, vt, oo, kd, ax, ay, s0, s1, eo, ea, eb, pr, ov, wk, os, mk, yn, yv, yw) v := lz_rng hn h
theorem yg_ran (h : post (lz_b (st = 2 ∨ st = 3))) : wpY_ran post (nl, vl, el, tl, st, nt, et, vt, oo, kd, ax, ay, s0, s1, eo, ea, eb, pr, ov, wk, os, mk, yn, yv, yw) := lz_run h
theorem yg_slots (hi : i < 24) (h : post (nI (lz_sl kd i))) : wpY_slots post (nl, vl, el, tl, st, nt, et, vt, oo, kd, ax, ay, s0, s1, eo, ea, eb, pr, ov, wk, os, mk, yn, yv, yw) (nI i) := by
  have e : (nI i).toNatClampNeg = i := nI_clamp (by omega)
  have w : vp_in (nI i) 24 := vp_in_nI hi (by decide)
  unfold lz_sl at h
  refine And.intro w ?_
  rw [e]
  by_cases h6 : kd i = 6
  · rw [if_pos h6] at h; exact br_t h6 h
  · rw [if_neg h6] at h
    refine br_f h6 (And.intro w ?_)
    by_cases h5 : kd i = 5
    · rw [if_pos h5] at h; exact br_t h5 h
    · rw [if_neg h5] at h; exact br_f h5 h
theorem yg_next (hi : i < 24) (hs : s < 2) (h : post (lz_tg s0 s1 i s)) : wpY_next post (nl, vl, el, tl, st, nt, et, vt, oo, kd, ax, ay, s0, s1, eo, ea, eb, pr, ov, wk, os, mk, yn, yv, yw) (nI i) (nI s) := by
  have e : (nI i).toNatClampNeg = i := nI_clamp (by omega)
  have w : vp_in (nI i) 24 := vp_in_nI hi (by decide)
  unfold lz_tg at h
  by_cases z : s = 0
  · subst z
    rw [if_pos rfl] at h
    refine br_t rfl (And.intro w ?_)
    rw [e]; exact h
  · rw [if_neg z] at h
    refine br_f (nI_ne0 (by omega) (by omega)) (And.intro w ?_)
    rw [e]; exact h
theorem yg_computes (hi : i < 24) (h : post (lz_b (lz_C kd ay x i))) : wpY_computes post (nl, vl, el, tl, st, nt, et, vt, oo, kd, ax, ay, s0, s1, eo, ea, eb, pr, ov, wk, os, mk, yn, yv, yw) (nI i) x := by
  have e : (nI i).toNatClampNeg = i := nI_clamp (by omega)
  have w : vp_in (nI i) 24 := vp_in_nI hi (by decide)
  refine And.intro w ?_
  rw [e]
  by_cases h3 : kd i = 3
  · refine br_t h3 (And.intro w ?_)
    by_cases h4 : ay i = x
    · rw [lz_b_t ⟨h3, h4⟩] at h; exact br_t h4 h
    · rw [lz_b_f (fun z => h4 z.2)] at h; exact br_f h4 h
  · rw [lz_b_f (fun z => h3 z.1)] at h; exact br_f h3 h
theorem yg_changes35 (hi : i < 24) (he : e < 12) {z : Int32} (hz : z = lz_b (kd i = 1 ∨ kd i = 2 ∨ kd i = 3)) (h : post (lz_b (lz_H kd ax ea eb e i))) : wY_changes_35 post (nI i) (nI e) z nl vl el tl st nt et vt oo kd ax ay s0 s1 eo ea eb pr ov wk os mk yn yv yw := by
  have e1 : (nI i).toNatClampNeg = i := nI_clamp (by omega)
  have e2 : (nI e).toNatClampNeg = e := nI_clamp (by omega)
  have w : vp_in (nI i) 24 := vp_in_nI hi (by decide)
  have w2 : vp_in (nI e) 12 := vp_in_nI he (by decide)
  subst hz
  unfold wY_changes_35
  rw [e1, e2]
  refine lz_br (fun z => ?_) (fun z => ?_)
  · rw [lz_b_f (fun y => z y.1)] at h; exact h
  · refine ⟨w, w2, ?_⟩
    by_cases h1 : ax i = ea e
    · rw [lz_b_t ⟨z, Or.inl h1⟩] at h; exact br_t h1 h
    · refine br_f h1 ⟨w, w2, ?_⟩
      by_cases h2 : ax i = eb e
      · rw [lz_b_t ⟨z, Or.inr h2⟩] at h; exact br_t h2 h
      · rw [lz_b_f (fun y => y.2.elim h1 h2)] at h; exact br_f h2 h
theorem yg_changes (hi : i < 24) (he : e < 12) (h : post (lz_b (lz_H kd ax ea eb e i))) : wpY_changes post (nl, vl, el, tl, st, nt, et, vt, oo, kd, ax, ay, s0, s1, eo, ea, eb, pr, ov, wk, os, mk, yn, yv, yw) (nI i) (nI e) := by
  have e1 : (nI i).toNatClampNeg = i := nI_clamp (by omega)
  have w : vp_in (nI i) 24 := vp_in_nI hi (by decide)
  refine And.intro w ?_
  rw [e1]
  by_cases h1 : kd i = 1
  · exact br_t h1 (yg_changes35 hi he (lz_b_t (Or.inl h1)).symm h)
  · refine br_f h1 (And.intro w ?_)
    by_cases h2 : kd i = 2
    · exact br_t h2 (yg_changes35 hi he (lz_b_t (Or.inr (Or.inl h2))).symm h)
    · refine br_f h2 (And.intro w ?_)
      by_cases h3 : kd i = 3
      · exact br_t h3 (yg_changes35 hi he (lz_b_t (Or.inr (Or.inr h3))).symm h)
      · exact br_f h3 (yg_changes35 hi he (lz_b_f (fun z => z.elim h1 (fun y => y.elim h2 h3))).symm h)
end
end
section
/-! the reference's reach: marks the least set lz_R -/
section
variable {nl vl el tl st nt et vt oo : Int32} {kd ax ay s0 s1 eo ea eb pr ov wk os mk yn yv yw : Nat → Int32}
variable {post : SY → Prop} {J46 J64 : Int32 → Int32 → (Nat → Int32) → (Nat → Int32) → (Nat → Int32) → (Nat → Int32) → (Nat → Int32) → (Nat → Int32) → (Nat → Int32) → (Nat → Int32) → (Nat → Int32) → (Nat → Int32) → (Nat → Int32) → (Nat → Int32) → (Nat → Int32) → (Nat → Int32) → (Nat → Int32) → (Nat → Int32) → Prop} {x x4 : Int32} {n : Nat} {R : Nat → Prop} {A0 : Nat → Int32}
theorem yr_98 (hn : n ≤ 24) (hT : lz_TG n kd s0 s1) {i sz : Nat} (hi : i < n) (hsz : sz ≤ lz_sl kd i) (hR : ∀ s, s < sz → ¬ lz_C kd ay x (lz_nx s0 s1 i s) → R (lz_nx s0 s1 i s)) :
    ∀ (d s fuel : Nat) (fl : Int32) (A : Nat → Int32), s + d = sz → d < fuel → lz_GI n R A0 A fl → (∀ s', s' < s → lz_mk A (lz_nx s0 s1 i s') ∨ lz_C kd ay x (lz_nx s0 s1 i s')) →
    (∀ (fl' : Int32) (A' : Nat → Int32), lz_GI n R A0 A' fl' → (∀ k, k < n → lz_mk A k → lz_mk A' k) → (∀ s', s' < sz → lz_mk A' (lz_nx s0 s1 i s') ∨ lz_C kd ay x (lz_nx s0 s1 i s')) → J64 fl' (nI (i + 1)) kd ax ay s0 s1 eo ea eb pr ov wk os A' yn yv yw) →
    wY_reach_98 post J46 J64 x x4 (nI i) (nI sz) nl vl el tl st (nI n) et vt oo fuel fl (nI s) kd ax ay s0 s1 eo ea eb pr ov wk os A yn yv yw := by
  have hs2 := lz_sl2 kd i
  intro d
  induction d with
  | zero =>
    intro s fuel fl A hs hf hG hD hJ
    obtain ⟨f, rfl⟩ : ∃ f, fuel = f + 1 := ⟨fuel - 1, by omega⟩
    exact br_t (nI_le (by omega) (by omega)) (nm_r (nI_1 i) (hJ fl A hG (fun _ _ => id) (fun s' h' => hD s' (by omega))))
  | succ d ih =>
    intro s fuel fl A hs hf hG hD hJ
    obtain ⟨f, rfl⟩ : ∃ f, fuel = f + 1 := ⟨fuel - 1, by omega⟩
    obtain ⟨ht1, ht2⟩ := hT i s hi (by omega)
    have e1 : (nI (lz_nx s0 s1 i s)).toNatClampNeg = lz_nx s0 s1 i s := nI_clamp (by omega)
    have w : vp_in (nI (lz_nx s0 s1 i s)) 48 := vp_in_nI (by omega) (by decide)
    refine br_f (nI_ge (by omega) (by omega)) (yg_next (by omega) (by omega) ?_)
    rw [ht1, e1]
    refine And.intro w ?_
    by_cases hm : A (lz_nx s0 s1 i s) = 0
    · refine br_t hm (yg_computes (by omega) (lz_br (fun hc => ?_) (fun hc => ?_)))
      · obtain ⟨g1, g2⟩ := lz_GI_s hG ht2 hm (hR s (by omega) hc)
        refine And.intro w (nm_e (nm_r (nI_1 s) ?_))
        refine ih (s + 1) f 1 (upd A (lz_nx s0 s1 i s) 1) (by omega) (by omega) g1 (fun s' h' => ?_) (fun fl' A' a b c => hJ fl' A' a (fun k hk z => b k hk (g2 k hk z)) c)
        by_cases z : s' = s
        · subst z; exact Or.inl (by unfold lz_mk; rw [pk_us]; decide)
        · exact (hD s' (by omega)).imp (fun y => g2 _ (hT i s' hi (by omega)).2 y) id
      · refine nm_r (nI_1 s) (ih (s + 1) f fl A (by omega) (by omega) hG (fun s' h' => ?_) hJ)
        by_cases z : s' = s
        · subst z; exact Or.inr hc
        · exact hD s' (by omega)
    · refine br_f hm (nm_r (nI_1 s) (ih (s + 1) f fl A (by omega) (by omega) hG (fun s' h' => ?_) hJ))
      by_cases z : s' = s
      · subst z; exact Or.inl hm
      · exact hD s' (by omega)
theorem yr_64 (hn : n ≤ 24) (hT : lz_TG n kd s0 s1) (hRs : ∀ i j, R i → lz_E n kd s0 s1 i j → ¬ lz_C kd ay x j → R j) :
    ∀ (d i fuel : Nat) (fl : Int32) (A : Nat → Int32), i + d = n → d < fuel → lz_GI n R A0 A fl → (∀ i', i' < i → lz_mk A0 i' → ∀ s, s < lz_sl kd i' → lz_mk A (lz_nx s0 s1 i' s) ∨ lz_C kd ay x (lz_nx s0 s1 i' s)) →
    (∀ (fl' : Int32) (A' : Nat → Int32), lz_GI n R A0 A' fl' → (∀ i', i' < n → lz_mk A0 i' → ∀ s, s < lz_sl kd i' → lz_mk A' (lz_nx s0 s1 i' s) ∨ lz_C kd ay x (lz_nx s0 s1 i' s)) → J46 fl' (x4 + 1) kd ax ay s0 s1 eo ea eb pr ov wk os A' yn yv yw) →
    wY_reach_64 post J46 x x4 nl vl el tl st (nI n) et vt oo fuel fl (nI i) kd ax ay s0 s1 eo ea eb pr ov wk os A yn yv yw := by
  intro d
  induction d with
  | zero =>
    intro i fuel fl A hi hf hG hD hJ
    obtain ⟨f, rfl⟩ : ∃ f, fuel = f + 1 := ⟨fuel - 1, by omega⟩
    exact br_t (nI_le (by omega) (by omega)) (nm_e (hJ fl A hG (fun i' h' => hD i' (by omega))))
  | succ d ih =>
    intro i fuel fl A hi hf hG hD hJ
    obtain ⟨f, rfl⟩ : ∃ f, fuel = f + 1 := ⟨fuel - 1, by omega⟩
    have e1 : (nI i).toNatClampNeg = i := nI_clamp (by omega)
    have hs2 := lz_sl2 kd i
    refine br_f (nI_ge (by omega) (by omega)) (And.intro (vp_in_nI (by omega) (by decide)) ?_)
    rw [e1]
    by_cases hm : A i = 0
    · refine br_t hm (Exists.intro 1 (yr_98 (sz := 0) hn hT (by omega) (by omega) (fun s h => absurd h (by omega)) 0 0 1 fl A rfl (by omega) hG (fun s h => absurd h (by omega)) ?_))
      intro fl' A' a b c
      refine ih (i + 1) f fl' A' (by omega) (by omega) a (fun i' h' z s hs => ?_) hJ
      by_cases y : i' = i
      · subst y; exact absurd hm (hG.1 i' (by omega) z)
      · exact (hD i' (by omega) z s hs).imp (b _ (hT i' s (by omega) hs).2) id
    · have hRi : R i := hG.2.1 i (by omega) hm
      refine br_f hm (yg_slots (by omega) (Exists.intro 3 (yr_98 (sz := lz_sl kd i) hn hT (by omega) (Nat.le_refl _) (fun s h hc => hRs i _ hRi ⟨by omega, s, h, rfl⟩ hc) (lz_sl kd i) 0 3 fl A (by omega) (by omega) hG (fun s h => absurd h (by omega)) ?_)))
      intro fl' A' a b c
      refine ih (i + 1) f fl' A' (by omega) (by omega) a (fun i' h' z s hs => ?_) hJ
      by_cases y : i' = i
      · subst y; exact c s hs
      · exact (hD i' (by omega) z s hs).imp (b _ (hT i' s (by omega) hs).2) id
theorem yr_46 {a : Nat} (ha : a < n) (hn : n ≤ 24) (hT : lz_TG n kd s0 s1) (hR : R = lz_R (lz_E n kd s0 s1) (lz_C kd ay x) a) (h : ∀ A', (∀ k, k < n → (lz_mk A' k ↔ R k)) → post (nl, vl, el, tl, st, nI n, et, vt, oo, kd, ax, ay, s0, s1, eo, ea, eb, pr, ov, wk, os, A', yn, yv, yw)) :
    ∀ (d r fuel : Nat) (fl : Int32) (A : Nat → Int32), r + d = n → d < fuel → lz_GO n R 1 r fl A → (¬ lz_C kd ay x a → lz_mk A a) →
    wY_reach_46 post x nl vl el tl st (nI n) et vt oo fuel fl (nI r) kd ax ay s0 s1 eo ea eb pr ov wk os A yn yv yw := by
  intro d
  induction d with
  | zero =>
    intro r fuel fl A hr hf hG hi
    obtain ⟨f, rfl⟩ : ∃ f, fuel = f + 1 := ⟨fuel - 1, by omega⟩
    exact br_t (nI_le (by omega) (by omega)) (h A (lz_GO_end hG (Or.inl (by omega))))
  | succ d ih =>
    intro r fuel fl A hr hf hG hi
    obtain ⟨f, rfl⟩ : ∃ f, fuel = f + 1 := ⟨fuel - 1, by omega⟩
    refine br_f (nI_ge (by omega) (by omega)) (br_c (fun z => h A (lz_GO_end hG (Or.inr z))) (fun z => ?_))
    have hRs : ∀ i j, R i → lz_E n kd s0 s1 i j → ¬ lz_C kd ay x j → R j := by rw [hR]; exact fun i j a b c => lz_Rs a b c
    refine Exists.intro (n + 1) (yr_64 (A0 := A) hn hT hRs n 0 (n + 1) 0 A (by omega) (by omega) (lz_GI_0 hG.1) (fun i h => absurd h (by omega)) ?_)
    intro fl' A' g c
    rw [nI_1]
    refine ih (r + 1) f fl' A' (by omega) (by omega) (lz_GO_s hG g ?_) (fun z => ?_)
    · intro hsame k hk hRk
      rw [hR] at hRk
      refine hRk (fun k => k < n → lz_mk A' k) ?_ ?_ hk
      · exact fun hc _ => g.1 a ha (hi hc)
      · rintro i j hS ⟨hin, s, hs, rfl⟩ hcj hj
        exact (c i hin (hsame i hin (hS hin)) s hs).elim id (fun y => absurd y hcj)
    · exact g.1 a ha (hi z)
theorem yr_2 {a : Nat} (ha : a < n) (hn : n ≤ 24) (hT : lz_TG n kd s0 s1) (h : ∀ A', (∀ k, k < n → (lz_mk A' k ↔ lz_R (lz_E n kd s0 s1) (lz_C kd ay x) a k)) → post (nl, vl, el, tl, st, nI n, et, vt, oo, kd, ax, ay, s0, s1, eo, ea, eb, pr, ov, wk, os, A', yn, yv, yw)) :
    ∀ (d k fuel : Nat) (A : Nat → Int32), k + d = 48 → d < fuel → (∀ j, j < k → A j = 0) → wY_reach_2 post (nI a) x nl vl el tl st (nI n) et vt oo fuel (nI k) kd ax ay s0 s1 eo ea eb pr ov wk os A yn yv yw := by
  have e1 : (nI a).toNatClampNeg = a := nI_clamp (by omega)
  have w : vp_in (nI a) 48 := vp_in_nI (by omega) (by decide)
  intro d
  induction d with
  | zero =>
    intro k fuel A hk hf hA
    obtain ⟨f, rfl⟩ : ∃ f, fuel = f + 1 := ⟨fuel - 1, by omega⟩
    refine br_t (nI_le (a := 48) (by omega) (by omega)) (yg_computes (by omega) ?_)
    rw [e1]
    refine lz_br (fun hc => ?_) (fun hc => ?_)
    · have h1 : lz_mk (upd A a 1) a := by unfold lz_mk; rw [pk_us]; decide
      have h2 : ∀ k, k < n → lz_mk (upd A a 1) k → lz_R (lz_E n kd s0 s1) (lz_C kd ay x) a k := by
        intro k hk z
        by_cases y : k = a
        · subst y; exact lz_R0 hc
        · unfold lz_mk at z; rw [pk_un y] at z; exact absurd (hA k (by omega)) z
      refine And.intro w (nm_e (Exists.intro (n + 1) (yr_46 ha hn hT rfl h n 0 (n + 1) 1 (upd A a 1) (by omega) (by omega) ⟨h2, fun z => absurd z (by decide), Or.inr ?_⟩ (fun _ => h1))))
      exact lz_cn_pos h1 ha
    · have h0 : ∀ k, k < n → ¬ lz_mk (upd A a 0) k := by
        intro k hk z
        by_cases y : k = a
        · subst y; exact z pk_us
        · unfold lz_mk at z; rw [pk_un y] at z; exact absurd (hA k (by omega)) z
      have hno : ∀ k, ¬ lz_R (lz_E n kd s0 s1) (lz_C kd ay x) a k := fun k z => z (fun _ => False) (fun y => y hc) (fun _ _ f _ _ => f)
      exact And.intro w (nm_e (Exists.intro (n + 1) (yr_46 ha hn hT rfl h n 0 (n + 1) 1 (upd A a 0) (by omega) (by omega) ⟨fun k hk z => absurd z (h0 k hk), fun z => absurd z (by decide), Or.inl (fun k _ z => absurd z (hno k))⟩ (fun z => absurd hc z))))
  | succ d ih =>
    intro k fuel A hk hf hA
    obtain ⟨f, rfl⟩ : ∃ f, fuel = f + 1 := ⟨fuel - 1, by omega⟩
    have e2 : (nI k).toNatClampNeg = k := nI_clamp (by omega)
    refine br_f (nI_ge (b := 48) (by omega) (by omega)) (And.intro (vp_in_nI (by omega) (by decide)) ?_)
    rw [e2]
    refine nm_e (nm_r (nI_1 k) (ih (k + 1) f (upd A k 0) (by omega) (by omega) (fun j hj => ?_)))
    by_cases z : j = k
    · subst z; exact pk_us
    · rw [pk_un z]; exact hA j (by omega)
theorem yg_reach {a : Nat} (ha : a < n) (hn : n ≤ 24) (hT : lz_TG n kd s0 s1) (h : ∀ A', (∀ k, k < n → (lz_mk A' k ↔ lz_R (lz_E n kd s0 s1) (lz_C kd ay x) a k)) → post (nl, vl, el, tl, st, nI n, et, vt, oo, kd, ax, ay, s0, s1, eo, ea, eb, pr, ov, wk, os, A', yn, yv, yw)) : wpY_reach post (nl, vl, el, tl, st, nI n, et, vt, oo, kd, ax, ay, s0, s1, eo, ea, eb, pr, ov, wk, os, mk, yn, yv, yw) (nI a) x :=
  Exists.intro 49 (yr_2 ha hn hT h 48 0 49 mk (by omega) (by omega) (fun j hj => absurd hj (by omega)))
end
end
section
/-! the reference's isFirst and follow -/
noncomputable def lz_kx (G : Prop → Nat → Nat → Prop) (f : Prop) (i t : Nat) : Nat := 2 * t + lz_c (G f i t)
theorem lz_F_kx {E : Nat → Nat → Prop} {G : Prop → Nat → Nat → Prop} {k k' : Nat} : lz_F E G k k' ↔ ∃ t, E (k / 2) t ∧ k' = lz_kx G (k % 2 = 1) (k / 2) t := by
  constructor
  · rintro ⟨t, he, ⟨rfl, g⟩ | ⟨rfl, g⟩⟩
    · exact ⟨t, he, by unfold lz_kx; rw [lz_c_t g]⟩
    · exact ⟨t, he, by unfold lz_kx; rw [lz_c_f g]; rfl⟩
  · rintro ⟨t, he, rfl⟩
    rcases Classical.em (G (k % 2 = 1) (k / 2) t) with g | g
    · exact ⟨t, he, Or.inl ⟨by unfold lz_kx; rw [lz_c_t g], g⟩⟩
    · exact ⟨t, he, Or.inr ⟨by unfold lz_kx; rw [lz_c_f g]; rfl, g⟩⟩
theorem lz_kx_lt {G : Prop → Nat → Nat → Prop} {f : Prop} {i t n : Nat} (h : t < n) : lz_kx G f i t < 2 * n := by
  have := lz_c_le (G f i t)
  unfold lz_kx; omega
section
variable {nl vl el tl st nt et vt oo : Int32} {kd ax ay s0 s1 eo ea eb pr ov wk os mk yn yv yw : Nat → Int32}
variable {post : Int32 → Prop} {n i t e : Nat} {NA NV : Nat → Prop} {Q : Prop}
theorem yf_63 (hn : n ≤ 24) (hT : lz_TG n kd s0 s1) (hi : i < n) (ht : t < n) (hyn : ∀ k, k < n → yn k = lz_b (¬ NA k)) :
    ∀ (d s fuel : Nat) (P : Prop) (y : Int32), s + d = lz_sl kd i → d < fuel → y = lz_b P → post (lz_b (¬ NA t ∧ ¬ Q ∧ (P ∨ ∃ s', s ≤ s' ∧ s' < lz_sl kd i ∧ NA (lz_nx s0 s1 i s')))) →
    wY_isFirst_63 post (nI i) (nI t) (lz_b Q) (nI (lz_sl kd i)) nl vl el tl st nt et vt oo kd ax ay s0 s1 eo ea eb pr ov wk os mk yn yv yw fuel y (nI s) := by
  have hs2 := lz_sl2 kd i
  have e1 : (nI t).toNatClampNeg = t := nI_clamp (by omega)
  intro d
  induction d with
  | zero =>
    intro s fuel P y hs hf hy h
    obtain ⟨f, rfl⟩ : ∃ f, fuel = f + 1 := ⟨fuel - 1, by omega⟩
    subst hy
    refine br_t (nI_le (by omega) (by omega)) (And.intro (vp_in_nI (by omega) (by decide)) ?_)
    rw [e1, hyn t ht]
    refine lz_br (fun z => ?_) (fun z => lz_br (fun q => lz_br (fun p => ?_) (fun p => ?_)) (fun q => ?_))
    · rw [lz_b_f (fun y => z y.1)] at h; exact h
    · rw [lz_b_f (fun y => y.2.2.elim p (fun ⟨s', a, b, _⟩ => by omega))] at h; exact h
    · rw [lz_b_t ⟨z, q, Or.inl p⟩] at h; exact h
    · rw [lz_b_f (fun y => y.2.1 q)] at h; exact h
  | succ d ih =>
    intro s fuel P y hs hf hy h
    obtain ⟨f, rfl⟩ : ∃ f, fuel = f + 1 := ⟨fuel - 1, by omega⟩
    obtain ⟨ht1, ht2⟩ := hT i s hi (by omega)
    have e2 : (nI (lz_nx s0 s1 i s)).toNatClampNeg = lz_nx s0 s1 i s := nI_clamp (by omega)
    refine br_f (nI_ge (by omega) (by omega)) (yg_next (by omega) (by omega) ?_)
    rw [ht1, e2]
    refine And.intro (vp_in_nI (by omega) (by decide)) ?_
    rw [hyn _ ht2]
    refine lz_br (fun z => nm_r (nI_1 s) ?_) (fun z => nm_r (nI_1 s) ?_)
    · refine ih (s + 1) f True 1 (by omega) (by omega) (lz_b_t trivial).symm ?_
      rw [lz_b_eq (Q := ¬ NA t ∧ ¬ Q ∧ (P ∨ ∃ s', s ≤ s' ∧ s' < lz_sl kd i ∧ NA (lz_nx s0 s1 i s'))) ?_]
      · exact h
      · exact ⟨fun y => ⟨y.1, y.2.1, Or.inr ⟨s, Nat.le_refl _, by omega, Classical.byContradiction z⟩⟩, fun y => ⟨y.1, y.2.1, Or.inl trivial⟩⟩
    · refine ih (s + 1) f P y (by omega) (by omega) hy ?_
      rw [lz_b_eq (Q := ¬ NA t ∧ ¬ Q ∧ (P ∨ ∃ s', s ≤ s' ∧ s' < lz_sl kd i ∧ NA (lz_nx s0 s1 i s'))) ?_]
      · exact h
      · refine ⟨fun y => ⟨y.1, y.2.1, y.2.2.imp id (fun ⟨s', a, b, c⟩ => ⟨s', by omega, b, c⟩)⟩, fun y => ⟨y.1, y.2.1, y.2.2.imp id (fun ⟨s', a, b, c⟩ => ?_)⟩⟩
        by_cases q : s' = s
        · subst q; exact absurd c z
        · exact ⟨s', by omega, b, c⟩
theorem yf_43 (hn : n ≤ 24) (hT : lz_TG n kd s0 s1) (he : e < 12) (hi : i < n) (ht : t < n) (hyn : ∀ k, k < n → yn k = lz_b (¬ NA k)) {z : Int32}
    (hz : z = lz_b (¬ lz_H kd ax ea eb e i ∧ (lz_C kd ay (nI e) i ∨ ¬ NV i))) (h : post (lz_b (lz_First (lz_E n kd s0 s1) (lz_C kd ay (nI e)) (lz_H kd ax ea eb e) NA NV i t))) :
    wY_isFirst_43 post (nI i) (nI t) (nI e) z nl vl el tl st nt et vt oo kd ax ay s0 s1 eo ea eb pr ov wk os mk yn yv yw := by
  subst hz
  have hs2 := lz_sl2 kd i
  unfold wY_isFirst_43
  refine yg_changes (by omega) he (yg_slots (by omega) (Exists.intro 3 (yf_63 (NA := NA) hn hT hi ht hyn (lz_sl kd i) 0 3 _ _ (by omega) (by omega) rfl ?_)))
  refine (lz_b_eq ?_) ▸ h
  unfold lz_First
  refine ⟨fun y => ⟨y.1, y.2.1, y.2.2.imp id ?_⟩, fun y => ⟨y.1, y.2.1, y.2.2.imp id ?_⟩⟩
  · rintro ⟨j, ⟨_, s, hs, rfl⟩, hj⟩; exact ⟨s, Nat.zero_le _, hs, hj⟩
  · rintro ⟨s, _, hs, hj⟩; exact ⟨_, ⟨hi, s, hs, rfl⟩, hj⟩
theorem yg_isFirst (hn : n ≤ 24) (hT : lz_TG n kd s0 s1) (he : e < 12) (hi : i < n) (ht : t < n) (hyn : ∀ k, k < n → yn k = lz_b (¬ NA k)) (hyv : ∀ k, k < n → yv k = lz_b (¬ NV k))
    (h : post (lz_b (lz_First (lz_E n kd s0 s1) (lz_C kd ay (nI e)) (lz_H kd ax ea eb e) NA NV i t))) : wpY_isFirst post (nl, vl, el, tl, st, nt, et, vt, oo, kd, ax, ay, s0, s1, eo, ea, eb, pr, ov, wk, os, mk, yn, yv, yw) (nI i) (nI t) (nI e) := by
  have e1 : (nI i).toNatClampNeg = i := nI_clamp (by omega)
  refine br_t (nI_pos' (by omega)) (yg_changes (by omega) he (lz_br (fun hH => yg_computes (by omega) (lz_br (fun hC => And.intro (vp_in_nI (by omega) (by decide)) ?_) (fun hC => ?_))) (fun hH => ?_)))
  · rw [e1, hyv i hi]
    refine lz_br (fun z => ?_) (fun z => ?_)
    · exact yf_43 (NV := NV) hn hT he hi ht hyn (lz_b_f (fun y => y.2.elim hC z)).symm h
    · exact yf_43 (NV := NV) hn hT he hi ht hyn (lz_b_t ⟨hH, Or.inr z⟩).symm h
  · exact yf_43 (NV := NV) hn hT he hi ht hyn (lz_b_t ⟨hH, Or.inl hC⟩).symm h
  · exact yf_43 (NV := NV) hn hT he hi ht hyn (lz_b_f (fun y => y.1 hH)).symm h
theorem yg_isFirst0 {x : Int32} (hn : n ≤ 24) (ht : t < n) (hyn : ∀ k, k < n → yn k = lz_b (¬ NA k)) (h : post (lz_b (¬ NA t))) : wpY_isFirst post (nl, vl, el, tl, st, nt, et, vt, oo, kd, ax, ay, s0, s1, eo, ea, eb, pr, ov, wk, os, mk, yn, yv, yw) (-1) (nI t) x := by
  have e1 : (nI t).toNatClampNeg = t := nI_clamp (by omega)
  refine br_f (by decide) (And.intro (vp_in_nI (by omega) (by decide)) ?_)
  rw [e1, hyn t ht]
  exact And.intro (lz_b_nar _) h
end
/-- the fact that is followed: availability (w = 0) or waiting (w = 1) -/
def lz_W (n e : Nat) (kd ax ay s0 s1 ea eb yn yv : Nat → Int32) (w : Int32) (G : Prop → Nat → Nat → Prop) : Prop :=
  (w = 0 ∧ G = fun f m _ => (f ∨ lz_C kd ay (nI e) m) ∧ ¬ lz_H kd ax ea eb e m) ∨
  (w = 1 ∧ ∃ NA NV : Nat → Prop, (∀ k, k < n → yn k = lz_b (¬ NA k)) ∧ (∀ k, k < n → yv k = lz_b (¬ NV k)) ∧ G = fun f m t => (f ∧ ¬ lz_C kd ay (nI e) m) ∨ lz_First (lz_E n kd s0 s1) (lz_C kd ay (nI e)) (lz_H kd ax ea eb e) NA NV m t)
section
variable {nl vl el tl st nt et vt oo : Int32} {kd ax ay s0 s1 eo ea eb pr ov wk os mk yn yv yw : Nat → Int32}
variable {post : SY → Prop} {J62 J84 J141 : Int32 → Int32 → (Nat → Int32) → (Nat → Int32) → (Nat → Int32) → (Nat → Int32) → (Nat → Int32) → (Nat → Int32) → (Nat → Int32) → (Nat → Int32) → (Nat → Int32) → (Nat → Int32) → (Nat → Int32) → (Nat → Int32) → (Nat → Int32) → (Nat → Int32) → (Nat → Int32) → (Nat → Int32) → Prop} {w x1 x2 x4 x5 x6 x7 x8 x9 x10 : Int32} {n i t s e : Nat} {G : Prop → Nat → Nat → Prop} {f : Prop} {R : Nat → Prop} {A0 : Nat → Int32}
theorem yf_231 (hn : n ≤ 24) (ht : t < n) (h0 : mk (lz_kx G f i t) = 0 → J141 1 (nI (s + 1)) kd ax ay s0 s1 eo ea eb pr ov wk os (upd mk (lz_kx G f i t) 1) yn yv yw) (h1 : ¬ mk (lz_kx G f i t) = 0 → J141 x4 (nI (s + 1)) kd ax ay s0 s1 eo ea eb pr ov wk os mk yn yv yw) :
    wY_follow_231 post J62 J84 J141 x1 x2 x4 x5 x6 x7 x8 x9 (nI s) (nI t) (lz_b (G f i t)) nl vl el tl st nt et vt oo kd ax ay s0 s1 eo ea eb pr ov wk os mk yn yv yw := by
  have hk := lz_kx_lt (G := G) (f := f) (i := i) ht
  have e1 : (nI (lz_kx G f i t)).toNatClampNeg = lz_kx G f i t := nI_clamp (by omega)
  have v1 : vp_in (nI (lz_kx G f i t)) 48 := vp_in_nI (by omega) (by decide)
  have key : ∀ z : Int32, z = lz_b (G f i t) → wY_follow_245 post J62 J84 J141 x1 x2 x4 x5 x6 x7 x8 x9 (nI s) z (2 * nI t) nl vl el tl st nt et vt oo kd ax ay s0 s1 eo ea eb pr ov wk os mk yn yv yw := by
    intro z hz
    have e2 : 2 * nI t + z = nI (lz_kx G f i t) := by
      rw [show (2 : Int32) * nI t = nI (2 * t) from pk_mul 2 t]
      unfold lz_kx
      rcases Classical.em (G f i t) with g | g
      · rw [hz, lz_b_t g, lz_c_t g, nI_1]
      · rw [hz, lz_b_f g, lz_c_f g]; exact nI_add (2 * t) 0
    unfold wY_follow_245
    refine nm_r e2 ?_
    rw [e1]
    exact And.intro v1 (br_c (fun z => And.intro v1 (nm_e (nm_r (nI_1 s) (h0 z)))) (fun z => nm_r (nI_1 s) (h1 z)))
  unfold wY_follow_231
  exact lz_br (fun g => key 0 (lz_b_f g).symm) (fun g => key 1 (lz_b_t g).symm)
theorem yf_g (hn : n ≤ 24) (hT : lz_TG n kd s0 s1) (he : e < 12) (hi : i < n) (ht : t < n) (hw : lz_W n e kd ax ay s0 s1 ea eb yn yv w G) (hx : x8 = lz_b f)
    (h : wY_follow_231 post J62 J84 J141 (nI e) w x4 x5 x6 (nI i) x8 x9 x10 (nI t) (lz_b (G f i t)) nl vl el tl st nt et vt oo kd ax ay s0 s1 eo ea eb pr ov wk os mk yn yv yw) :
    (((w = 0 → (((x8 = 0 → (wpY_computes (fun r_79 => (((r_79 = 0 → (wY_follow_228 post J62 J84 J141 (nI e) w x4 x5 x6 (nI i) x8 x9 x10 (nI t) nl vl el tl st nt et vt oo kd ax ay s0 s1 eo ea eb pr ov wk os mk yn yv yw)) ∧ (¬ r_79 = 0 → (wY_follow_214 post J62 J84 J141 (nI e) w x4 x5 x6 (nI i) x8 x9 x10 (nI t) nl vl el tl st nt et vt oo kd ax ay s0 s1 eo ea eb pr ov wk os mk yn yv yw))))) (nl, vl, el, tl, st, nt, et, vt, oo, kd, ax, ay, s0, s1, eo, ea, eb, pr, ov, wk, os, mk, yn, yv, yw) (nI i) (nI e))) ∧ (¬ x8 = 0 → (wY_follow_214 post J62 J84 J141 (nI e) w x4 x5 x6 (nI i) x8 x9 x10 (nI t) nl vl el tl st nt et vt oo kd ax ay s0 s1 eo ea eb pr ov wk os mk yn yv yw))))) ∧ (¬ w = 0 → (((x8 = 0 → (wY_follow_177 post J62 J84 J141 (nI e) w x4 x5 x6 (nI i) x8 x9 x10 (nI t) nl vl el tl st nt et vt oo kd ax ay s0 s1 eo ea eb pr ov wk os mk yn yv yw)) ∧ (¬ x8 = 0 → (wpY_computes (fun r_134 => (((r_134 = 0 → (wY_follow_189 post J62 J84 J141 (nI e) w x4 x5 x6 (nI i) x8 x9 x10 (nI t) nl vl el tl st nt et vt oo kd ax ay s0 s1 eo ea eb pr ov wk os mk yn yv yw)) ∧ (¬ r_134 = 0 → (wY_follow_177 post J62 J84 J141 (nI e) w x4 x5 x6 (nI i) x8 x9 x10 (nI t) nl vl el tl st nt et vt oo kd ax ay s0 s1 eo ea eb pr ov wk os mk yn yv yw))))) (nl, vl, el, tl, st, nt, et, vt, oo, kd, ax, ay, s0, s1, eo, ea, eb, pr, ov, wk, os, mk, yn, yv, yw) (nI i) (nI e)))))))) := by
  have go : ∀ z : Int32, z = lz_b (G f i t) → wY_follow_231 post J62 J84 J141 (nI e) w x4 x5 x6 (nI i) x8 x9 x10 (nI t) z nl vl el tl st nt et vt oo kd ax ay s0 s1 eo ea eb pr ov wk os mk yn yv yw := fun z hz => hz ▸ h
  rcases hw with ⟨rfl, hG⟩ | ⟨rfl, NA, NV, hyn, hyv, hG⟩
  · have g214 : (f ∨ lz_C kd ay (nI e) i) → wY_follow_214 post J62 J84 J141 (nI e) 0 x4 x5 x6 (nI i) x8 x9 x10 (nI t) nl vl el tl st nt et vt oo kd ax ay s0 s1 eo ea eb pr ov wk os mk yn yv yw := by
      intro hf
      unfold wY_follow_214
      refine yg_changes (by omega) he (lz_br (fun hH => go 1 ?_) (fun hH => go 0 ?_))
      · rw [hG]; exact (lz_b_t ⟨hf, hH⟩).symm
      · rw [hG]; exact (lz_b_f (fun z => z.2 hH)).symm
    refine br_t rfl ?_
    rw [hx] at g214 go ⊢
    refine lz_br (fun hf => yg_computes (by omega) (lz_br (fun hC => go 0 ?_) (fun hC => g214 (Or.inr hC)))) (fun hf => g214 (Or.inl hf))
    rw [hG]; exact (lz_b_f (fun z => z.1.elim hf hC)).symm
  · have g177 : ¬ (f ∧ ¬ lz_C kd ay (nI e) i) → wY_follow_177 post J62 J84 J141 (nI e) 1 x4 x5 x6 (nI i) x8 x9 x10 (nI t) nl vl el tl st nt et vt oo kd ax ay s0 s1 eo ea eb pr ov wk os mk yn yv yw := by
      intro hf
      unfold wY_follow_177
      refine yg_isFirst (NA := NA) (NV := NV) hn hT he hi ht hyn hyv (lz_br (fun hF => go 0 ?_) (fun hF => go 1 ?_))
      · rw [hG]; exact (lz_b_f (fun z => z.elim hf hF)).symm
      · rw [hG]; exact (lz_b_t (Or.inr hF)).symm
    refine br_f (by decide) ?_
    rw [hx] at g177 go ⊢
    refine lz_br (fun hf => g177 (fun z => hf z.1)) (fun hf => yg_computes (by omega) (lz_br (fun hC => go 1 ?_) (fun hC => g177 (fun z => z.2 hC))))
    rw [hG]; exact (lz_b_t (Or.inl ⟨hf, hC⟩)).symm
theorem yf_141 (hn : n ≤ 24) (hT : lz_TG n kd s0 s1) (he : e < 12) (hi : i < n) {sz : Nat} (hsz : sz ≤ lz_sl kd i) (hw : lz_W n e kd ax ay s0 s1 ea eb yn yv w G) (hR : ∀ s, s < sz → R (lz_kx G f i (lz_nx s0 s1 i s))) (hx : x8 = lz_b f) :
    ∀ (d s fuel : Nat) (fl : Int32) (A : Nat → Int32), s + d = sz → d < fuel → lz_GI (2 * n) R A0 A fl → (∀ s', s' < s → lz_mk A (lz_kx G f i (lz_nx s0 s1 i s'))) →
    (∀ (fl' : Int32) (A' : Nat → Int32), lz_GI (2 * n) R A0 A' fl' → (∀ k, k < 2 * n → lz_mk A k → lz_mk A' k) → (∀ s', s' < sz → lz_mk A' (lz_kx G f i (lz_nx s0 s1 i s'))) → J84 fl' (x6 + 1) kd ax ay s0 s1 eo ea eb pr ov wk os A' yn yv yw) →
    wY_follow_141 post J62 J84 (nI e) w x5 x6 (nI i) x8 (nI sz) nl vl el tl st (nI n) et vt oo fuel fl (nI s) kd ax ay s0 s1 eo ea eb pr ov wk os A yn yv yw := by
  have hs2 := lz_sl2 kd i
  intro d
  induction d with
  | zero =>
    intro s fuel fl A hs hf hG hD hJ
    obtain ⟨f', rfl⟩ : ∃ f', fuel = f' + 1 := ⟨fuel - 1, by omega⟩
    exact br_t (nI_le (by omega) (by omega)) (nm_e (hJ fl A hG (fun _ _ => id) (fun s' h' => hD s' (by omega))))
  | succ d ih =>
    intro s fuel fl A hs hf hG hD hJ
    obtain ⟨f', rfl⟩ : ∃ f', fuel = f' + 1 := ⟨fuel - 1, by omega⟩
    obtain ⟨ht1, ht2⟩ := hT i s hi (by omega)
    refine br_f (nI_ge (by omega) (by omega)) (yg_next (by omega) (by omega) ?_)
    rw [ht1]
    refine yf_g (f := f) hn hT he hi ht2 hw hx (yf_231 (i := i) (G := G) (f := f) hn ht2 (fun hm => ?_) (fun hm => ?_))
    · obtain ⟨g1, g2⟩ := lz_GI_s hG (lz_kx_lt ht2) hm (hR s (by omega))
      refine ih (s + 1) f' 1 _ (by omega) (by omega) g1 (fun s' h' => ?_) (fun fl' A' a b c => hJ fl' A' a (fun k hk z => b k hk (g2 k hk z)) c)
      by_cases z : s' = s
      · subst z; unfold lz_mk; rw [pk_us]; decide
      · exact g2 _ (lz_kx_lt (hT i s' hi (by omega)).2) (hD s' (by omega))
    · refine ih (s + 1) f' fl A (by omega) (by omega) hG (fun s' h' => ?_) hJ
      by_cases z : s' = s
      · subst z; exact hm
      · exact hD s' (by omega)
theorem lz_half {k : Nat} (hk : k < 48) : nI k >>> ((1 : Int32) &&& 31) = nI (k / 2) := pk_shrN (by omega) _ 1 (by decide)
theorem lz_odd {k : Nat} (hk : k < 48) : (nI k &&& 1) = 1 ↔ k % 2 = 1 := by
  rw [pk_andN (by omega) 1 (by decide), show (1 : Int32) = nI 1 from rfl, nI_eq (by omega) (by omega)]
theorem yf_114 (hn : n ≤ 24) (hT : lz_TG n kd s0 s1) (he : e < 12) {k : Nat} (hk : k < 2 * n) (hw : lz_W n e kd ax ay s0 s1 ea eb yn yv w G) (hRs : ∀ k k', R k → lz_F (lz_E n kd s0 s1) G k k' → R k')
    {fl z : Int32} {A : Nat → Int32} (hz : z = lz_b (k % 2 = 1)) (hG : lz_GI (2 * n) R A0 A fl)
    (hJ : ∀ (fl' : Int32) (A' : Nat → Int32), lz_GI (2 * n) R A0 A' fl' → (∀ k, k < 2 * n → lz_mk A k → lz_mk A' k) → (lz_mk A0 k → ∀ s, s < lz_sl kd (k / 2) → lz_mk A' (lz_kx G (k % 2 = 1) (k / 2) (lz_nx s0 s1 (k / 2) s))) → J84 fl' (nI (k + 1)) kd ax ay s0 s1 eo ea eb pr ov wk os A' yn yv yw) :
    wY_follow_114 post J62 J84 (nI e) w fl x5 (nI k) (nI (k / 2)) z nl vl el tl st (nI n) et vt oo kd ax ay s0 s1 eo ea eb pr ov wk os A yn yv yw := by
  have e1 : (nI k).toNatClampNeg = k := nI_clamp (by omega)
  have hs2 := lz_sl2 kd (k / 2)
  unfold wY_follow_114
  refine And.intro (vp_in_nI (by omega) (by decide)) ?_
  rw [e1]
  by_cases hm : A k = 0
  · refine br_t hm (Exists.intro 1 (yf_141 (f := k % 2 = 1) hn hT he (by omega) (sz := 0) (by omega) hw (fun s h => absurd h (by omega)) hz 0 0 1 fl A rfl (by omega) hG (fun s h => absurd h (by omega)) (fun fl' A' a b c => ?_)))
    rw [nI_1]
    exact hJ fl' A' a b (fun y => absurd hm (hG.1 k hk y))
  · have hRk : R k := hG.2.1 k hk hm
    refine br_f hm (yg_slots (by omega) (Exists.intro 3 (yf_141 (f := k % 2 = 1) hn hT he (by omega) (sz := lz_sl kd (k / 2)) (Nat.le_refl _) hw (fun s h => ?_) hz (lz_sl kd (k / 2)) 0 3 fl A (by omega) (by omega) hG (fun s h => absurd h (by omega)) (fun fl' A' a b c => ?_))))
    · exact hRs k _ hRk (lz_F_kx.mpr ⟨_, ⟨by omega, s, h, rfl⟩, rfl⟩)
    · rw [nI_1]
      exact hJ fl' A' a b (fun _ => c)
theorem yf_84 (hn : n ≤ 24) (hT : lz_TG n kd s0 s1) (he : e < 12) (hw : lz_W n e kd ax ay s0 s1 ea eb yn yv w G) (hRs : ∀ k k', R k → lz_F (lz_E n kd s0 s1) G k k' → R k') :
    ∀ (d k fuel : Nat) (fl : Int32) (A : Nat → Int32), k + d = 2 * n → d < fuel → lz_GI (2 * n) R A0 A fl → (∀ k', k' < k → lz_mk A0 k' → ∀ s, s < lz_sl kd (k' / 2) → lz_mk A (lz_kx G (k' % 2 = 1) (k' / 2) (lz_nx s0 s1 (k' / 2) s))) →
    (∀ (fl' : Int32) (A' : Nat → Int32), lz_GI (2 * n) R A0 A' fl' → (∀ k', k' < 2 * n → lz_mk A0 k' → ∀ s, s < lz_sl kd (k' / 2) → lz_mk A' (lz_kx G (k' % 2 = 1) (k' / 2) (lz_nx s0 s1 (k' / 2) s))) → J62 fl' (x5 + 1) kd ax ay s0 s1 eo ea eb pr ov wk os A' yn yv yw) →
    wY_follow_84 post J62 (nI e) w x5 nl vl el tl st (nI n) et vt oo fuel fl (nI k) kd ax ay s0 s1 eo ea eb pr ov wk os A yn yv yw := by
  have e2 : (2 : Int32) * nI n = nI (2 * n) := pk_mul 2 n
  intro d
  induction d with
  | zero =>
    intro k fuel fl A hk hf hG hD hJ
    obtain ⟨f', rfl⟩ : ∃ f', fuel = f' + 1 := ⟨fuel - 1, by omega⟩
    refine br_t ?_ (nm_e (hJ fl A hG (fun k' h' => hD k' (by omega))))
    rw [e2]; exact nI_le (by omega) (by omega)
  | succ d ih =>
    intro k fuel fl A hk hf hG hD hJ
    obtain ⟨f', rfl⟩ : ∃ f', fuel = f' + 1 := ⟨fuel - 1, by omega⟩
    have hJ' : ∀ (fl' : Int32) (A' : Nat → Int32), lz_GI (2 * n) R A0 A' fl' → (∀ k, k < 2 * n → lz_mk A k → lz_mk A' k) → (lz_mk A0 k → ∀ s, s < lz_sl kd (k / 2) → lz_mk A' (lz_kx G (k % 2 = 1) (k / 2) (lz_nx s0 s1 (k / 2) s))) → wY_follow_84 post J62 (nI e) w x5 nl vl el tl st (nI n) et vt oo f' fl' (nI (k + 1)) kd ax ay s0 s1 eo ea eb pr ov wk os A' yn yv yw := by
      intro fl' A' a b c
      refine ih (k + 1) f' fl' A' (by omega) (by omega) a (fun k' h' y s hs => ?_) hJ
      by_cases q : k' = k
      · subst q; exact c y s hs
      · exact b _ (lz_kx_lt (hT (k' / 2) s (by omega) hs).2) (hD k' (by omega) y s hs)
    refine br_f ?_ (nm_r (lz_half (by omega)) (br_c (fun z => ?_) (fun z => ?_)))
    · rw [e2]; exact nI_ge (by omega) (by omega)
    · exact yf_114 hn hT he (by omega) hw hRs (lz_b_t ((lz_odd (by omega)).mp z)).symm hG hJ'
    · exact yf_114 hn hT he (by omega) hw hRs (lz_b_f (fun y => z ((lz_odd (by omega)).mpr y))).symm hG hJ'
theorem yf_62 {st' : Nat} (hst : st' < 2 * n) (hn : n ≤ 24) (hT : lz_TG n kd s0 s1) (he : e < 12) (hw : lz_W n e kd ax ay s0 s1 ea eb yn yv w G) (hR : R = lz_R (lz_F (lz_E n kd s0 s1) G) lz_no st') (h : ∀ A', (∀ k, k < 2 * n → (lz_mk A' k ↔ R k)) → post (nl, vl, el, tl, st, nI n, et, vt, oo, kd, ax, ay, s0, s1, eo, ea, eb, pr, ov, wk, os, A', yn, yv, yw)) :
    ∀ (d r fuel : Nat) (fl : Int32) (A : Nat → Int32), r + d = 2 * n → d < fuel → lz_GO (2 * n) R 1 r fl A → lz_mk A st' → wY_follow_62 post (nI e) w nl vl el tl st (nI n) et vt oo fuel fl (nI r) kd ax ay s0 s1 eo ea eb pr ov wk os A yn yv yw := by
  have e2 : (2 : Int32) * nI n = nI (2 * n) := pk_mul 2 n
  have hRs : ∀ k k', R k → lz_F (lz_E n kd s0 s1) G k k' → R k' := by rw [hR]; exact fun i j a b => lz_Rs a b (lz_no' _)
  intro d
  induction d with
  | zero =>
    intro r fuel fl A hr hf hG hi
    obtain ⟨f', rfl⟩ : ∃ f', fuel = f' + 1 := ⟨fuel - 1, by omega⟩
    refine br_t ?_ (h A (lz_GO_end hG (Or.inl (by omega))))
    rw [e2]; exact nI_le (by omega) (by omega)
  | succ d ih =>
    intro r fuel fl A hr hf hG hi
    obtain ⟨f', rfl⟩ : ∃ f', fuel = f' + 1 := ⟨fuel - 1, by omega⟩
    refine br_f ?_ (br_c (fun z => h A (lz_GO_end hG (Or.inr z))) (fun z => ?_))
    · rw [e2]; exact nI_ge (by omega) (by omega)
    refine Exists.intro (2 * n + 1) (yf_84 (A0 := A) hn hT he hw hRs (2 * n) 0 (2 * n + 1) 0 A (by omega) (by omega) (lz_GI_0 hG.1) (fun i h => absurd h (by omega)) ?_)
    intro fl' A' g c
    rw [nI_1]
    refine ih (r + 1) f' fl' A' (by omega) (by omega) (lz_GO_s hG g ?_) (g.1 st' hst hi)
    intro hsame k hk hRk
    rw [hR] at hRk
    refine hRk (fun k => k < 2 * n → lz_mk A' k) (fun _ _ => g.1 st' hst hi) ?_ hk
    intro k k' hS hF _ hk'
    obtain ⟨t, ⟨hin, s, hs, rfl⟩, rfl⟩ := lz_F_kx.mp hF
    exact c k (by omega) (hsame k (by omega) (hS (by omega))) s hs
theorem yf_40 {st' : Nat} (h2 : st' < 2) (h0 : 0 < n) (hn : n ≤ 24) (hT : lz_TG n kd s0 s1) (he : e < 12) (hw : lz_W n e kd ax ay s0 s1 ea eb yn yv w G) {z : Int32} (hz : z = nI st') {A : Nat → Int32} (hA : ∀ j, j < 48 → A j = 0)
    (h : ∀ A', (∀ k, k < 2 * n → (lz_mk A' k ↔ lz_R (lz_F (lz_E n kd s0 s1) G) lz_no st' k)) → post (nl, vl, el, tl, st, nI n, et, vt, oo, kd, ax, ay, s0, s1, eo, ea, eb, pr, ov, wk, os, A', yn, yv, yw)) : wY_follow_40 post (nI e) w z nl vl el tl st (nI n) et vt oo kd ax ay s0 s1 eo ea eb pr ov wk os A yn yv yw := by
  have hm : lz_mk (upd A st' 1) st' := by unfold lz_mk; rw [pk_us]; decide
  have hG : lz_GO (2 * n) (lz_R (lz_F (lz_E n kd s0 s1) G) lz_no st') 1 0 1 (upd A st' 1) := by
    refine ⟨fun k hk y => ?_, fun y => absurd y (by decide), Or.inr (lz_cn_pos hm (by omega))⟩
    by_cases q : k = st'
    · subst q; exact lz_R0 (lz_no' _)
    · unfold lz_mk at y; rw [pk_un q] at y; exact absurd (hA k (by omega)) y
  unfold wY_follow_40
  by_cases q : st' = 0
  · subst q
    exact br_t hz (nm_e (Exists.intro (2 * n + 1) (yf_62 (st' := 0) (by omega) hn hT he hw rfl h (2 * n) 0 (2 * n + 1) 1 (upd A 0 1) (by omega) (by omega) hG hm)))
  · have q1 : st' = 1 := by omega
    subst q1
    exact br_f (by rw [hz]; decide) (nm_e (Exists.intro (2 * n + 1) (yf_62 (st' := 1) (by omega) hn hT he hw rfl h (2 * n) 0 (2 * n + 1) 1 (upd A 1 1) (by omega) (by omega) hG hm)))
theorem yf_2 (hk : ∀ A, (∀ j, j < 48 → A j = 0) → (((x2 = 0 → (wY_follow_39 post x1 x2 nl vl el tl st nt et vt oo kd ax ay s0 s1 eo ea eb pr ov wk os A yn yv yw)) ∧ (¬ x2 = 0 → (wpY_isFirst (fun r_189 => (((r_189 = 0 → (wY_follow_39 post x1 x2 nl vl el tl st nt et vt oo kd ax ay s0 s1 eo ea eb pr ov wk os A yn yv yw)) ∧ (¬ r_189 = 0 → (wY_follow_40 post x1 x2 1 nl vl el tl st nt et vt oo kd ax ay s0 s1 eo ea eb pr ov wk os A yn yv yw))))) (nl, vl, el, tl, st, nt, et, vt, oo, kd, ax, ay, s0, s1, eo, ea, eb, pr, ov, wk, os, A, yn, yv, yw) (-1) 0 x1))))) :
    ∀ (d k fuel : Nat) (A : Nat → Int32), k + d = 48 → d < fuel → (∀ j, j < k → A j = 0) → wY_follow_2 post x1 x2 nl vl el tl st nt et vt oo fuel (nI k) kd ax ay s0 s1 eo ea eb pr ov wk os A yn yv yw := by
  intro d
  induction d with
  | zero =>
    intro k fuel A hd hf hA
    obtain ⟨f', rfl⟩ : ∃ f', fuel = f' + 1 := ⟨fuel - 1, by omega⟩
    exact br_t (nI_le (a := 48) (by omega) (by omega)) (hk A (fun j hj => hA j (by omega)))
  | succ d ih =>
    intro k fuel A hd hf hA
    obtain ⟨f', rfl⟩ : ∃ f', fuel = f' + 1 := ⟨fuel - 1, by omega⟩
    have e2 : (nI k).toNatClampNeg = k := nI_clamp (by omega)
    refine br_f (nI_ge (b := 48) (by omega) (by omega)) (And.intro (vp_in_nI (by omega) (by decide)) ?_)
    rw [e2]
    refine nm_e (nm_r (nI_1 k) (ih (k + 1) f' (upd A k 0) (by omega) (by omega) (fun j hj => ?_)))
    by_cases z : j = k
    · subst z; exact pk_us
    · rw [pk_un z]; exact hA j (by omega)
theorem yg_follow0 (h0 : 0 < n) (hn : n ≤ 24) (hT : lz_TG n kd s0 s1) (he : e < 12)
    (h : ∀ A', (∀ k, k < 2 * n → (lz_mk A' k ↔ lz_R (lz_F (lz_E n kd s0 s1) (fun f m _ => (f ∨ lz_C kd ay (nI e) m) ∧ ¬ lz_H kd ax ea eb e m)) lz_no 0 k)) → post (nl, vl, el, tl, st, nI n, et, vt, oo, kd, ax, ay, s0, s1, eo, ea, eb, pr, ov, wk, os, A', yn, yv, yw)) : wpY_follow post (nl, vl, el, tl, st, nI n, et, vt, oo, kd, ax, ay, s0, s1, eo, ea, eb, pr, ov, wk, os, mk, yn, yv, yw) (nI e) 0 := by
  refine Exists.intro 49 (yf_2 (fun A hA => br_t rfl ?_) 48 0 49 mk (by omega) (by omega) (fun j hj => absurd hj (by omega)))
  exact yf_40 (st' := 0) (by omega) h0 hn hT he (Or.inl ⟨rfl, rfl⟩) rfl hA h
theorem yg_follow1 {NA NV : Nat → Prop} {st' : Nat} (hs0 : NA 0 → st' = 0) (hs1 : ¬ NA 0 → st' = 1) (h0 : 0 < n) (hn : n ≤ 24) (hT : lz_TG n kd s0 s1) (he : e < 12) (hyn : ∀ k, k < n → yn k = lz_b (¬ NA k)) (hyv : ∀ k, k < n → yv k = lz_b (¬ NV k))
    (h : ∀ A', (∀ k, k < 2 * n → (lz_mk A' k ↔ lz_R (lz_F (lz_E n kd s0 s1) (fun f m t => (f ∧ ¬ lz_C kd ay (nI e) m) ∨ lz_First (lz_E n kd s0 s1) (lz_C kd ay (nI e)) (lz_H kd ax ea eb e) NA NV m t)) lz_no st' k)) → post (nl, vl, el, tl, st, nI n, et, vt, oo, kd, ax, ay, s0, s1, eo, ea, eb, pr, ov, wk, os, A', yn, yv, yw)) : wpY_follow post (nl, vl, el, tl, st, nI n, et, vt, oo, kd, ax, ay, s0, s1, eo, ea, eb, pr, ov, wk, os, mk, yn, yv, yw) (nI e) 1 := by
  refine Exists.intro 49 (yf_2 (fun A hA => br_f (by decide) ?_) 48 0 49 mk (by omega) (by omega) (fun j hj => absurd hj (by omega)))
  have hW : lz_W n e kd ax ay s0 s1 ea eb yn yv 1 (fun f m t => (f ∧ ¬ lz_C kd ay (nI e) m) ∨ lz_First (lz_E n kd s0 s1) (lz_C kd ay (nI e)) (lz_H kd ax ea eb e) NA NV m t) := Or.inr ⟨rfl, NA, NV, hyn, hyv, rfl⟩
  refine yg_isFirst0 (NA := NA) (t := 0) hn h0 hyn (lz_br (fun z => ?_) (fun z => ?_))
  · have e0 := hs0 (Classical.byContradiction z)
    subst e0
    exact yf_40 (st' := 0) (by omega) h0 hn hT he hW rfl hA h
  · have e1 := hs1 z
    subst e1
    exact yf_40 (st' := 1) (by omega) h0 hn hT he hW rfl hA h
end
end
section
/-! the sets of one expression, and the reference's solve, isPlaced, placedAt -/
def lz_xNA (n : Nat) (kd ax ay s0 s1 ea eb : Nat → Int32) (e : Nat) : Nat → Prop := lz_NA (lz_E n kd s0 s1) (lz_C kd ay (nI e)) (fun i => kd i = 6 ∨ lz_H kd ax ea eb e i)
def lz_xNV (n : Nat) (kd ax ay s0 s1 ea eb : Nat → Int32) (e : Nat) : Nat → Prop := lz_NV (lz_E n kd s0 s1) (lz_C kd ay (nI e)) (lz_H kd ax ea eb e)
def lz_xF (n : Nat) (kd ax ay s0 s1 ea eb : Nat → Int32) (e : Nat) : Nat → Nat → Prop := lz_First (lz_E n kd s0 s1) (lz_C kd ay (nI e)) (lz_H kd ax ea eb e) (lz_xNA n kd ax ay s0 s1 ea eb e) (lz_xNV n kd ax ay s0 s1 ea eb e)
def lz_xNW (n : Nat) (kd ax ay s0 s1 ea eb : Nat → Int32) (e : Nat) : Nat → Prop := lz_NW (lz_E n kd s0 s1) (lz_C kd ay (nI e)) (lz_xNA n kd ax ay s0 s1 ea eb e 0) (lz_xF n kd ax ay s0 s1 ea eb e)
def lz_xP (n : Nat) (kd ax ay s0 s1 ea eb : Nat → Int32) (e i t : Nat) : Prop := lz_xNW n kd ax ay s0 s1 ea eb e t ∧ (lz_xF n kd ax ay s0 s1 ea eb e i t ∨ (¬ lz_xNW n kd ax ay s0 s1 ea eb e i ∧ ¬ lz_C kd ay (nI e) i))
def lz_xP0 (n : Nat) (kd ax ay s0 s1 ea eb : Nat → Int32) (e : Nat) : Prop := lz_xNW n kd ax ay s0 s1 ea eb e 0 ∧ ¬ lz_xNA n kd ax ay s0 s1 ea eb e 0
def lz_AR (n : Nat) (kd s0 s1 : Nat → Int32) : Prop := ∀ i, i < n → lz_R (lz_E n kd s0 s1) lz_no 0 i
theorem lz_R_lt {n a k : Nat} {kd s0 s1 : Nat → Int32} {C : Nat → Prop} (hT : lz_TG n kd s0 s1) (ha : a < n) (h : lz_R (lz_E n kd s0 s1) C a k) : k < n := by
  refine h (fun k => k < n) (fun _ => ha) ?_
  rintro i j _ ⟨hi, s, hs, rfl⟩ _
  exact (hT i s hi hs).2
/-- the three arrays that solve fills -/
def lz_YS (n : Nat) (kd ax ay s0 s1 ea eb : Nat → Int32) (e : Nat) (yn yv yw : Nat → Int32) : Prop :=
  (∀ k, k < n → yn k = lz_b (¬ lz_xNA n kd ax ay s0 s1 ea eb e k)) ∧ (∀ k, k < n → yv k = lz_b (¬ lz_xNV n kd ax ay s0 s1 ea eb e k)) ∧ (∀ k, k < n → yw k = lz_b (¬ lz_xNW n kd ax ay s0 s1 ea eb e k))
section
variable {nl vl el tl st nt et vt oo : Int32} {kd ax ay s0 s1 eo ea eb pr ov wk os mk yn yv yw : Nat → Int32}
variable {post : SY → Prop} {J2 : Int32 → Int32 → Int32 → Int32 → Int32 → Int32 → Int32 → Int32 → Int32 → Int32 → (Nat → Int32) → (Nat → Int32) → (Nat → Int32) → (Nat → Int32) → (Nat → Int32) → (Nat → Int32) → (Nat → Int32) → (Nat → Int32) → (Nat → Int32) → (Nat → Int32) → (Nat → Int32) → (Nat → Int32) → (Nat → Int32) → (Nat → Int32) → (Nat → Int32) → (Nat → Int32) → Prop} {n i e : Nat}
theorem ys_25 (hn : n ≤ 24) (he : e < 12) (hi : i < n) (hJ : ∀ B', (∀ k, k ≠ i → B' k = yn k) → B' i = lz_b (¬ ∃ j, j < n ∧ lz_mk mk j ∧ (kd j = 6 ∨ lz_H kd ax ea eb e j)) → J2 (nI (i + 1)) nl vl el tl st (nI n) et vt oo kd ax ay s0 s1 eo ea eb pr ov wk os mk B' yv yw) :
    ∀ (d j fuel : Nat) (B : Nat → Int32), j + d = n → d < fuel → (∀ k, k ≠ i → B k = yn k) → B i = lz_b (¬ ∃ j', j' < j ∧ lz_mk mk j' ∧ (kd j' = 6 ∨ lz_H kd ax ea eb e j')) →
    wY_solve_25 post J2 (nI e) (nI i) nl vl el tl st (nI n) et vt oo fuel (nI j) kd ax ay s0 s1 eo ea eb pr ov wk os mk B yv yw := by
  have e1 : (nI i).toNatClampNeg = i := nI_clamp (by omega)
  have w1 : vp_in (nI i) 24 := vp_in_nI (by omega) (by decide)
  intro d
  induction d with
  | zero =>
    intro j fuel B hj hf h1 h2
    obtain ⟨f, rfl⟩ : ∃ f, fuel = f + 1 := ⟨fuel - 1, by omega⟩
    have hjn : j = n := by omega
    subst hjn
    exact br_t (nI_le (by omega) (by omega)) (nm_r (nI_1 i) (hJ B h1 h2))
  | succ d ih =>
    intro j fuel B hj hf h1 h2
    obtain ⟨f, rfl⟩ : ∃ f, fuel = f + 1 := ⟨fuel - 1, by omega⟩
    have e2 : (nI j).toNatClampNeg = j := nI_clamp (by omega)
    have keep : ¬ (lz_mk mk j ∧ (kd j = 6 ∨ lz_H kd ax ea eb e j)) → wY_solve_25 post J2 (nI e) (nI i) nl vl el tl st (nI n) et vt oo f (nI (j + 1)) kd ax ay s0 s1 eo ea eb pr ov wk os mk B yv yw := by
      intro z
      refine ih (j + 1) f B (by omega) (by omega) h1 (h2.trans (lz_b_eq ⟨fun y => ?_, fun y => ?_⟩))
      · rintro ⟨j', a, b⟩
        by_cases q : j' = j
        · subst q; exact z b
        · exact y ⟨j', by omega, b⟩
      · rintro ⟨j', a, b⟩; exact y ⟨j', by omega, b⟩
    have bad : lz_mk mk j ∧ (kd j = 6 ∨ lz_H kd ax ea eb e j) → wY_solve_25 post J2 (nI e) (nI i) nl vl el tl st (nI n) et vt oo f (nI (j + 1)) kd ax ay s0 s1 eo ea eb pr ov wk os mk (upd B i 0) yv yw := by
      intro z
      refine ih (j + 1) f (upd B i 0) (by omega) (by omega) (fun k hk => ?_) ?_
      · rw [pk_un hk]; exact h1 k hk
      · rw [pk_us]; exact (lz_b_f (fun y => y ⟨j, by omega, z⟩)).symm
    refine br_f (nI_ge (by omega) (by omega)) (And.intro (vp_in_nI (by omega) (by decide)) ?_)
    rw [e1, e2]
    refine br_c (fun z => nm_r (nI_1 j) (keep (fun y => y.1 z))) (fun z => And.intro (vp_in_nI (by omega) (by decide)) ?_)
    refine br_c (fun y => And.intro w1 (nm_e (nm_r (nI_1 j) (bad ⟨z, Or.inl y⟩)))) (fun y => yg_changes (by omega) he (lz_br (fun q => nm_r (nI_1 j) (keep (fun p => p.2.elim y q))) (fun q => And.intro w1 (nm_e (nm_r (nI_1 j) (bad ⟨z, Or.inr q⟩))))))
theorem ys_133 (hn : n ≤ 24) (hk : ∀ B', (∀ k, k < n → B' k = lz_b (¬ lz_mk mk (2 * k))) → post (nl, vl, el, tl, st, nI n, et, vt, oo, kd, ax, ay, s0, s1, eo, ea, eb, pr, ov, wk, os, mk, yn, yv, B')) :
    ∀ (d j fuel : Nat) (B : Nat → Int32), j + d = n → d < fuel → (∀ k, k < j → B k = lz_b (¬ lz_mk mk (2 * k))) → wY_solve_133 post nl vl el tl st (nI n) et vt oo fuel (nI j) kd ax ay s0 s1 eo ea eb pr ov wk os mk yn yv B := by
  intro d
  induction d with
  | zero =>
    intro j fuel B hj hf h1
    obtain ⟨f, rfl⟩ : ∃ f, fuel = f + 1 := ⟨fuel - 1, by omega⟩
    exact br_t (nI_le (by omega) (by omega)) (hk B (fun k hk => h1 k (by omega)))
  | succ d ih =>
    intro j fuel B hj hf h1
    obtain ⟨f, rfl⟩ : ∃ f, fuel = f + 1 := ⟨fuel - 1, by omega⟩
    have e0 : (2 : Int32) * nI j = nI (2 * j) := pk_mul 2 j
    have e1 : (nI j).toNatClampNeg = j := nI_clamp (by omega)
    have e2 : (nI (2 * j)).toNatClampNeg = 2 * j := nI_clamp (by omega)
    have w1 : vp_in (nI j) 24 := vp_in_nI (by omega) (by decide)
    have go : ∀ v, v = lz_b (¬ lz_mk mk (2 * j)) → wY_solve_133 post nl vl el tl st (nI n) et vt oo f (nI (j + 1)) kd ax ay s0 s1 eo ea eb pr ov wk os mk yn yv (upd B j v) := by
      intro v hv
      refine ih (j + 1) f _ (by omega) (by omega) (fun k hk => ?_)
      by_cases z : k = j
      · subst z; rw [pk_us]; exact hv
      · rw [pk_un z]; exact h1 k (by omega)
    refine br_f (nI_ge (by omega) (by omega)) ?_
    rw [e0, e2, e1]
    refine And.intro (vp_in_nI (by omega) (by decide)) (br_c (fun z => And.intro w1 (nm_e (nm_r (nI_1 j) (go 1 ?_)))) (fun z => And.intro w1 (nm_e (nm_r (nI_1 j) (go 0 ?_)))))
    · exact (lz_b_t (fun y => y z)).symm
    · exact (lz_b_f (fun y => y z)).symm
theorem ys_89 (hn : n ≤ 24) (hk : ∀ B', (∀ k, k < n → B' k = lz_b (¬ lz_mk mk (2 * k))) → wpY_follow (fun u => match u with | (nl, vl, el, tl, st, nt, et, vt, oo, kd, ax, ay, s0, s1, eo, ea, eb, pr, ov, wk, os, mk, yn, yv, yw) => (∃ n133 : Nat, wY_solve_133 post nl vl el tl st nt et vt oo n133 0 kd ax ay s0 s1 eo ea eb pr ov wk os mk yn yv yw)) (nl, vl, el, tl, st, nI n, et, vt, oo, kd, ax, ay, s0, s1, eo, ea, eb, pr, ov, wk, os, mk, yn, B', yw) (nI e) 1) :
    ∀ (d j fuel : Nat) (B : Nat → Int32), j + d = n → d < fuel → (∀ k, k < j → B k = lz_b (¬ lz_mk mk (2 * k))) → wY_solve_89 post (nI e) nl vl el tl st (nI n) et vt oo fuel (nI j) kd ax ay s0 s1 eo ea eb pr ov wk os mk yn B yw := by
  intro d
  induction d with
  | zero =>
    intro j fuel B hj hf h1
    obtain ⟨f, rfl⟩ : ∃ f, fuel = f + 1 := ⟨fuel - 1, by omega⟩
    exact br_t (nI_le (by omega) (by omega)) (hk B (fun k hk => h1 k (by omega)))
  | succ d ih =>
    intro j fuel B hj hf h1
    obtain ⟨f, rfl⟩ : ∃ f, fuel = f + 1 := ⟨fuel - 1, by omega⟩
    have e0 : (2 : Int32) * nI j = nI (2 * j) := pk_mul 2 j
    have e1 : (nI j).toNatClampNeg = j := nI_clamp (by omega)
    have e2 : (nI (2 * j)).toNatClampNeg = 2 * j := nI_clamp (by omega)
    have w1 : vp_in (nI j) 24 := vp_in_nI (by omega) (by decide)
    have go : ∀ v, v = lz_b (¬ lz_mk mk (2 * j)) → wY_solve_89 post (nI e) nl vl el tl st (nI n) et vt oo f (nI (j + 1)) kd ax ay s0 s1 eo ea eb pr ov wk os mk yn (upd B j v) yw := by
      intro v hv
      refine ih (j + 1) f _ (by omega) (by omega) (fun k hk => ?_)
      by_cases z : k = j
      · subst z; rw [pk_us]; exact hv
      · rw [pk_un z]; exact h1 k (by omega)
    refine br_f (nI_ge (by omega) (by omega)) ?_
    rw [e0, e2, e1]
    refine And.intro (vp_in_nI (by omega) (by decide)) (br_c (fun z => And.intro w1 (nm_e (nm_r (nI_1 j) (go 1 ?_)))) (fun z => And.intro w1 (nm_e (nm_r (nI_1 j) (go 0 ?_)))))
    · exact (lz_b_t (fun y => y z)).symm
    · exact (lz_b_f (fun y => y z)).symm
theorem ys_end (h0 : 0 < n) (hn : n ≤ 24) (hT : lz_TG n kd s0 s1) (hA : lz_AR n kd s0 s1) (he : e < 12) (hyn : ∀ k, k < n → yn k = lz_b (¬ lz_xNA n kd ax ay s0 s1 ea eb e k))
    (h : ∀ mk' yv' yw', lz_YS n kd ax ay s0 s1 ea eb e yn yv' yw' → post (nl, vl, el, tl, st, nI n, et, vt, oo, kd, ax, ay, s0, s1, eo, ea, eb, pr, ov, wk, os, mk', yn, yv', yw')) :
    wpY_follow (fun u => match u with | (nl, vl, el, tl, st, nt, et, vt, oo, kd, ax, ay, s0, s1, eo, ea, eb, pr, ov, wk, os, mk, yn, yv, yw) => (∃ n89 : Nat, wY_solve_89 post (nI e) nl vl el tl st nt et vt oo n89 0 kd ax ay s0 s1 eo ea eb pr ov wk os mk yn yv yw)) (nl, vl, el, tl, st, nI n, et, vt, oo, kd, ax, ay, s0, s1, eo, ea, eb, pr, ov, wk, os, mk, yn, yv, yw) (nI e) 0 := by
  have hr : ∀ i j, lz_E n kd s0 s1 i j → lz_R (lz_E n kd s0 s1) lz_no 0 i := fun i j z => hA i z.1
  obtain ⟨st', hs0, hs1⟩ : ∃ st' : Nat, (lz_xNA n kd ax ay s0 s1 ea eb e 0 → st' = 0) ∧ (¬ lz_xNA n kd ax ay s0 s1 ea eb e 0 → st' = 1) := by
    rcases Classical.em (lz_xNA n kd ax ay s0 s1 ea eb e 0) with z | z
    · exact ⟨0, fun _ => rfl, fun y => absurd z y⟩
    · exact ⟨1, fun y => absurd y z, fun _ => rfl⟩
  refine yg_follow0 h0 hn hT he (fun A1 hA1 => ?_)
  refine Exists.intro (n + 1) (ys_89 hn (fun B hB => ?_) n 0 (n + 1) yv (by omega) (by omega) (fun k hk => absurd hk (by omega)))
  have hyv : ∀ k, k < n → B k = lz_b (¬ lz_xNV n kd ax ay s0 s1 ea eb e k) := by
    intro k hk
    rw [hB k hk]
    exact lz_b_eq (not_congr ((hA1 (2 * k) (by omega)).trans (lz_NV_F hr).symm))
  refine yg_follow1 hs0 hs1 h0 hn hT he hyn hyv (fun A2 hA2 => ?_)
  refine Exists.intro (n + 1) (ys_133 hn (fun B2 hB2 => ?_) n 0 (n + 1) yw (by omega) (by omega) (fun k hk => absurd hk (by omega)))
  refine h A2 B B2 ⟨hyn, hyv, fun k hk => ?_⟩
  rw [hB2 k hk]
  exact lz_b_eq (not_congr ((hA2 (2 * k) (by omega)).trans (lz_NW_F hr hs0 hs1).symm))
theorem ys_2 (h0 : 0 < n) (hn : n ≤ 24) (hT : lz_TG n kd s0 s1) (hA : lz_AR n kd s0 s1) (he : e < 12)
    (h : ∀ mk' yn' yv' yw', lz_YS n kd ax ay s0 s1 ea eb e yn' yv' yw' → post (nl, vl, el, tl, st, nI n, et, vt, oo, kd, ax, ay, s0, s1, eo, ea, eb, pr, ov, wk, os, mk', yn', yv', yw')) :
    ∀ (d i fuel : Nat) (mk' yn' : Nat → Int32), i + d = n → d < fuel → (∀ k, k < i → yn' k = lz_b (¬ lz_xNA n kd ax ay s0 s1 ea eb e k)) → wY_solve_2 post (nI e) fuel (nI i) nl vl el tl st (nI n) et vt oo kd ax ay s0 s1 eo ea eb pr ov wk os mk' yn' yv yw := by
  intro d
  induction d with
  | zero =>
    intro i fuel mk' yn' hi hf hB
    obtain ⟨f, rfl⟩ : ∃ f, fuel = f + 1 := ⟨fuel - 1, by omega⟩
    exact br_t (nI_le (by omega) (by omega)) (ys_end h0 hn hT hA he (fun k hk => hB k (by omega)) (fun mk' yv' yw' q => h mk' yn' yv' yw' q))
  | succ d ih =>
    intro i fuel mk' yn' hi hf hB
    obtain ⟨f, rfl⟩ : ∃ f, fuel = f + 1 := ⟨fuel - 1, by omega⟩
    have e1 : (nI i).toNatClampNeg = i := nI_clamp (by omega)
    refine br_f (nI_ge (by omega) (by omega)) (yg_reach (by omega) hn hT (fun A hA => ?_))
    refine And.intro (vp_in_nI (by omega) (by decide)) ?_
    rw [e1]
    refine nm_e (Exists.intro (n + 1) (ys_25 (yn := yn') hn he (by omega) (fun B' b1 b2 => ?_) n 0 (n + 1) (upd yn' i 1) (by omega) (by omega) (fun k hk => pk_un hk) ?_))
    · refine ih (i + 1) f A B' (by omega) (by omega) (fun k hk => ?_)
      by_cases z : k = i
      · subst z
        rw [b2]
        refine lz_b_eq (not_congr ?_)
        unfold lz_xNA
        rw [lz_NA_R]
        constructor
        · rintro ⟨j, a, b, c⟩; exact ⟨j, (hA j a).mp b, c⟩
        · rintro ⟨j, a, b⟩; exact ⟨j, lz_R_lt hT (by omega) a, (hA j (lz_R_lt hT (by omega) a)).mpr a, b⟩
      · rw [b1 k z]; exact hB k (by omega)
    · rw [pk_us]
      exact (lz_b_t (fun ⟨j, a, _⟩ => by omega)).symm
theorem yg_solve (h0 : 0 < n) (hn : n ≤ 24) (hT : lz_TG n kd s0 s1) (hA : lz_AR n kd s0 s1) (he : e < 12)
    (h : ∀ mk' yn' yv' yw', lz_YS n kd ax ay s0 s1 ea eb e yn' yv' yw' → post (nl, vl, el, tl, st, nI n, et, vt, oo, kd, ax, ay, s0, s1, eo, ea, eb, pr, ov, wk, os, mk', yn', yv', yw')) : wpY_solve post (nl, vl, el, tl, st, nI n, et, vt, oo, kd, ax, ay, s0, s1, eo, ea, eb, pr, ov, wk, os, mk, yn, yv, yw) (nI e) :=
  Exists.intro (n + 1) (ys_2 h0 hn hT hA he h n 0 (n + 1) mk yn (by omega) (by omega) (fun k hk => absurd hk (by omega)))
end
section
variable {nl vl el tl st nt et vt oo : Int32} {kd ax ay s0 s1 eo ea eb pr ov wk os mk yn yv yw : Nat → Int32}
variable {post : Int32 → Prop} {n i t e : Nat}
theorem yg_isPlaced (hn : n ≤ 24) (hT : lz_TG n kd s0 s1) (he : e < 12) (hi : i < n) (ht : t < n) (hS : lz_YS n kd ax ay s0 s1 ea eb e yn yv yw)
    (h : post (lz_b (lz_xP n kd ax ay s0 s1 ea eb e i t))) : wpY_isPlaced post (nl, vl, el, tl, st, nt, et, vt, oo, kd, ax, ay, s0, s1, eo, ea, eb, pr, ov, wk, os, mk, yn, yv, yw) (nI i) (nI t) (nI e) := by
  have e1 : (nI i).toNatClampNeg = i := nI_clamp (by omega)
  have e2 : (nI t).toNatClampNeg = t := nI_clamp (by omega)
  refine And.intro (vp_in_nI (by omega) (by decide)) ?_
  rw [e1, e2, hS.2.2 t ht, hS.2.2 i hi]
  refine lz_br (fun z => yg_isFirst hn hT he hi ht hS.1 hS.2.1 (lz_br (fun y => br_f (nI_pos (by omega)) (And.intro (vp_in_nI (by omega) (by decide)) ?_)) (fun y => ?_))) (fun z => ?_)
  · refine lz_br (fun x => ?_) (fun x => yg_computes (by omega) (lz_br (fun c => ?_) (fun c => ?_)))
    · rw [lz_b_f (fun p => p.2.elim y (fun q => x q.1))] at h; exact h
    · rw [lz_b_t ⟨Classical.byContradiction z, Or.inr ⟨x, c⟩⟩] at h; exact h
    · rw [lz_b_f (fun p => p.2.elim y (fun q => q.2 c))] at h; exact h
  · rw [lz_b_t ⟨Classical.byContradiction z, Or.inl y⟩] at h; exact h
  · rw [lz_b_f (fun p => z p.1)] at h; exact h
theorem yg_isPlaced0 {x : Int32} (hn : n ≤ 24) (h0 : 0 < n) (hS : lz_YS n kd ax ay s0 s1 ea eb e yn yv yw) {y : Int32} (hy : y = 0)
    (h : post (lz_b (lz_xP0 n kd ax ay s0 s1 ea eb e))) : wpY_isPlaced post (nl, vl, el, tl, st, nt, et, vt, oo, kd, ax, ay, s0, s1, eo, ea, eb, pr, ov, wk, os, mk, yn, yv, yw) (-1) y x := by
  subst hy
  refine And.intro (vp_in_nI (n := 0) (by omega) (by decide)) ?_
  rw [show (0 : Int32).toNatClampNeg = 0 from rfl, hS.2.2 0 h0]
  refine lz_br (fun z => yg_isFirst0 (t := 0) hn h0 hS.1 (lz_br (fun y => br_t (by decide) ?_) (fun y => ?_))) (fun z => ?_)
  · rw [lz_b_f (fun p => y p.2)] at h; exact h
  · rw [lz_b_t ⟨Classical.byContradiction z, y⟩] at h; exact h
  · rw [lz_b_f (fun p => z p.1)] at h; exact h
/-- the edge that was passed to make visit j of the walk w places e -/
def lz_xA (n : Nat) (kd ax ay s0 s1 ea eb : Nat → Int32) (w : Nat → Nat) (e j : Nat) : Prop :=
  if j = 0 then lz_xP0 n kd ax ay s0 s1 ea eb e else lz_xP n kd ax ay s0 s1 ea eb e (w (j - 1)) (w j)
theorem yg_placedAt {j N : Nat} {w : Nat → Nat} (hn : n ≤ 24) (h0 : 0 < n) (hT : lz_TG n kd s0 s1) (he : e < 12) (hN : N ≤ 240) (hj : j < N) (hw : ∀ k, k < N → wk k = nI (w k) ∧ w k < n) (hw0 : w 0 = 0) (hS : lz_YS n kd ax ay s0 s1 ea eb e yn yv yw)
    (h : post (lz_b (lz_xA n kd ax ay s0 s1 ea eb w e j))) : wpY_placedAt post (nl, vl, el, tl, st, nt, et, vt, oo, kd, ax, ay, s0, s1, eo, ea, eb, pr, ov, wk, os, mk, yn, yv, yw) (nI j) (nI e) := by
  have e1 : (nI j).toNatClampNeg = j := nI_clamp (by omega)
  unfold lz_xA at h
  by_cases z : j = 0
  · subst z
    rw [if_pos rfl] at h
    refine br_t rfl ?_
    unfold wY_placedAt_16
    refine And.intro (vp_in_nI (by omega) (by decide)) ?_
    rw [e1]
    exact yg_isPlaced0 (x := nI e) hn h0 hS (by rw [(hw 0 hj).1, hw0]; rfl) (And.intro (lz_b_nar _) h)
  · rw [if_neg z] at h
    have e3 : nI j - 1 = nI (j - 1) := by
      obtain ⟨q, rfl⟩ : ∃ q, j = q + 1 := ⟨j - 1, by omega⟩
      exact nI_pred q
    have e4 : (nI (j - 1)).toNatClampNeg = j - 1 := nI_clamp (by omega)
    have h1 := hw (j - 1) (by omega)
    have h2 := hw j hj
    refine br_f (nI_ne0 (by omega) (by omega)) ?_
    unfold wY_placedAt_16
    rw [e3, e4, e1, h1.1, h2.1]
    refine And.intro (vp_in_nI (by omega) (by decide)) (And.intro (vp_in_nI (by omega) (by decide)) ?_)
    exact yg_isPlaced hn hT he h1.2 h2.2 hS (And.intro (lz_b_nar _) h)
end
end
section
/-! the component's checks of seal -/
def lz_AT (n : Nat) (kd s0 s1 : Nat → Int32) : Prop := ∀ i s, i < n → s < lz_sl kd i → lz_tg s0 s1 i s < nI n
def lz_WT (n : Nat) (s0 s1 : Nat → Int32) : Prop := ∀ i, i < n → (∃ t, t ≤ 24 ∧ s0 i = nI t) ∧ (∃ t, t ≤ 24 ∧ s1 i = nI t)
def lz_AE (n : Nat) (kd s0 s1 : Nat → Int32) : Prop := ∀ i, i < n → lz_NA (lz_E n kd s0 s1) lz_no (fun j => kd j = 6) i
theorem lz_TG_of {n : Nat} {kd s0 s1 : Nat → Int32} (hn : n ≤ 24) (hW : lz_WT n s0 s1) (hA : lz_AT n kd s0 s1) : lz_TG n kd s0 s1 := by
  intro i s hi hs
  have h := hA i s hi hs
  obtain ⟨⟨t, a, b⟩, t', a', b'⟩ := hW i hi
  unfold lz_nx
  unfold lz_tg at *
  by_cases z : s = 0
  · rw [if_pos z] at *
    rw [b] at h ⊢
    rw [nI_clamp (by omega)]
    exact ⟨rfl, (nI_ltI (by omega) (by omega)).mp h⟩
  · rw [if_neg z] at *
    rw [b'] at h ⊢
    rw [nI_clamp (by omega)]
    exact ⟨rfl, (nI_ltI (by omega) (by omega)).mp h⟩
theorem lz_meet {x y : Int32} : (x &&& y) = 0 ↔ ∀ k, k < 32 → ¬ (bt x k = true ∧ bt y k = true) := by
  constructor
  · intro h k hk z
    have q : bt (x &&& y) k = false := by rw [h, b_0]
    rw [b_and, z.1, z.2] at q
    exact absurd q (by decide)
  · intro h
    apply b_ext
    intro k hk
    rw [b_and, b_0]
    have q := h k hk
    cases a : bt x k
    · rfl
    · cases b : bt y k
      · rfl
      · exact absurd ⟨a, b⟩ q
def lz_ba (x : Int32) (k : Nat) : Int32 := if bt x k = true then 1 else 0
theorem lz_ba_mk {x : Int32} {k : Nat} : lz_mk (lz_ba x) k ↔ bt x k = true := by
  unfold lz_mk lz_ba
  by_cases h : bt x k = true
  · rw [if_pos h]; exact ⟨fun _ => h, fun _ => by decide⟩
  · rw [if_neg h]; exact ⟨fun z => absurd rfl z, fun z => absurd z h⟩
/-- a round over a set in one int -/
theorem lz_GI_ba {n : Nat} {R : Nat → Prop} {x0 x : Int32} (hn : n ≤ 24) (h1 : ∀ k, k < 32 → bt x0 k = true → bt x k = true) (h2 : ∀ k, k < 32 → bt x k = true → k < n ∧ R k) :
    (x = x0 → lz_GI n R (lz_ba x0) (lz_ba x) 0) ∧ (¬ x = x0 → lz_GI n R (lz_ba x0) (lz_ba x) 1) := by
  constructor
  · rintro rfl
    exact lz_GI_0 (fun k hk z => (h2 k (by omega) (lz_ba_mk.mp z)).2)
  · intro hne
    refine ⟨fun k hk z => lz_ba_mk.mpr (h1 k (by omega) (lz_ba_mk.mp z)), fun k hk z => (h2 k (by omega) (lz_ba_mk.mp z)).2, fun z => absurd z (by decide), fun _ => ?_⟩
    obtain ⟨k, hk, a, b⟩ : ∃ k, k < 32 ∧ bt x k = true ∧ ¬ bt x0 k = true := by
      refine Classical.byContradiction fun z => hne (b_ext fun i hi => ?_)
      cases a : bt x i
      · cases b : bt x0 i
        · rfl
        · rw [h1 i hi b] at a; exact absurd a (by decide)
      · cases b : bt x0 i
        · exact absurd ⟨i, hi, a, by rw [b]; decide⟩ z
        · rfl
    exact lz_cn_lt (a := k) (fun z => b (lz_ba_mk.mp z)) (lz_ba_mk.mpr a) (fun j hj z => lz_ba_mk.mpr (h1 j (by omega) (lz_ba_mk.mp z))) (h2 k hk a).1
section
variable {nl vl el tl st nt et fe pe vt oo mo : Int32} {kd ax ay s0 s1 eo ea eb pr cm ch an av wt f0 f1 p0 p1 wk ov mv os ms oe me tp lt cs : Nat → Int32}
variable {post : Int32 → Prop} {J2 : Int32 → Prop} {J6 : Int32 → Int32 → Int32 → Prop} {n i : Nat} {x3 : Int32}
theorem xs_18 (hn : n ≤ 24) (hi : i < n) (h0 : ¬ lz_AT n kd s0 s1 → post 0) (hJ : (∀ s, s < lz_sl kd i → lz_tg s0 s1 i s < nI n) → J2 (nI (i + 1))) :
    ∀ (d s fuel : Nat), s + d = lz_sl kd i → d < fuel → (∀ s', s' < s → lz_tg s0 s1 i s' < nI n) → wX_allTargetsExist_18 post J2 (nI i) (nI (lz_sl kd i)) nl vl el tl st (nI n) et fe pe vt oo mo kd ax ay s0 s1 eo ea eb pr cm ch an av wt f0 f1 p0 p1 wk ov mv os ms oe me tp lt cs fuel (nI s) := by
  have hs2 := lz_sl2 kd i
  intro d
  induction d with
  | zero =>
    intro s fuel hs hf hD
    obtain ⟨f, rfl⟩ : ∃ f, fuel = f + 1 := ⟨fuel - 1, by omega⟩
    exact br_t (nI_le (by omega) (by omega)) (nm_r (nI_1 i) (hJ (fun s' h' => hD s' (by omega))))
  | succ d ih =>
    intro s fuel hs hf hD
    obtain ⟨f, rfl⟩ : ∃ f, fuel = f + 1 := ⟨fuel - 1, by omega⟩
    refine br_f (nI_ge (by omega) (by omega)) (xg_slotTarget (by omega) (by omega) (br_c (fun z => nm_r (nI_1 s) (ih (s + 1) f (by omega) (by omega) (fun s' h' => ?_))) (fun z => h0 (fun y => z (y i s hi (by omega))))))
    by_cases q : s' = s
    · subst q; exact z
    · exact hD s' (by omega)
theorem xs_t2 (hn : n ≤ 24) (h1 : lz_AT n kd s0 s1 → post 1) (h0 : ¬ lz_AT n kd s0 s1 → post 0) :
    ∀ (d i fuel : Nat), i + d = n → d < fuel → (∀ i' s, i' < i → s < lz_sl kd i' → lz_tg s0 s1 i' s < nI n) → wX_allTargetsExist_2 post nl vl el tl st (nI n) et fe pe vt oo mo kd ax ay s0 s1 eo ea eb pr cm ch an av wt f0 f1 p0 p1 wk ov mv os ms oe me tp lt cs fuel (nI i) := by
  intro d
  induction d with
  | zero =>
    intro i fuel hi hf hD
    obtain ⟨f, rfl⟩ : ∃ f, fuel = f + 1 := ⟨fuel - 1, by omega⟩
    exact br_t (nI_le (by omega) (by omega)) (h1 (fun i' s a b => hD i' s (by omega) b))
  | succ d ih =>
    intro i fuel hi hf hD
    obtain ⟨f, rfl⟩ : ∃ f, fuel = f + 1 := ⟨fuel - 1, by omega⟩
    have hs2 := lz_sl2 kd i
    refine br_f (nI_ge (by omega) (by omega)) (xg_slotCount (by omega) (Exists.intro 3 (xs_18 hn (by omega) h0 (fun hz => ?_) (lz_sl kd i) 0 3 (by omega) (by omega) (fun s h => absurd h (by omega)))))
    refine ih (i + 1) f (by omega) (by omega) (fun i' s a b => ?_)
    by_cases q : i' = i
    · subst q; exact hz s b
    · exact hD i' s (by omega) b
theorem xg_allTargetsExist (hn : n ≤ 24) (h1 : lz_AT n kd s0 s1 → post 1) (h0 : ¬ lz_AT n kd s0 s1 → post 0) : wpX_allTargetsExist post (nl, vl, el, tl, st, nI n, et, fe, pe, vt, oo, mo, kd, ax, ay, s0, s1, eo, ea, eb, pr, cm, ch, an, av, wt, f0, f1, p0, p1, wk, ov, mv, os, ms, oe, me, tp, lt, cs) :=
  Exists.intro (n + 1) (xs_t2 hn h1 h0 n 0 (n + 1) (by omega) (by omega) (fun i s h => absurd h (by omega)))
theorem xs_11 (hn : n ≤ 24) (hT : lz_TG n kd s0 s1) (hi : i < n) (h : ∀ r, (∀ t, t < 32 → (bt r t = true ↔ lz_E n kd s0 s1 i t)) → post r) :
    ∀ (d s fuel : Nat) (x : Int32), s + d = lz_sl kd i → d < fuel → (∀ t, t < 32 → (bt x t = true ↔ ∃ s', s' < s ∧ lz_nx s0 s1 i s' = t)) → wX_successorSet_11 post (nI i) (nI (lz_sl kd i)) nl vl el tl st nt et fe pe vt oo mo kd ax ay s0 s1 eo ea eb pr cm ch an av wt f0 f1 p0 p1 wk ov mv os ms oe me tp lt cs fuel x (nI s) := by
  have hs2 := lz_sl2 kd i
  intro d
  induction d with
  | zero =>
    intro s fuel x hs hf hD
    obtain ⟨f, rfl⟩ : ∃ f, fuel = f + 1 := ⟨fuel - 1, by omega⟩
    refine br_t (nI_le (by omega) (by omega)) (h x (fun t ht => (hD t ht).trans ⟨?_, ?_⟩))
    · rintro ⟨s', a, b⟩; exact ⟨hi, s', by omega, b⟩
    · rintro ⟨_, s', a, b⟩; exact ⟨s', by omega, b⟩
  | succ d ih =>
    intro s fuel x hs hf hD
    obtain ⟨f, rfl⟩ : ∃ f, fuel = f + 1 := ⟨fuel - 1, by omega⟩
    obtain ⟨ht1, ht2⟩ := hT i s hi (by omega)
    refine br_f (nI_ge (by omega) (by omega)) (xg_slotTarget (by omega) (by omega) ?_)
    rw [ht1]
    refine nm_e (nm_r (nI_1 s) (ih (s + 1) f _ (by omega) (by omega) (fun t ht => ?_)))
    rw [b_or, lz_one (by omega) ht, Bool.or_eq_true, hD t ht, decide_eq_true_iff]
    constructor
    · rintro (⟨s', a, b⟩ | z)
      · exact ⟨s', by omega, b⟩
      · exact ⟨s, by omega, z.symm⟩
    · rintro ⟨s', a, b⟩
      by_cases q : s' = s
      · subst q; exact Or.inr b.symm
      · exact Or.inl ⟨s', by omega, b⟩
theorem xg_successorSet (hn : n ≤ 24) (hT : lz_TG n kd s0 s1) (hi : i < n) (h : ∀ r, (∀ t, t < 32 → (bt r t = true ↔ lz_E n kd s0 s1 i t)) → post r) : wpX_successorSet post (nl, vl, el, tl, st, nt, et, fe, pe, vt, oo, mo, kd, ax, ay, s0, s1, eo, ea, eb, pr, cm, ch, an, av, wt, f0, f1, p0, p1, wk, ov, mv, os, ms, oe, me, tp, lt, cs) (nI i) := by
  have hs2 := lz_sl2 kd i
  unfold wpX_successorSet
  refine xg_slotCount (by omega) (Exists.intro 3 (xs_11 hn hT hi h (lz_sl kd i) 0 3 0 (by omega) (by omega) (fun t ht => ?_)))
  rw [b_0]
  exact ⟨fun z => absurd z (by decide), fun ⟨s', a, _⟩ => by omega⟩
theorem xs_22 (hn : n ≤ 24) (hT : lz_TG n kd s0 s1) {x0 : Int32} {R : Nat → Prop} (hRs : ∀ i j, R i → lz_E n kd s0 s1 i j → R j)
    (hJ : ∀ x fl, lz_GI n R (lz_ba x0) (lz_ba x) fl → (∀ k, k < 32 → bt x0 k = true → bt x k = true) → (∀ k, k < 32 → bt x k = true → k < n ∧ R k) → (∀ i, i < n → bt x0 i = true → ∀ t, lz_E n kd s0 s1 i t → bt x t = true) → J6 x fl (x3 + 1)) :
    ∀ (d i fuel : Nat) (x : Int32), i + d = n → d < fuel → (∀ k, k < 32 → bt x0 k = true → bt x k = true) → (∀ k, k < 32 → bt x k = true → k < n ∧ R k) → (∀ i', i' < i → bt x0 i' = true → ∀ t, lz_E n kd s0 s1 i' t → bt x t = true) →
    wX_allReached_22 post J6 x3 x0 nl vl el tl st (nI n) et fe pe vt oo mo kd ax ay s0 s1 eo ea eb pr cm ch an av wt f0 f1 p0 p1 wk ov mv os ms oe me tp lt cs fuel x (nI i) := by
  intro d
  induction d with
  | zero =>
    intro i fuel x hi hf h1 h2 h3
    obtain ⟨f, rfl⟩ : ∃ f, fuel = f + 1 := ⟨fuel - 1, by omega⟩
    have g := lz_GI_ba (R := R) hn h1 h2
    exact br_t (nI_le (by omega) (by omega)) (br_c (fun z => nm_e (hJ x 0 (g.1 z) h1 h2 (fun i hi => h3 i (by omega)))) (fun z => nm_e (hJ x 1 (g.2 z) h1 h2 (fun i hi => h3 i (by omega)))))
  | succ d ih =>
    intro i fuel x hi hf h1 h2 h3
    obtain ⟨f, rfl⟩ : ∃ f, fuel = f + 1 := ⟨fuel - 1, by omega⟩
    refine br_f (nI_ge (by omega) (by omega)) (br_c (fun z => nm_r (nI_1 i) ?_) (fun z => xg_successorSet hn hT (by omega) (fun r hr => nm_e (nm_r (nI_1 i) ?_))))
    · rw [lz_test (by omega)] at z
      refine ih (i + 1) f x (by omega) (by omega) h1 h2 (fun i' h' y t ht => ?_)
      by_cases q : i' = i
      · subst q; rw [h1 i' (by omega) y] at z; exact absurd z (by decide)
      · exact h3 i' (by omega) y t ht
    · rw [lz_test (by omega)] at z
      have z' : bt x i = true := by cases q : bt x i; exact absurd q z; rfl
      have m1 : ∀ k, bt x k = true → bt (x ||| r) k = true := fun k y => by rw [b_or, y, Bool.true_or]
      refine ih (i + 1) f (x ||| r) (by omega) (by omega) (fun k hk y => m1 k (h1 k hk y)) (fun k hk y => ?_) (fun i' h' y t ht => ?_)
      · rw [b_or, Bool.or_eq_true] at y
        rcases y with y | y
        · exact h2 k hk y
        · have q := (hr k hk).mp y
          refine ⟨?_, hRs i k (h2 i (by omega) z').2 q⟩
          obtain ⟨_, s, hs, rfl⟩ := q
          exact (hT i s (by omega) hs).2
      · by_cases q : i' = i
        · subst q
          have ht' : t < n := by obtain ⟨_, s, hs, rfl⟩ := ht; exact (hT i' s (by omega) hs).2
          rw [b_or, (hr t (by omega)).mpr ht, Bool.or_true]
        · exact m1 t (h3 i' (by omega) y t ht)
theorem xs_73 {x : Int32} {Q : Prop} (hn : n ≤ 24) (hx : ∀ i, i < 32 → bt x i = true → i < n) (hQ : (∀ i, i < n → bt x i = true) ↔ Q) (h1 : Q → post 1) (h0 : ¬ Q → post 0) :
    ((x = (((1 : Int32) <<< (nI n &&& 31)) - 1) → (post 1)) ∧ (¬ x = (((1 : Int32) <<< (nI n &&& 31)) - 1) → (post 0))) :=
  br_c (fun z => h1 (hQ.mp ((lz_isall hn hx).mp z))) (fun z => h0 (fun y => z ((lz_isall hn hx).mpr (hQ.mpr y))))
theorem xs_6 (h0n : 0 < n) (hn : n ≤ 24) (hT : lz_TG n kd s0 s1) (h1 : lz_AR n kd s0 s1 → post 1) (h0 : ¬ lz_AR n kd s0 s1 → post 0) :
    ∀ (d r fuel : Nat) (x fl : Int32), r + d = 25 → d < fuel → bt x 0 = true → (∀ k, k < 32 → bt x k = true → k < n) → lz_GO n (lz_R (lz_E n kd s0 s1) lz_no 0) 1 r fl (lz_ba x) → wX_allReached_6 post nl vl el tl st (nI n) et fe pe vt oo mo kd ax ay s0 s1 eo ea eb pr cm ch an av wt f0 f1 p0 p1 wk ov mv os ms oe me tp lt cs fuel x fl (nI r) := by
  have fin : ∀ (r : Nat) (x fl : Int32), (∀ k, k < 32 → bt x k = true → k < n) → lz_GO n (lz_R (lz_E n kd s0 s1) lz_no 0) 1 r fl (lz_ba x) → (n < r + 1 ∨ fl = 0) → wX_allReached_73 post x nl vl el tl st (nI n) et fe pe vt oo mo kd ax ay s0 s1 eo ea eb pr cm ch an av wt f0 f1 p0 p1 wk ov mv os ms oe me tp lt cs := by
    intro r x fl hx hG he
    have q := lz_GO_end hG he
    exact xs_73 hn hx ⟨fun y i hi => (q i hi).mp (lz_ba_mk.mpr (y i hi)), fun y i hi => lz_ba_mk.mp ((q i hi).mpr (y i hi))⟩ h1 h0
  intro d
  induction d with
  | zero =>
    intro r fuel x fl hr hf hx0 hx hG
    obtain ⟨f, rfl⟩ : ∃ f, fuel = f + 1 := ⟨fuel - 1, by omega⟩
    exact br_t (nI_lt (a := 24) (by omega) (by omega)) (fin r x fl hx hG (Or.inl (by omega)))
  | succ d ih =>
    intro r fuel x fl hr hf hx0 hx hG
    obtain ⟨f, rfl⟩ : ∃ f, fuel = f + 1 := ⟨fuel - 1, by omega⟩
    refine br_f (nI_nlt (a := 24) (by omega) (by omega)) (br_c (fun z => fin r x fl hx hG (Or.inr z)) (fun z => ?_))
    refine Exists.intro (n + 1) (xs_22 (R := lz_R (lz_E n kd s0 s1) lz_no 0) hn hT (fun i j a b => lz_Rs a b (lz_no' _)) (fun x' fl' g a b c => ?_) n 0 (n + 1) x (by omega) (by omega) (fun _ _ => id) (fun k hk y => ⟨hx k hk y, hG.1 k (hx k hk y) (lz_ba_mk.mpr y)⟩) (fun i h => absurd h (by omega)))
    rw [nI_1]
    refine ih (r + 1) f x' fl' (by omega) (by omega) (a 0 (by omega) hx0) (fun k hk y => (b k hk y).1) (lz_GO_s hG g (fun same k hk hR => lz_ba_mk.mpr ?_))
    refine hR (fun k => bt x' k = true) (fun _ => a 0 (by omega) hx0) ?_
    intro i j hS he _
    exact c i he.1 (lz_ba_mk.mp (same i he.1 (lz_ba_mk.mpr hS))) j he
theorem xg_allReached (h0n : 0 < n) (hn : n ≤ 24) (hT : lz_TG n kd s0 s1) (h1 : lz_AR n kd s0 s1 → post 1) (h0 : ¬ lz_AR n kd s0 s1 → post 0) : wpX_allReached post (nl, vl, el, tl, st, nI n, et, fe, pe, vt, oo, mo, kd, ax, ay, s0, s1, eo, ea, eb, pr, cm, ch, an, av, wt, f0, f1, p0, p1, wk, ov, mv, os, ms, oe, me, tp, lt, cs) := by
  have hb : ∀ k, k < 32 → bt 1 k = true → k = 0 := fun k hk z => by rw [lz_bt1 k hk] at z; exact of_decide_eq_true z
  refine Exists.intro 26 (xs_6 h0n hn hT h1 h0 25 0 26 1 1 (by omega) (by omega) (by decide) (fun k hk z => by rw [hb k hk z]; exact h0n) ⟨fun k hk z => ?_, fun z => absurd z (by decide), Or.inr ?_⟩)
  · rw [hb k (by omega) (lz_ba_mk.mp z)]; exact lz_R0 (lz_no' _)
  · exact lz_cn_pos (a := 0) (lz_ba_mk.mpr (by decide)) h0n
theorem xs_27 (hn : n ≤ 24) (hT : lz_TG n kd s0 s1) {x0 : Int32} {R : Nat → Prop} (hR0 : ∀ i, i < n → kd i = 6 → R i) (hRs : ∀ i j, lz_E n kd s0 s1 i j → R j → R i)
    (hJ : ∀ x fl, lz_GI n R (lz_ba x0) (lz_ba x) fl → (∀ k, k < 32 → bt x0 k = true → bt x k = true) → (∀ k, k < 32 → bt x k = true → k < n ∧ R k) → (∀ i, i < n → (kd i = 6 ∨ ∃ t, lz_E n kd s0 s1 i t ∧ bt x0 t = true) → bt x i = true) → J6 x fl (x3 + 1)) :
    ∀ (k fuel : Nat) (x : Int32), k ≤ n → k < fuel → (∀ k, k < 32 → bt x0 k = true → bt x k = true) → (∀ k, k < 32 → bt x k = true → k < n ∧ R k) → (∀ i, i < n → k ≤ i → (kd i = 6 ∨ ∃ t, lz_E n kd s0 s1 i t ∧ bt x0 t = true) → bt x i = true) →
    wX_allReachExit_27 post J6 x3 x0 nl vl el tl st (nI n) et fe pe vt oo mo kd ax ay s0 s1 eo ea eb pr cm ch an av wt f0 f1 p0 p1 wk ov mv os ms oe me tp lt cs fuel x (nI k - 1) := by
  intro k
  induction k with
  | zero =>
    intro fuel x hk hf h1 h2 h3
    obtain ⟨f, rfl⟩ : ∃ f, fuel = f + 1 := ⟨fuel - 1, by omega⟩
    have g := lz_GI_ba (R := R) hn h1 h2
    exact br_t (by decide) (br_c (fun z => nm_e (hJ x 0 (g.1 z) h1 h2 (fun i hi => h3 i hi (by omega)))) (fun z => nm_e (hJ x 1 (g.2 z) h1 h2 (fun i hi => h3 i hi (by omega)))))
  | succ k ih =>
    intro fuel x hk hf h1 h2 h3
    obtain ⟨f, rfl⟩ : ∃ f, fuel = f + 1 := ⟨fuel - 1, by omega⟩
    have e1 : (nI k).toNatClampNeg = k := nI_clamp (by omega)
    have e2 : nI k + (-1) = nI k - 1 := (Int32.sub_eq_add_neg _ _).symm
    rw [nI_pred]
    refine br_f (nI_pos (by omega)) (xg_successorSet hn hT (by omega) (fun r hr => And.intro (vp_in_nI (by omega) (by decide)) ?_))
    rw [e1]
    have add : R k → wX_allReachExit_59 post J6 (wX_allReachExit_27 post J6 x3 x0 nl vl el tl st (nI n) et fe pe vt oo mo kd ax ay s0 s1 eo ea eb pr cm ch an av wt f0 f1 p0 p1 wk ov mv os ms oe me tp lt cs f) x x3 x0 (nI k) nl vl el tl st (nI n) et fe pe vt oo mo kd ax ay s0 s1 eo ea eb pr cm ch an av wt f0 f1 p0 p1 wk ov mv os ms oe me tp lt cs := by
      intro hRk
      unfold wX_allReachExit_59
      refine nm_e (nm_r e2 ?_)
      have m1 : ∀ j, bt x j = true → bt (x ||| ((1 : Int32) <<< (nI k &&& 31))) j = true := fun j y => by rw [b_or, y, Bool.true_or]
      refine ih f _ (by omega) (by omega) (fun j hj y => m1 j (h1 j hj y)) (fun j hj y => ?_) (fun i hi hki y => ?_)
      · rw [b_or, lz_one (by omega) hj, Bool.or_eq_true] at y
        rcases y with y | y
        · exact h2 j hj y
        · rw [of_decide_eq_true y]; exact ⟨by omega, hRk⟩
      · by_cases q : i = k
        · subst q; rw [b_or, lz_one (by omega) (by omega), decide_eq_true rfl, Bool.or_true]
        · exact m1 i (h3 i hi (by omega) y)
    refine br_c (fun z => add (hR0 k (by omega) z)) (fun z6 => br_c (fun z => nm_r e2 ?_) (fun z => add ?_))
    · rw [lz_meet] at z
      refine ih f x (by omega) (by omega) h1 h2 (fun i hi hki y => ?_)
      by_cases q : i = k
      · subst q
        rcases y with y | ⟨t, a, b⟩
        · exact absurd y z6
        · have ht : t < n := by obtain ⟨_, s, hs, rfl⟩ := a; exact (hT i s (by omega) hs).2
          exact absurd ⟨(hr t (by omega)).mpr a, h1 t (by omega) b⟩ (z t (by omega))
      · exact h3 i hi (by omega) y
    · rw [lz_meet] at z
      obtain ⟨t, ht, a, b⟩ : ∃ t, t < 32 ∧ bt r t = true ∧ bt x t = true := Classical.byContradiction fun y => z (fun t ht p => y ⟨t, ht, p.1, p.2⟩)
      exact hRs k t ((hr t ht).mp a) (h2 t ht b).2
theorem xs_e6 (h0n : 0 < n) (hn : n ≤ 24) (hT : lz_TG n kd s0 s1) (h1 : lz_AE n kd s0 s1 → post 1) (h0 : ¬ lz_AE n kd s0 s1 → post 0) :
    ∀ (d r fuel : Nat) (x fl : Int32), r + d = 25 → d < fuel → (∀ k, k < 32 → bt x k = true → k < n) → lz_GO n (lz_NA (lz_E n kd s0 s1) lz_no (fun j => kd j = 6)) 0 r fl (lz_ba x) → wX_allReachExit_6 post nl vl el tl st (nI n) et fe pe vt oo mo kd ax ay s0 s1 eo ea eb pr cm ch an av wt f0 f1 p0 p1 wk ov mv os ms oe me tp lt cs fuel x fl (nI r) := by
  have fin : ∀ (r : Nat) (x fl : Int32), (∀ k, k < 32 → bt x k = true → k < n) → lz_GO n (lz_NA (lz_E n kd s0 s1) lz_no (fun j => kd j = 6)) 0 r fl (lz_ba x) → (n < r + 0 ∨ fl = 0) → wX_allReachExit_90 post x nl vl el tl st (nI n) et fe pe vt oo mo kd ax ay s0 s1 eo ea eb pr cm ch an av wt f0 f1 p0 p1 wk ov mv os ms oe me tp lt cs := by
    intro r x fl hx hG he
    have q := lz_GO_end hG he
    exact xs_73 hn hx ⟨fun y i hi => (q i hi).mp (lz_ba_mk.mpr (y i hi)), fun y i hi => lz_ba_mk.mp ((q i hi).mpr (y i hi))⟩ h1 h0
  intro d
  induction d with
  | zero =>
    intro r fuel x fl hr hf hx hG
    obtain ⟨f, rfl⟩ : ∃ f, fuel = f + 1 := ⟨fuel - 1, by omega⟩
    exact br_t (nI_lt (a := 24) (by omega) (by omega)) (fin r x fl hx hG (Or.inl (by omega)))
  | succ d ih =>
    intro r fuel x fl hr hf hx hG
    obtain ⟨f, rfl⟩ : ∃ f, fuel = f + 1 := ⟨fuel - 1, by omega⟩
    refine br_f (nI_nlt (a := 24) (by omega) (by omega)) (br_c (fun z => fin r x fl hx hG (Or.inr z)) (fun z => nm_e ?_))
    refine Exists.intro (n + 1) (xs_27 (R := lz_NA (lz_E n kd s0 s1) lz_no (fun j => kd j = 6)) hn hT (fun i _ y => lz_NA0 (lz_no' _) y) (fun i j a b => lz_NAs (lz_no' _) a b) (fun x' fl' g a b c => ?_) n (n + 1) x (by omega) (by omega) (fun _ _ => id) (fun k hk y => ⟨hx k hk y, hG.1 k (hx k hk y) (lz_ba_mk.mpr y)⟩) (fun i h1 h2 => absurd h2 (by omega)))
    rw [nI_1]
    refine ih (r + 1) f x' fl' (by omega) (by omega) (fun k hk y => (b k hk y).1) (lz_GO_s hG g (fun same k hk hR => lz_ba_mk.mpr ?_))
    refine hR (fun k => k < n → bt x' k = true) (fun i _ y hi => c i hi (Or.inl y)) ?_ hk
    intro i j _ he hS hi
    have hj : j < n := by obtain ⟨_, s, hs, rfl⟩ := he; exact (hT i s hi hs).2
    exact c i hi (Or.inr ⟨j, he, lz_ba_mk.mp (same j hj (lz_ba_mk.mpr (hS hj)))⟩)
theorem xg_allReachExit (h0n : 0 < n) (hn : n ≤ 24) (hT : lz_TG n kd s0 s1) (h1 : lz_AE n kd s0 s1 → post 1) (h0 : ¬ lz_AE n kd s0 s1 → post 0) : wpX_allReachExit post (nl, vl, el, tl, st, nI n, et, fe, pe, vt, oo, mo, kd, ax, ay, s0, s1, eo, ea, eb, pr, cm, ch, an, av, wt, f0, f1, p0, p1, wk, ov, mv, os, ms, oe, me, tp, lt, cs) := by
  refine Exists.intro 26 (xs_e6 h0n hn hT h1 h0 25 0 26 0 1 (by omega) (by omega) (fun k hk z => ?_) ⟨fun k hk z => ?_, fun z => absurd z (by decide), Or.inr (by omega)⟩)
  · rw [b_0] at z; exact absurd z (by decide)
  · have := lz_ba_mk.mp z; rw [b_0] at this; exact absurd this (by decide)
end
end
section
/-! the reference's seal -/
theorem lz_R_no {n a k : Nat} {kd s0 s1 : Nat → Int32} {C : Nat → Prop} (hT : lz_TG n kd s0 s1) (ha : a < n) (hC : ∀ i, i < n → ¬ C i) : lz_R (lz_E n kd s0 s1) C a k ↔ lz_R (lz_E n kd s0 s1) lz_no a k := by
  constructor
  · intro h
    exact h (fun k => lz_R (lz_E n kd s0 s1) lz_no a k) (fun _ => lz_R0 (lz_no' _)) (fun i j hS he _ => lz_Rs hS he (lz_no' _))
  · intro h
    refine h (fun k => lz_R (lz_E n kd s0 s1) C a k) (fun _ => lz_R0 (hC a ha)) (fun i j hS he _ => lz_Rs hS he (hC j ?_))
    obtain ⟨hi, s, hs, rfl⟩ := he
    exact (hT i s hi hs).2
section
variable {nl vl el tl st nt et vt oo : Int32} {kd ax ay s0 s1 eo ea eb pr ov wk os mk yn yv yw : Nat → Int32}
variable {post : Int32 → SY → Prop} {J21 : Int32 → Prop} {J106 : Int32 → Int32 → Int32 → Int32 → Int32 → Int32 → Int32 → Int32 → Int32 → Int32 → (Nat → Int32) → (Nat → Int32) → (Nat → Int32) → (Nat → Int32) → (Nat → Int32) → (Nat → Int32) → (Nat → Int32) → (Nat → Int32) → (Nat → Int32) → (Nat → Int32) → (Nat → Int32) → (Nat → Int32) → (Nat → Int32) → (Nat → Int32) → (Nat → Int32) → (Nat → Int32) → Prop} {n i : Nat}
theorem ye_37 (hn : n ≤ 24) (hi : i < n) (h0 : ¬ lz_AT n kd s0 s1 → post (-8) (nl, vl, el, tl, st, nI n, et, vt, oo, kd, ax, ay, s0, s1, eo, ea, eb, pr, ov, wk, os, mk, yn, yv, yw)) (hJ : (∀ s, s < lz_sl kd i → lz_tg s0 s1 i s < nI n) → J21 (nI (i + 1))) :
    ∀ (d s fuel : Nat), s + d = lz_sl kd i → d < fuel → (∀ s', s' < s → lz_tg s0 s1 i s' < nI n) → wY_seal_37 post J21 (nI i) (nI (lz_sl kd i)) nl vl el tl st (nI n) et vt oo kd ax ay s0 s1 eo ea eb pr ov wk os mk yn yv yw fuel (nI s) := by
  have hs2 := lz_sl2 kd i
  intro d
  induction d with
  | zero =>
    intro s fuel hs hf hD
    obtain ⟨f, rfl⟩ : ∃ f, fuel = f + 1 := ⟨fuel - 1, by omega⟩
    exact br_t (nI_le (by omega) (by omega)) (nm_r (nI_1 i) (hJ (fun s' h' => hD s' (by omega))))
  | succ d ih =>
    intro s fuel hs hf hD
    obtain ⟨f, rfl⟩ : ∃ f, fuel = f + 1 := ⟨fuel - 1, by omega⟩
    refine br_f (nI_ge (by omega) (by omega)) (yg_next (by omega) (by omega) (br_c (fun z => nm_r (nI_1 s) (ih (s + 1) f (by omega) (by omega) (fun s' h' => ?_))) (fun z => h0 (fun y => z (y i s hi (by omega))))))
    by_cases q : s' = s
    · subst q; exact z
    · exact hD s' (by omega)
theorem ye_21 (hn : n ≤ 24) (h1 : lz_AT n kd s0 s1 → wpY_reach (fun u => match u with | (nl, vl, el, tl, st, nt, et, vt, oo, kd, ax, ay, s0, s1, eo, ea, eb, pr, ov, wk, os, mk, yn, yv, yw) => (∃ n78 : Nat, wY_seal_78 post nl vl el tl st nt et vt oo kd ax ay s0 s1 eo ea eb pr ov wk os mk yn yv yw n78 0)) (nl, vl, el, tl, st, nI n, et, vt, oo, kd, ax, ay, s0, s1, eo, ea, eb, pr, ov, wk, os, mk, yn, yv, yw) 0 (-1)) (h0 : ¬ lz_AT n kd s0 s1 → post (-8) (nl, vl, el, tl, st, nI n, et, vt, oo, kd, ax, ay, s0, s1, eo, ea, eb, pr, ov, wk, os, mk, yn, yv, yw)) :
    ∀ (d i fuel : Nat), i + d = n → d < fuel → (∀ i' s, i' < i → s < lz_sl kd i' → lz_tg s0 s1 i' s < nI n) → wY_seal_21 post nl vl el tl st (nI n) et vt oo kd ax ay s0 s1 eo ea eb pr ov wk os mk yn yv yw fuel (nI i) := by
  intro d
  induction d with
  | zero =>
    intro i fuel hi hf hD
    obtain ⟨f, rfl⟩ : ∃ f, fuel = f + 1 := ⟨fuel - 1, by omega⟩
    exact br_t (nI_le (by omega) (by omega)) (h1 (fun i' s a b => hD i' s (by omega) b))
  | succ d ih =>
    intro i fuel hi hf hD
    obtain ⟨f, rfl⟩ : ∃ f, fuel = f + 1 := ⟨fuel - 1, by omega⟩
    have hs2 := lz_sl2 kd i
    refine br_f (nI_ge (by omega) (by omega)) (yg_slots (by omega) (Exists.intro 3 (ye_37 hn (by omega) h0 (fun hz => ?_) (lz_sl kd i) 0 3 (by omega) (by omega) (fun s h => absurd h (by omega)))))
    refine ih (i + 1) f (by omega) (by omega) (fun i' s a b => ?_)
    by_cases q : i' = i
    · subst q; exact hz s b
    · exact hD i' s (by omega) b
theorem ye_124 (hn : n ≤ 24) (hi : i < n) (h1 : (∃ j, j < n ∧ lz_mk mk j ∧ kd j = 6) → J106 (nI (i + 1)) nl vl el tl st (nI n) et vt oo kd ax ay s0 s1 eo ea eb pr ov wk os mk yn yv yw) (h0 : ¬ (∃ j, j < n ∧ lz_mk mk j ∧ kd j = 6) → post (-11) (nl, vl, el, tl, st, nI n, et, vt, oo, kd, ax, ay, s0, s1, eo, ea, eb, pr, ov, wk, os, mk, yn, yv, yw)) :
    ∀ (d j fuel : Nat) (x : Int32), j + d = n → d < fuel → x = lz_b (∃ j', j' < j ∧ lz_mk mk j' ∧ kd j' = 6) → wY_seal_124 post J106 (nI i) nl vl el tl st (nI n) et vt oo kd ax ay s0 s1 eo ea eb pr ov wk os mk yn yv yw fuel x (nI j) := by
  intro d
  induction d with
  | zero =>
    intro j fuel x hj hf hx
    obtain ⟨f, rfl⟩ : ∃ f, fuel = f + 1 := ⟨fuel - 1, by omega⟩
    have hjn : j = n := by omega
    subst hjn hx
    exact br_t (nI_le (by omega) (by omega)) (lz_br h0 (fun z => nm_r (nI_1 i) (h1 z)))
  | succ d ih =>
    intro j fuel x hj hf hx
    obtain ⟨f, rfl⟩ : ∃ f, fuel = f + 1 := ⟨fuel - 1, by omega⟩
    have e1 : (nI j).toNatClampNeg = j := nI_clamp (by omega)
    subst hx
    have no : ¬ (∃ j', j' < j ∧ lz_mk mk j' ∧ kd j' = 6) → ¬ (lz_mk mk j ∧ kd j = 6) → wY_seal_124 post J106 (nI i) nl vl el tl st (nI n) et vt oo kd ax ay s0 s1 eo ea eb pr ov wk os mk yn yv yw f 0 (nI (j + 1)) := by
      intro a b
      refine ih (j + 1) f 0 (by omega) (by omega) (lz_b_f ?_).symm
      rintro ⟨j', c, p⟩
      by_cases q : j' = j
      · subst q; exact b p
      · exact a ⟨j', by omega, p⟩
    refine br_f (nI_ge (by omega) (by omega)) (lz_br (fun z => And.intro (vp_in_nI (by omega) (by decide)) ?_) (fun z => nm_r (nI_1 j) (ih (j + 1) f 1 (by omega) (by omega) (lz_b_t ?_).symm)))
    · rw [e1]
      refine br_c (fun y => nm_r (nI_1 j) (no z (fun p => p.1 y))) (fun y => And.intro (vp_in_nI (by omega) (by decide)) (br_c (fun p => nm_r (nI_1 j) (ih (j + 1) f 1 (by omega) (by omega) (lz_b_t ⟨j, by omega, y, p⟩).symm)) (fun p => nm_r (nI_1 j) (no z (fun q => p q.2)))))
    · obtain ⟨j', a, b⟩ := z
      exact ⟨j', by omega, b⟩
theorem ye_106 (hn : n ≤ 24) (hT : lz_TG n kd s0 s1) (hC : ∀ i, i < n → ¬ lz_C kd ay (-1) i) (h1 : lz_AE n kd s0 s1 → ∀ mk', post 0 (nl, vl, el, tl, 1, nI n, et, vt, oo, kd, ax, ay, s0, s1, eo, ea, eb, pr, ov, wk, os, mk', yn, yv, yw)) (h0 : ¬ lz_AE n kd s0 s1 → ∀ mk', post (-11) (nl, vl, el, tl, st, nI n, et, vt, oo, kd, ax, ay, s0, s1, eo, ea, eb, pr, ov, wk, os, mk', yn, yv, yw)) :
    ∀ (d i fuel : Nat) (mk' : Nat → Int32), i + d = n → d < fuel → (∀ i', i' < i → lz_NA (lz_E n kd s0 s1) lz_no (fun j => kd j = 6) i') → wY_seal_106 post fuel (nI i) nl vl el tl st (nI n) et vt oo kd ax ay s0 s1 eo ea eb pr ov wk os mk' yn yv yw := by
  intro d
  induction d with
  | zero =>
    intro i fuel mk' hi hf hD
    obtain ⟨f, rfl⟩ : ∃ f, fuel = f + 1 := ⟨fuel - 1, by omega⟩
    exact br_t (nI_le (by omega) (by omega)) (h1 (fun i' a => hD i' (by omega)) mk')
  | succ d ih =>
    intro i fuel mk' hi hf hD
    obtain ⟨f, rfl⟩ : ∃ f, fuel = f + 1 := ⟨fuel - 1, by omega⟩
    refine br_f (nI_ge (by omega) (by omega)) (yg_reach (by omega) hn hT (fun A hA => ?_))
    have hiff : (∃ j, j < n ∧ lz_mk A j ∧ kd j = 6) ↔ lz_NA (lz_E n kd s0 s1) lz_no (fun j => kd j = 6) i := by
      rw [lz_NA_R]
      constructor
      · rintro ⟨j, a, b, c⟩; exact ⟨j, (lz_R_no hT (by omega) hC).mp ((hA j a).mp b), c⟩
      · rintro ⟨j, a, b⟩
        have hj := lz_R_lt hT (by omega) a
        exact ⟨j, hj, (hA j hj).mpr ((lz_R_no hT (by omega) hC).mpr a), b⟩
    refine Exists.intro (n + 1) (ye_124 (mk := A) hn (by omega) (fun z => ?_) (fun z => h0 (fun y => z (hiff.mpr (y i (by omega)))) A) n 0 (n + 1) 0 (by omega) (by omega) (lz_b_f (fun ⟨j, a, _⟩ => by omega)).symm)
    refine ih (i + 1) f A (by omega) (by omega) (fun i' h' => ?_)
    by_cases q : i' = i
    · subst q; exact hiff.mp z
    · exact hD i' (by omega)
theorem ye_78 (hn : n ≤ 24) (h1 : (∀ j, j < n → lz_mk mk j) → ∃ n106 : Nat, wY_seal_106 post n106 0 nl vl el tl st (nI n) et vt oo kd ax ay s0 s1 eo ea eb pr ov wk os mk yn yv yw) (h0 : ¬ (∀ j, j < n → lz_mk mk j) → post (-10) (nl, vl, el, tl, st, nI n, et, vt, oo, kd, ax, ay, s0, s1, eo, ea, eb, pr, ov, wk, os, mk, yn, yv, yw)) :
    ∀ (d j fuel : Nat), j + d = n → d < fuel → (∀ j', j' < j → lz_mk mk j') → wY_seal_78 post nl vl el tl st (nI n) et vt oo kd ax ay s0 s1 eo ea eb pr ov wk os mk yn yv yw fuel (nI j) := by
  intro d
  induction d with
  | zero =>
    intro j fuel hj hf hD
    obtain ⟨f, rfl⟩ : ∃ f, fuel = f + 1 := ⟨fuel - 1, by omega⟩
    exact br_t (nI_le (by omega) (by omega)) (h1 (fun j' a => hD j' (by omega)))
  | succ d ih =>
    intro j fuel hj hf hD
    obtain ⟨f, rfl⟩ : ∃ f, fuel = f + 1 := ⟨fuel - 1, by omega⟩
    have e1 : (nI j).toNatClampNeg = j := nI_clamp (by omega)
    refine br_f (nI_ge (by omega) (by omega)) (And.intro (vp_in_nI (by omega) (by decide)) ?_)
    rw [e1]
    refine br_c (fun z => h0 (fun y => y j (by omega) z)) (fun z => nm_r (nI_1 j) (ih (j + 1) f (by omega) (by omega) (fun j' h' => ?_)))
    by_cases q : j' = j
    · subst q; exact z
    · exact hD j' (by omega)
theorem yg_seal (h0n : 0 < n) (hn : n ≤ 24) (hW : lz_WT n s0 s1) (hC : ∀ i, i < n → ¬ lz_C kd ay (-1) i)
    (k8 : ¬ lz_AT n kd s0 s1 → post (-8) (nl, vl, el, tl, 0, nI n, et, vt, oo, kd, ax, ay, s0, s1, eo, ea, eb, pr, ov, wk, os, mk, yn, yv, yw))
    (k10 : lz_AT n kd s0 s1 → ¬ lz_AR n kd s0 s1 → ∀ mk', post (-10) (nl, vl, el, tl, 0, nI n, et, vt, oo, kd, ax, ay, s0, s1, eo, ea, eb, pr, ov, wk, os, mk', yn, yv, yw))
    (k11 : lz_AT n kd s0 s1 → lz_AR n kd s0 s1 → ¬ lz_AE n kd s0 s1 → ∀ mk', post (-11) (nl, vl, el, tl, 0, nI n, et, vt, oo, kd, ax, ay, s0, s1, eo, ea, eb, pr, ov, wk, os, mk', yn, yv, yw))
    (k0 : lz_AT n kd s0 s1 → lz_AR n kd s0 s1 → lz_AE n kd s0 s1 → ∀ mk', post 0 (nl, vl, el, tl, 1, nI n, et, vt, oo, kd, ax, ay, s0, s1, eo, ea, eb, pr, ov, wk, os, mk', yn, yv, yw)) : wpY_seal post (nl, vl, el, tl, 0, nI n, et, vt, oo, kd, ax, ay, s0, s1, eo, ea, eb, pr, ov, wk, os, mk, yn, yv, yw) := by
  refine br_t rfl (br_f (nI_ne0 h0n (by omega)) (Exists.intro (n + 1) (ye_21 hn (fun hA => ?_) k8 n 0 (n + 1) (by omega) (by omega) (fun i s h => absurd h (by omega)))))
  have hT := lz_TG_of hn hW hA
  refine yg_reach (a := 0) h0n hn hT (fun A hmk => ?_)
  have hiff : (∀ j, j < n → lz_mk A j) ↔ lz_AR n kd s0 s1 :=
    ⟨fun z j hj => (lz_R_no hT h0n hC).mp ((hmk j hj).mp (z j hj)), fun z j hj => (hmk j hj).mpr ((lz_R_no hT h0n hC).mpr (z j hj))⟩
  refine Exists.intro (n + 1) (ye_78 hn (fun z => ?_) (fun z => k10 hA (fun y => z (hiff.mpr y)) A) n 0 (n + 1) (by omega) (by omega) (fun j h => absurd h (by omega)))
  have hR := hiff.mp z
  exact Exists.intro (n + 1) (ye_106 hn hT hC (fun hE mk' => k0 hA hR hE mk') (fun hE mk' => k11 hA hR hE mk') n 0 (n + 1) A (by omega) (by omega) (fun i h => absurd h (by omega)))
end
end
section
/-! the component's sets of one node: computes, changes -/
theorem lz_sl0 {kd : Nat → Int32} {i : Nat} : lz_sl kd i = 0 ↔ kd i = 6 := by
  unfold lz_sl
  by_cases h : kd i = 6
  · rw [if_pos h]; exact ⟨fun _ => h, fun _ => rfl⟩
  · rw [if_neg h]
    refine ⟨fun z => ?_, fun z => absurd z h⟩
    by_cases h5 : kd i = 5
    · rw [if_pos h5] at z; omega
    · rw [if_neg h5] at z; omega
theorem lz_bf {x : Bool} : x = false ↔ ¬ x = true := by cases x <;> simp
def lz_WY (n m : Nat) (kd ay : Nat → Int32) : Prop := ∀ i, i < n → kd i = 3 → ∃ e, e < m ∧ ay i = nI e
def lz_CS (n m : Nat) (kd ay cm : Nat → Int32) : Prop := ∀ i e, i < n → e < m → (bt (cm i) e = true ↔ lz_C kd ay (nI e) i)
def lz_HS (n m : Nat) (kd ax ea eb ch : Nat → Int32) : Prop := ∀ i e, i < n → e < m → (bt (ch i) e = true ↔ lz_H kd ax ea eb e i)
section
variable {nl vl el tl st nt et fe pe vt oo mo : Int32} {kd ax ay s0 s1 eo ea eb pr cm ch an av wt f0 f1 p0 p1 wk ov mv os ms oe me tp lt cs : Nat → Int32}
variable {post : Int32 → Prop} {v : Int32} {n m i : Nat}
theorem xl_4 (hm : m ≤ 12) (h : ∀ r, (∀ e, e < m → (bt r e = true ↔ (ea e = v ∨ eb e = v))) → post r) :
    ∀ (d e fuel : Nat) (x : Int32), e + d = m → d < fuel → (∀ k, k < 32 → (bt x k = true ↔ (k < e ∧ (ea k = v ∨ eb k = v)))) → wX_usersOf_4 post v nl vl el tl st nt (nI m) fe pe vt oo mo kd ax ay s0 s1 eo ea eb pr cm ch an av wt f0 f1 p0 p1 wk ov mv os ms oe me tp lt cs fuel x (nI e) := by
  intro d
  induction d with
  | zero =>
    intro e fuel x he hf hx
    obtain ⟨f, rfl⟩ : ∃ f, fuel = f + 1 := ⟨fuel - 1, by omega⟩
    exact br_t (nI_le (by omega) (by omega)) (h x (fun k hk => (hx k (by omega)).trans ⟨fun z => z.2, fun z => ⟨by omega, z⟩⟩))
  | succ d ih =>
    intro e fuel x he hf hx
    obtain ⟨f, rfl⟩ : ∃ f, fuel = f + 1 := ⟨fuel - 1, by omega⟩
    have e1 : (nI e).toNatClampNeg = e := nI_clamp (by omega)
    have w : vp_in (nI e) 12 := vp_in_nI (by omega) (by decide)
    have add : (ea e = v ∨ eb e = v) → wX_usersOf_32 post (wX_usersOf_4 post v nl vl el tl st nt (nI m) fe pe vt oo mo kd ax ay s0 s1 eo ea eb pr cm ch an av wt f0 f1 p0 p1 wk ov mv os ms oe me tp lt cs f) v x (nI e) nl vl el tl st nt (nI m) fe pe vt oo mo kd ax ay s0 s1 eo ea eb pr cm ch an av wt f0 f1 p0 p1 wk ov mv os ms oe me tp lt cs := by
      intro hy
      unfold wX_usersOf_32
      refine nm_e (nm_r (nI_1 e) (ih (e + 1) f _ (by omega) (by omega) (fun k hk => ?_)))
      rw [b_or, lz_one (by omega) hk, Bool.or_eq_true, hx k hk, decide_eq_true_iff]
      constructor
      · rintro (z | rfl)
        · exact ⟨by omega, z.2⟩
        · exact ⟨by omega, hy⟩
      · intro z
        by_cases q : k = e
        · exact Or.inr q
        · exact Or.inl ⟨by omega, z.2⟩
    refine br_f (nI_ge (by omega) (by omega)) (And.intro w ?_)
    rw [e1]
    refine br_c (fun z => add (Or.inl z)) (fun z => And.intro w (br_c (fun y => add (Or.inr y)) (fun y => nm_r (nI_1 e) (ih (e + 1) f x (by omega) (by omega) (fun k hk => (hx k hk).trans ⟨fun q => ⟨by omega, q.2⟩, fun q => ?_⟩)))))
    by_cases p : k = e
    · subst p; exact absurd q.2 (fun q => q.elim z y)
    · exact ⟨by omega, q.2⟩
theorem xg_usersOf (hm : m ≤ 12) (h : ∀ r, (∀ e, e < m → (bt r e = true ↔ (ea e = v ∨ eb e = v))) → post r) : wpX_usersOf post (nl, vl, el, tl, st, nt, nI m, fe, pe, vt, oo, mo, kd, ax, ay, s0, s1, eo, ea, eb, pr, cm, ch, an, av, wt, f0, f1, p0, p1, wk, ov, mv, os, ms, oe, me, tp, lt, cs) v := by
  refine Exists.intro (m + 1) (xl_4 hm h m 0 (m + 1) 0 (by omega) (by omega) (fun k hk => ?_))
  rw [b_0]
  exact ⟨fun z => absurd z (by decide), fun z => absurd z.1 (by omega)⟩
end
section
variable {nl vl el tl st nt et fe pe vt oo mo : Int32} {kd ax ay s0 s1 eo ea eb pr cm ch an av wt f0 f1 p0 p1 wk ov mv os ms oe me tp lt cs : Nat → Int32}
variable {post : SX → Prop} {J2 : Int32 → (Nat → Int32) → (Nat → Int32) → (Nat → Int32) → (Nat → Int32) → (Nat → Int32) → (Nat → Int32) → (Nat → Int32) → (Nat → Int32) → (Nat → Int32) → (Nat → Int32) → (Nat → Int32) → (Nat → Int32) → (Nat → Int32) → (Nat → Int32) → (Nat → Int32) → (Nat → Int32) → (Nat → Int32) → (Nat → Int32) → (Nat → Int32) → (Nat → Int32) → (Nat → Int32) → (Nat → Int32) → (Nat → Int32) → (Nat → Int32) → (Nat → Int32) → (Nat → Int32) → (Nat → Int32) → (Nat → Int32) → Prop} {n m i : Nat}
theorem xl_60 (hm : m ≤ 12) (hi : i < 24) {z : Int32} (hz : z = lz_b (kd i = 1 ∨ kd i = 2 ∨ kd i = 3)) (hJ : ∀ c, (∀ e, e < m → (bt c e = true ↔ lz_H kd ax ea eb e i)) → J2 (nI (i + 1)) kd ax ay s0 s1 eo ea eb pr cm (upd ch i c) an av wt f0 f1 p0 p1 wk ov mv os ms oe me tp lt cs) :
    wX_findLocalSets_60 post J2 (nI i) z nl vl el tl st nt (nI m) fe pe vt oo mo kd ax ay s0 s1 eo ea eb pr cm ch an av wt f0 f1 p0 p1 wk ov mv os ms oe me tp lt cs := by
  have e1 : (nI i).toNatClampNeg = i := nI_clamp (by omega)
  have w : vp_in (nI i) 24 := vp_in_nI (by omega) (by decide)
  subst hz
  unfold wX_findLocalSets_60
  rw [e1]
  refine lz_br (fun q => And.intro w (nm_e (nm_r (nI_1 i) (hJ 0 (fun e he => ?_))))) (fun q => And.intro w (xg_usersOf hm (fun r hr => And.intro w (nm_e (nm_r (nI_1 i) (hJ r (fun e he => (hr e he).trans ?_)))))))
  · rw [b_0]; exact ⟨fun p => absurd p (by decide), fun p => absurd p.1 q⟩
  · exact ⟨fun p => ⟨q, p.imp Eq.symm Eq.symm⟩, fun p => p.2.imp Eq.symm Eq.symm⟩
theorem xl_39 (hm : m ≤ 12) (hi : i < 24) {z : Int32} (hJ : ∀ c, (∀ e, e < m → (bt c e = true ↔ lz_H kd ax ea eb e i)) → J2 (nI (i + 1)) kd ax ay s0 s1 eo ea eb pr (upd cm i z) (upd ch i c) an av wt f0 f1 p0 p1 wk ov mv os ms oe me tp lt cs) :
    wX_findLocalSets_39 post J2 (nI i) (kd i) z (nI i) nl vl el tl st nt (nI m) fe pe vt oo mo kd ax ay s0 s1 eo ea eb pr cm ch an av wt f0 f1 p0 p1 wk ov mv os ms oe me tp lt cs := by
  have e1 : (nI i).toNatClampNeg = i := nI_clamp (by omega)
  have w : vp_in (nI i) 24 := vp_in_nI (by omega) (by decide)
  unfold wX_findLocalSets_39
  refine And.intro w ?_
  rw [e1]
  refine nm_e ?_
  by_cases h1 : kd i = 1
  · exact br_t h1 (xl_60 hm hi (lz_b_t (Or.inl h1)).symm hJ)
  · by_cases h2 : kd i = 2
    · exact br_f h1 (br_t h2 (xl_60 hm hi (lz_b_t (Or.inr (Or.inl h2))).symm hJ))
    · by_cases h3 : kd i = 3
      · exact br_f h1 (br_f h2 (br_t h3 (xl_60 hm hi (lz_b_t (Or.inr (Or.inr h3))).symm hJ)))
      · exact br_f h1 (br_f h2 (br_f h3 (xl_60 hm hi (lz_b_f (fun z => z.elim h1 (fun y => y.elim h2 h3))).symm hJ)))
theorem xl_2 (hn : n ≤ 24) (hm : m ≤ 12) (hY : lz_WY n m kd ay) (h : ∀ cm' ch', lz_CS n m kd ay cm' → lz_HS n m kd ax ea eb ch' → post (nl, vl, el, tl, st, nI n, nI m, fe, pe, vt, oo, mo, kd, ax, ay, s0, s1, eo, ea, eb, pr, cm', ch', an, av, wt, f0, f1, p0, p1, wk, ov, mv, os, ms, oe, me, tp, lt, cs)) :
    ∀ (d i fuel : Nat) (cm' ch' : Nat → Int32), i + d = n → d < fuel → lz_CS i m kd ay cm' → lz_HS i m kd ax ea eb ch' → wX_findLocalSets_2 post nl vl el tl st (nI n) (nI m) fe pe vt oo mo fuel (nI i) kd ax ay s0 s1 eo ea eb pr cm' ch' an av wt f0 f1 p0 p1 wk ov mv os ms oe me tp lt cs := by
  intro d
  induction d with
  | zero =>
    intro i fuel cm' ch' hi hf h1 h2
    obtain ⟨f, rfl⟩ : ∃ f, fuel = f + 1 := ⟨fuel - 1, by omega⟩
    have hin : i = n := by omega
    subst hin
    exact br_t (nI_le (by omega) (by omega)) (h cm' ch' h1 h2)
  | succ d ih =>
    intro i fuel cm' ch' hi hf h1 h2
    obtain ⟨f, rfl⟩ : ∃ f, fuel = f + 1 := ⟨fuel - 1, by omega⟩
    have e1 : (nI i).toNatClampNeg = i := nI_clamp (by omega)
    have w : vp_in (nI i) 24 := vp_in_nI (by omega) (by decide)
    have go : ∀ z : Int32, (∀ e, e < m → (bt z e = true ↔ lz_C kd ay (nI e) i)) → ∀ c, (∀ e, e < m → (bt c e = true ↔ lz_H kd ax ea eb e i)) → wX_findLocalSets_2 post nl vl el tl st (nI n) (nI m) fe pe vt oo mo f (nI (i + 1)) kd ax ay s0 s1 eo ea eb pr (upd cm' i z) (upd ch' i c) an av wt f0 f1 p0 p1 wk ov mv os ms oe me tp lt cs := by
      intro z hz c hc
      refine ih (i + 1) f _ _ (by omega) (by omega) (fun i' e a b => ?_) (fun i' e a b => ?_)
      · by_cases q : i' = i
        · subst q; rw [pk_us]; exact hz e b
        · rw [pk_un q]; exact h1 i' e (by omega) b
      · by_cases q : i' = i
        · subst q; rw [pk_us]; exact hc e b
        · rw [pk_un q]; exact h2 i' e (by omega) b
    refine br_f (nI_ge (by omega) (by omega)) (And.intro w ?_)
    rw [e1]
    refine nm_e (br_c (fun z => And.intro w (xl_39 hm (by omega) (go _ (fun e he => ?_)))) (fun z => xl_39 hm (by omega) (go _ (fun e he => ?_))))
    · obtain ⟨e', a, b⟩ := hY i (by omega) z
      rw [b, lz_one (by omega) (by omega), decide_eq_true_iff]
      exact ⟨fun q => ⟨z, by rw [q]; exact b⟩, fun q => (nI_eq (by omega) (by omega)).mp (q.2.symm.trans b)⟩
    · rw [b_0]; exact ⟨fun p => absurd p (by decide), fun p => absurd p.1 z⟩
theorem xg_findLocalSets (hn : n ≤ 24) (hm : m ≤ 12) (hY : lz_WY n m kd ay) (h : ∀ cm' ch', lz_CS n m kd ay cm' → lz_HS n m kd ax ea eb ch' → post (nl, vl, el, tl, st, nI n, nI m, fe, pe, vt, oo, mo, kd, ax, ay, s0, s1, eo, ea, eb, pr, cm', ch', an, av, wt, f0, f1, p0, p1, wk, ov, mv, os, ms, oe, me, tp, lt, cs)) : wpX_findLocalSets post (nl, vl, el, tl, st, nI n, nI m, fe, pe, vt, oo, mo, kd, ax, ay, s0, s1, eo, ea, eb, pr, cm, ch, an, av, wt, f0, f1, p0, p1, wk, ov, mv, os, ms, oe, me, tp, lt, cs) :=
  Exists.intro (n + 1) (xl_2 hn hm hY h n 0 (n + 1) cm ch (by omega) (by omega) (fun i e a => absurd a (by omega)) (fun i e a => absurd a (by omega)))
end
end
section
/-! the component's anticipated sets -/
section
variable {nl vl el tl st nt et fe pe vt oo mo : Int32} {kd ax ay s0 s1 eo ea eb pr cm ch an av wt f0 f1 p0 p1 wk ov mv os ms oe me tp lt cs : Nat → Int32}
variable {post : Int32 → Prop} {al : Int32} {n m i : Nat}
theorem xa_20 (hn : n ≤ 24) (hm : m ≤ 12) (hT : lz_TG n kd s0 s1) (hi : i < n) (h : ∀ r, (∀ e, e < m → (bt r e = true ↔ (0 < lz_sl kd i ∧ ∀ s, s < lz_sl kd i → ¬ lz_Z an e (lz_nx s0 s1 i s)))) → post r) :
    ∀ (d s fuel : Nat) (x : Int32), s + d = lz_sl kd i → d < fuel → (∀ e, e < m → (bt x e = true ↔ (0 < lz_sl kd i ∧ ∀ s', s' < s → ¬ lz_Z an e (lz_nx s0 s1 i s')))) → wX_anticipatedAfter_20 post (nI i) (nI (lz_sl kd i)) nl vl el tl st nt et fe pe vt oo mo kd ax ay s0 s1 eo ea eb pr cm ch an av wt f0 f1 p0 p1 wk ov mv os ms oe me tp lt cs fuel x (nI s) := by
  have hs2 := lz_sl2 kd i
  intro d
  induction d with
  | zero =>
    intro s fuel x hs hf hx
    obtain ⟨f, rfl⟩ : ∃ f, fuel = f + 1 := ⟨fuel - 1, by omega⟩
    have hsn : s = lz_sl kd i := by omega
    subst hsn
    exact br_t (nI_le (by omega) (by omega)) (h x hx)
  | succ d ih =>
    intro s fuel x hs hf hx
    obtain ⟨f, rfl⟩ : ∃ f, fuel = f + 1 := ⟨fuel - 1, by omega⟩
    obtain ⟨ht1, ht2⟩ := hT i s hi (by omega)
    have e1 : (nI (lz_nx s0 s1 i s)).toNatClampNeg = lz_nx s0 s1 i s := nI_clamp (by omega)
    refine br_f (nI_ge (by omega) (by omega)) (xg_slotTarget (by omega) (by omega) ?_)
    rw [ht1, e1]
    refine And.intro (vp_in_nI (by omega) (by decide)) (nm_e (nm_r (nI_1 s) (ih (s + 1) f _ (by omega) (by omega) (fun e he => ?_))))
    rw [b_and, Bool.and_eq_true, hx e he]
    constructor
    · rintro ⟨⟨a, b⟩, c⟩
      refine ⟨a, fun s' h' => ?_⟩
      by_cases q : s' = s
      · subst q; unfold lz_Z; rw [c]; decide
      · exact b s' (by omega)
    · rintro ⟨a, b⟩
      refine ⟨⟨a, fun s' h' => b s' (by omega)⟩, ?_⟩
      have q := b s (by omega)
      unfold lz_Z at q
      rw [lz_bf] at q
      exact Classical.byContradiction q
theorem xg_anticipatedAfter (hn : n ≤ 24) (hm : m ≤ 12) (hT : lz_TG n kd s0 s1) (hi : i < n) (hal : ∀ e, e < m → bt al e = true) (h : ∀ r, (∀ e, e < m → (bt r e = true ↔ (0 < lz_sl kd i ∧ ∀ s, s < lz_sl kd i → ¬ lz_Z an e (lz_nx s0 s1 i s)))) → post r) : wpX_anticipatedAfter post (nl, vl, el, tl, st, nt, et, fe, pe, vt, oo, mo, kd, ax, ay, s0, s1, eo, ea, eb, pr, cm, ch, an, av, wt, f0, f1, p0, p1, wk, ov, mv, os, ms, oe, me, tp, lt, cs) (nI i) al := by
  have hs2 := lz_sl2 kd i
  unfold wpX_anticipatedAfter
  refine xg_slotCount (by omega) ?_
  by_cases z : lz_sl kd i = 0
  · refine br_t (by rw [z]; rfl) (Exists.intro 3 (xa_20 hn hm hT hi h (lz_sl kd i) 0 3 0 (by omega) (by omega) (fun e he => ?_)))
    rw [b_0]; exact ⟨fun q => absurd q (by decide), fun q => absurd q.1 (by omega)⟩
  · refine br_f (nI_ne0 (by omega) (by omega)) (Exists.intro 3 (xa_20 hn hm hT hi h (lz_sl kd i) 0 3 al (by omega) (by omega) (fun e he => ?_)))
    exact ⟨fun _ => ⟨by omega, fun s' h' => absurd h' (by omega)⟩, fun _ => hal e he⟩
end
/-- the rule for node i that must clear bit e, over the cleared bits Z -/
def lz_AC (kd ax ay s0 s1 ea eb : Nat → Int32) (Z : Nat → Prop) (e i : Nat) : Prop := ¬ lz_C kd ay (nI e) i ∧ (kd i = 6 ∨ lz_H kd ax ea eb e i ∨ ∃ s, s < lz_sl kd i ∧ Z (lz_nx s0 s1 i s))
def lz_AP (n m : Nat) (kd ax ay s0 s1 ea eb A : Nat → Int32) : Prop := ∀ e i, e < m → i < n → lz_Z A e i → lz_AC kd ax ay s0 s1 ea eb (lz_Z A e) e i
def lz_AD (n : Nat) (kd ax ay s0 s1 ea eb A0 : Nat → Int32) (k e : Nat) : Prop := ∀ i, k ≤ i → i < n → lz_AC kd ax ay s0 s1 ea eb (lz_Z A0 e) e i → lz_Z A0 e i
theorem lz_AD_L {n m e : Nat} {kd ax ay s0 s1 ea eb A0 : Nat → Int32} (hT : lz_TG n kd s0 s1) (hD : lz_AD n kd ax ay s0 s1 ea eb A0 0 e) : ∀ i, i < n → lz_xNA n kd ax ay s0 s1 ea eb e i → lz_Z A0 e i := by
  intro i hi h
  refine h (fun i => i < n → lz_Z A0 e i) (fun i hC hB hi => hD i (by omega) hi ⟨hC, hB.imp id Or.inl⟩) ?_ hi
  rintro i j hC ⟨_, s, hs, rfl⟩ hS hi
  exact hD i (by omega) hi ⟨hC, Or.inr (Or.inr ⟨s, hs, hS (hT i s hi hs).2⟩)⟩
section
variable {nl vl el tl st nt et fe pe vt oo mo : Int32} {kd ax ay s0 s1 eo ea eb pr cm ch an av wt f0 f1 p0 p1 wk ov mv os ms oe me tp lt cs : Nat → Int32}
variable {post : SX → Prop} {J27 : Int32 → Int32 → (Nat → Int32) → (Nat → Int32) → (Nat → Int32) → (Nat → Int32) → (Nat → Int32) → (Nat → Int32) → (Nat → Int32) → (Nat → Int32) → (Nat → Int32) → (Nat → Int32) → (Nat → Int32) → (Nat → Int32) → (Nat → Int32) → (Nat → Int32) → (Nat → Int32) → (Nat → Int32) → (Nat → Int32) → (Nat → Int32) → (Nat → Int32) → (Nat → Int32) → (Nat → Int32) → (Nat → Int32) → (Nat → Int32) → (Nat → Int32) → (Nat → Int32) → (Nat → Int32) → (Nat → Int32) → (Nat → Int32) → Prop} {al x3 : Int32} {n m i : Nat} {A0 : Nat → Int32}
theorem xa_47 (hn : n ≤ 24) (hm : m ≤ 12) (hT : lz_TG n kd s0 s1) (hal : ∀ e, e < m → bt al e = true) (hC : lz_CS n m kd ay cm) (hH : lz_HS n m kd ax ea eb ch)
    (hJ : ∀ (fl : Int32) (A : Nat → Int32), lz_Inv n m (lz_xNA n kd ax ay s0 s1 ea eb) A0 A fl (lz_AD n kd ax ay s0 s1 ea eb A0 0) → lz_AP n m kd ax ay s0 s1 ea eb A → J27 fl (x3 + 1) kd ax ay s0 s1 eo ea eb pr cm ch A av wt f0 f1 p0 p1 wk ov mv os ms oe me tp lt cs) :
    ∀ (k fuel : Nat) (fl : Int32) (A : Nat → Int32), k ≤ n → k < fuel → lz_Inv n m (lz_xNA n kd ax ay s0 s1 ea eb) A0 A fl (lz_AD n kd ax ay s0 s1 ea eb A0 k) → lz_AP n m kd ax ay s0 s1 ea eb A →
    wX_solveAnticipated_47 post J27 al x3 nl vl el tl st (nI n) (nI m) fe pe vt oo mo fuel fl (nI k - 1) kd ax ay s0 s1 eo ea eb pr cm ch A av wt f0 f1 p0 p1 wk ov mv os ms oe me tp lt cs := by
  intro k
  induction k with
  | zero =>
    intro fuel fl A hk hf hI hP
    obtain ⟨f, rfl⟩ : ∃ f, fuel = f + 1 := ⟨fuel - 1, by omega⟩
    exact br_t (by decide) (nm_e (hJ fl A hI hP))
  | succ k ih =>
    intro fuel fl A hk hf hI hP
    obtain ⟨f, rfl⟩ : ∃ f, fuel = f + 1 := ⟨fuel - 1, by omega⟩
    have e1 : (nI k).toNatClampNeg = k := nI_clamp (by omega)
    have e2 : nI k + (-1) = nI k - 1 := (Int32.sub_eq_add_neg _ _).symm
    have w : vp_in (nI k) 24 := vp_in_nI (by omega) (by decide)
    rw [nI_pred]
    refine br_f (nI_pos (by omega)) (xg_anticipatedAfter hn hm hT (by omega) hal (fun r hr => ?_))
    rw [e1]
    refine And.intro w (And.intro w (nm_e (And.intro w ?_)))
    have hv : ∀ e, e < m → (bt (cm k ||| (r &&& (ch k ^^^ (-1)))) e = false ↔ lz_AC kd ax ay s0 s1 ea eb (lz_Z A e) e k) := by
      intro e he
      rw [b_or, b_and, lz_notb _ (by omega), lz_bf, Bool.or_eq_true, Bool.and_eq_true, Bool.not_eq_true', hC k e (by omega) he, hr e he, lz_bf, hH k e (by omega) he]
      unfold lz_AC
      constructor
      · intro z
        refine ⟨fun y => z (Or.inl y), ?_⟩
        by_cases c6 : kd k = 6
        · exact Or.inl c6
        · refine Or.inr (Classical.byContradiction fun y => z (Or.inr ⟨⟨Nat.pos_of_ne_zero (fun q => c6 (lz_sl0.mp q)), fun s hs q => y (Or.inr ⟨s, hs, q⟩)⟩, fun q => y (Or.inl q)⟩))
      · rintro ⟨a, b⟩ (z | ⟨⟨z1, z2⟩, z3⟩)
        · exact a z
        · rcases b with b | b | ⟨s, hs, b⟩
          · have := lz_sl0.mpr b; omega
          · exact z3 b
          · exact z2 s hs b
    have hd : ∀ e, e < m → lz_AD n kd ax ay s0 s1 ea eb A0 (k + 1) e → (∀ i, i < n → (lz_Z A e i ↔ lz_Z A0 e i)) → (bt (cm k ||| (r &&& (ch k ^^^ (-1)))) e = false → lz_Z A0 e k) → lz_AD n kd ax ay s0 s1 ea eb A0 k e := by
      intro e he hD hs hz i hki hi hAC
      by_cases q : i = k
      · subst q
        refine hz ((hv e he).mpr ⟨hAC.1, hAC.2.imp id (fun y => y.imp id (fun ⟨s, a, b⟩ => ⟨s, a, (hs _ (hT i s hi a).2).mpr b⟩))⟩)
      · exact hD i (by omega) hi hAC
    refine br_c (fun z => nm_r e2 ?_) (fun z => And.intro w (nm_e (nm_r e2 ?_)))
    · exact ih f fl A (by omega) (by omega) (lz_Inv_k hI (by omega) z hd) hP
    · refine ih f 1 _ (by omega) (by omega) (lz_Inv_s hI (by omega) (fun e he y => (hv e he).mpr (hP e k he (by omega) y)) (fun e he y => ?_) hd) ?_
      · obtain ⟨a, b⟩ := (hv e he).mp y
        rcases b with b | b | ⟨s, hs, b⟩
        · exact lz_NA0 a (Or.inl b)
        · exact lz_NA0 a (Or.inr b)
        · exact lz_NAs a ⟨by omega, s, hs, rfl⟩ (hI.2.1 e _ he (hT k s (by omega) hs).2 b)
      · have mono : ∀ e j, e < m → j < n → lz_Z A e j → lz_Z (upd A k (cm k ||| (r &&& (ch k ^^^ (-1))))) e j := by
          intro e j he hj y
          by_cases q : j = k
          · subst q; exact lz_Z_us.mpr ((hv e he).mpr (hP e j he hj y))
          · exact (lz_Z_un q).mpr y
        intro e i he hi y
        have base : lz_AC kd ax ay s0 s1 ea eb (lz_Z A e) e i := by
          by_cases q : i = k
          · subst q; exact (hv e he).mp (lz_Z_us.mp y)
          · exact hP e i he hi ((lz_Z_un q).mp y)
        exact ⟨base.1, base.2.imp id (fun y => y.imp id (fun ⟨s, a, b⟩ => ⟨s, a, mono e _ he (hT i s hi a).2 b⟩))⟩
theorem xa_27 (hn : n ≤ 24) (hm : m ≤ 12) (hT : lz_TG n kd s0 s1) (hal : ∀ e, e < m → bt al e = true) (hC : lz_CS n m kd ay cm) (hH : lz_HS n m kd ax ea eb ch)
    (h : ∀ A, (∀ e i, e < m → i < n → (lz_Z A e i ↔ lz_xNA n kd ax ay s0 s1 ea eb e i)) → post (nl, vl, el, tl, st, nI n, nI m, fe, pe, vt, oo, mo, kd, ax, ay, s0, s1, eo, ea, eb, pr, cm, ch, A, av, wt, f0, f1, p0, p1, wk, ov, mv, os, ms, oe, me, tp, lt, cs)) :
    ∀ (d r fuel : Nat) (fl : Int32) (A : Nat → Int32), r + d = 25 → d < fuel → lz_Out n m (lz_xNA n kd ax ay s0 s1 ea eb) r fl A → lz_AP n m kd ax ay s0 s1 ea eb A →
    wX_solveAnticipated_27 post al nl vl el tl st (nI n) (nI m) fe pe vt oo mo fuel fl (nI r) kd ax ay s0 s1 eo ea eb pr cm ch A av wt f0 f1 p0 p1 wk ov mv os ms oe me tp lt cs := by
  intro d
  induction d with
  | zero =>
    intro r fuel fl A hr hf hO hP
    obtain ⟨f, rfl⟩ : ∃ f, fuel = f + 1 := ⟨fuel - 1, by omega⟩
    exact br_t (nI_lt (a := 24) (by omega) (by omega)) (h A (lz_Out_end hO (Or.inl (by omega))))
  | succ d ih =>
    intro r fuel fl A hr hf hO hP
    obtain ⟨f, rfl⟩ : ∃ f, fuel = f + 1 := ⟨fuel - 1, by omega⟩
    refine br_f (nI_nlt (a := 24) (by omega) (by omega)) (br_c (fun z => h A (lz_Out_end hO (Or.inr z))) (fun z => nm_e ?_))
    refine Exists.intro (n + 1) (xa_47 (A0 := A) hn hm hT hal hC hH (fun fl' A' hI hP' => ?_) n (n + 1) 0 A (by omega) (by omega) (lz_Inv_0 hO.1 (fun e he i h1 h2 => absurd h1 (by omega))) hP)
    rw [nI_1]
    exact ih (r + 1) f fl' A' (by omega) (by omega) (lz_Out_s hO hI (fun e he hD => lz_AD_L (m := m) hT hD)) hP'
theorem xa_2 (hn : n ≤ 24) (hm : m ≤ 12) (hT : lz_TG n kd s0 s1) (hal : ∀ e, e < m → bt al e = true) (hC : lz_CS n m kd ay cm) (hH : lz_HS n m kd ax ea eb ch)
    (h : ∀ A, (∀ e i, e < m → i < n → (lz_Z A e i ↔ lz_xNA n kd ax ay s0 s1 ea eb e i)) → post (nl, vl, el, tl, st, nI n, nI m, fe, pe, vt, oo, mo, kd, ax, ay, s0, s1, eo, ea, eb, pr, cm, ch, A, av, wt, f0, f1, p0, p1, wk, ov, mv, os, ms, oe, me, tp, lt, cs)) :
    ∀ (d i fuel : Nat) (A : Nat → Int32), i + d = n → d < fuel → (∀ j, j < i → A j = al) → wX_solveAnticipated_2 post al nl vl el tl st (nI n) (nI m) fe pe vt oo mo fuel (nI i) kd ax ay s0 s1 eo ea eb pr cm ch A av wt f0 f1 p0 p1 wk ov mv os ms oe me tp lt cs := by
  intro d
  induction d with
  | zero =>
    intro i fuel A hi hf hA
    obtain ⟨f, rfl⟩ : ∃ f, fuel = f + 1 := ⟨fuel - 1, by omega⟩
    have hZ : ∀ e j, e < m → j < n → ¬ lz_Z A e j := by
      intro e j he hj z
      unfold lz_Z at z
      rw [hA j (by omega), hal e he] at z
      exact absurd z (by decide)
    exact br_t (nI_le (by omega) (by omega)) (Exists.intro 26 (xa_27 hn hm hT hal hC hH h 25 0 26 1 A (by omega) (by omega) (lz_Out_0 (fun e j he hj z => absurd z (hZ e j he hj))) (fun e j he hj z => absurd z (hZ e j he hj))))
  | succ d ih =>
    intro i fuel A hi hf hA
    obtain ⟨f, rfl⟩ : ∃ f, fuel = f + 1 := ⟨fuel - 1, by omega⟩
    have e1 : (nI i).toNatClampNeg = i := nI_clamp (by omega)
    refine br_f (nI_ge (by omega) (by omega)) (And.intro (vp_in_nI (by omega) (by decide)) ?_)
    rw [e1]
    refine nm_e (nm_r (nI_1 i) (ih (i + 1) f _ (by omega) (by omega) (fun j hj => ?_)))
    by_cases q : j = i
    · subst q; exact pk_us
    · rw [pk_un q]; exact hA j (by omega)
theorem xg_solveAnticipated (hn : n ≤ 24) (hm : m ≤ 12) (hT : lz_TG n kd s0 s1) (hal : ∀ e, e < m → bt al e = true) (hC : lz_CS n m kd ay cm) (hH : lz_HS n m kd ax ea eb ch)
    (h : ∀ A, (∀ e i, e < m → i < n → (lz_Z A e i ↔ lz_xNA n kd ax ay s0 s1 ea eb e i)) → post (nl, vl, el, tl, st, nI n, nI m, fe, pe, vt, oo, mo, kd, ax, ay, s0, s1, eo, ea, eb, pr, cm, ch, A, av, wt, f0, f1, p0, p1, wk, ov, mv, os, ms, oe, me, tp, lt, cs)) : wpX_solveAnticipated post (nl, vl, el, tl, st, nI n, nI m, fe, pe, vt, oo, mo, kd, ax, ay, s0, s1, eo, ea, eb, pr, cm, ch, an, av, wt, f0, f1, p0, p1, wk, ov, mv, os, ms, oe, me, tp, lt, cs) al :=
  Exists.intro (n + 1) (xa_2 hn hm hT hal hC hH h n 0 (n + 1) an (by omega) (by omega) (fun j hj => absurd hj (by omega)))
end
end
section
/-! the component's available sets -/
/-- the rule along the edge from i to j that must clear bit e in j -/
def lz_KA (n m : Nat) (kd ax ay ea eb cm ch : Nat → Int32) (K : Nat → Nat → Nat → Prop → Prop) : Prop :=
  lz_CS n m kd ay cm ∧ lz_HS n m kd ax ea eb ch ∧ ∀ e i j P, K e i j P ↔ (lz_H kd ax ea eb e i ∨ (¬ lz_C kd ay (nI e) i ∧ P))
/-- L is the least set of the rules -/
def lz_KL (m : Nat) (E : Nat → Nat → Prop) (P0 : Nat → Prop) (K : Nat → Nat → Nat → Prop → Prop) (L : Nat → Nat → Prop) : Prop :=
  (∀ e, e < m → P0 e → L e 0) ∧ (∀ e i j, e < m → E i j → K e i j (L e i) → L e j) ∧ (∀ e (S : Nat → Prop), e < m → (P0 e → S 0) → (∀ i j, E i j → K e i j (S i) → S j) → ∀ i, L e i → S i) ∧ (∀ e i j (P Q : Prop), (P → Q) → K e i j P → K e i j Q)
/-- the edges of the nodes before i, and the first s edges of node i, are kept by the cleared bits of A0 -/
def lz_KD (n : Nat) (kd s0 s1 : Nat → Int32) (K : Nat → Nat → Nat → Prop → Prop) (A0 : Nat → Int32) (i s e : Nat) : Prop :=
  ∀ i' s', i' < n → s' < lz_sl kd i' → (i' < i ∨ (i' = i ∧ s' < s)) → K e i' (lz_nx s0 s1 i' s') (lz_Z A0 e i') → lz_Z A0 e (lz_nx s0 s1 i' s')
theorem lz_KD_L {n m e : Nat} {kd s0 s1 A0 : Nat → Int32} {P0 : Nat → Prop} {K : Nat → Nat → Nat → Prop → Prop} {L : Nat → Nat → Prop} (hT : lz_TG n kd s0 s1) (hL : lz_KL m (lz_E n kd s0 s1) P0 K L) (he : e < m) (hB : P0 e → lz_Z A0 e 0) (hD : lz_KD n kd s0 s1 K A0 n 0 e) : ∀ i, i < n → L e i → lz_Z A0 e i := by
  intro i hi h
  refine hL.2.2.1 e (fun i => lz_Z A0 e i) he hB ?_ i h
  rintro i j ⟨hi, s, hs, rfl⟩ hK
  exact hD i s hi hs (Or.inl hi) hK
section
variable {nl vl el tl st nt et fe pe vt oo mo : Int32} {kd ax ay s0 s1 eo ea eb pr cm ch an av wt f0 f1 p0 p1 wk ov mv os ms oe me tp lt cs : Nat → Int32}
variable {post : Int32 → Prop} {n m i s : Nat} {K : Nat → Nat → Nat → Prop → Prop}
theorem xv_r (hn : n ≤ 24) (hm : m ≤ 12) (hi : i < n) (hs : s < lz_sl kd i) (hK : lz_KA n m kd ax ay ea eb cm ch K) (h : ∀ r, (∀ e, e < m → (bt r e = false ↔ K e i (lz_nx s0 s1 i s) (lz_Z av e i))) → post r) : wpX_availableAfter post (nl, vl, el, tl, st, nt, et, fe, pe, vt, oo, mo, kd, ax, ay, s0, s1, eo, ea, eb, pr, cm, ch, an, av, wt, f0, f1, p0, p1, wk, ov, mv, os, ms, oe, me, tp, lt, cs) (nI i) := by
  have e1 : (nI i).toNatClampNeg = i := nI_clamp (by omega)
  have w : vp_in (nI i) 24 := vp_in_nI (by omega) (by decide)
  refine And.intro w (And.intro w (And.intro w (h _ (fun e he => ?_))))
  rw [e1, hK.2.2, b_and, b_or, lz_notb _ (by omega), lz_bf, Bool.and_eq_true, Bool.or_eq_true, Bool.not_eq_true', hK.1 i e hi he, lz_bf (x := bt (ch i) e), hK.2.1 i e hi he]
  unfold lz_Z
  rw [lz_bf (x := bt (av i) e)]
  constructor
  · intro z
    by_cases c : lz_H kd ax ea eb e i
    · exact Or.inl c
    · exact Or.inr ⟨fun y => z ⟨Or.inl y, c⟩, fun y => z ⟨Or.inr y, c⟩⟩
  · rintro (z | ⟨z1, z2⟩) ⟨y1, y2⟩
    · exact y2 z
    · exact y1.elim z1 z2
end
section
variable {nl vl el tl st nt et fe pe vt oo mo : Int32} {kd ax ay s0 s1 eo ea eb pr cm ch an av wt f0 f1 p0 p1 wk ov mv os ms oe me tp lt cs : Nat → Int32}
variable {post : SX → Prop} {J35 J50 : Int32 → Int32 → (Nat → Int32) → (Nat → Int32) → (Nat → Int32) → (Nat → Int32) → (Nat → Int32) → (Nat → Int32) → (Nat → Int32) → (Nat → Int32) → (Nat → Int32) → (Nat → Int32) → (Nat → Int32) → (Nat → Int32) → (Nat → Int32) → (Nat → Int32) → (Nat → Int32) → (Nat → Int32) → (Nat → Int32) → (Nat → Int32) → (Nat → Int32) → (Nat → Int32) → (Nat → Int32) → (Nat → Int32) → (Nat → Int32) → (Nat → Int32) → (Nat → Int32) → (Nat → Int32) → (Nat → Int32) → (Nat → Int32) → Prop} {al x3 : Int32} {n m i : Nat} {A0 : Nat → Int32} {P0 : Nat → Prop} {K : Nat → Nat → Nat → Prop → Prop} {L : Nat → Nat → Prop}
theorem xv_70 (hn : n ≤ 24) (hm : m ≤ 12) (hT : lz_TG n kd s0 s1) (hi : i < n) (hK : lz_KA n m kd ax ay ea eb cm ch K) (hL : lz_KL m (lz_E n kd s0 s1) P0 K L)
    (hJ : ∀ (fl : Int32) (A : Nat → Int32), lz_Inv n m L A0 A fl (lz_KD n kd s0 s1 K A0 (i + 1) 0) → J50 fl (nI (i + 1)) kd ax ay s0 s1 eo ea eb pr cm ch an A wt f0 f1 p0 p1 wk ov mv os ms oe me tp lt cs) :
    ∀ (d s fuel : Nat) (fl : Int32) (A : Nat → Int32), s + d = lz_sl kd i → d < fuel → lz_Inv n m L A0 A fl (lz_KD n kd s0 s1 K A0 i s) →
    wX_solveAvailable_70 post J35 J50 x3 (nI i) (nI (lz_sl kd i)) nl vl el tl st (nI n) (nI m) fe pe vt oo mo fuel fl (nI s) kd ax ay s0 s1 eo ea eb pr cm ch an A wt f0 f1 p0 p1 wk ov mv os ms oe me tp lt cs := by
  have hs2 := lz_sl2 kd i
  intro d
  induction d with
  | zero =>
    intro s fuel fl A hs hf hI
    obtain ⟨f, rfl⟩ : ∃ f, fuel = f + 1 := ⟨fuel - 1, by omega⟩
    refine br_t (nI_le (by omega) (by omega)) (nm_r (nI_1 i) (hJ fl A (lz_Inv_w hI (fun e he hD i' s' a b c => hD i' s' a b ?_))))
    rcases c with c | c
    · by_cases q : i' = i
      · subst q; exact Or.inr ⟨rfl, by omega⟩
      · exact Or.inl (by omega)
    · exact absurd c.2 (by omega)
  | succ d ih =>
    intro s fuel fl A hs hf hI
    obtain ⟨f, rfl⟩ : ∃ f, fuel = f + 1 := ⟨fuel - 1, by omega⟩
    obtain ⟨ht1, ht2⟩ := hT i s hi (by omega)
    have e1 : (nI (lz_nx s0 s1 i s)).toNatClampNeg = lz_nx s0 s1 i s := nI_clamp (by omega)
    have w : vp_in (nI (lz_nx s0 s1 i s)) 24 := vp_in_nI (by omega) (by decide)
    refine br_f (nI_ge (by omega) (by omega)) (xv_r (s := s) hn hm hi (by omega) hK (fun r hr => xg_slotTarget (by omega) (by omega) ?_))
    rw [ht1, e1]
    have hv : ∀ e, e < m → (bt (A (lz_nx s0 s1 i s) &&& r) e = false ↔ (lz_Z A e (lz_nx s0 s1 i s) ∨ K e i (lz_nx s0 s1 i s) (lz_Z A e i))) := by
      intro e he
      rw [b_and, Bool.and_eq_false_iff, hr e he]
      exact Iff.rfl
    have hd : ∀ e, e < m → lz_KD n kd s0 s1 K A0 i s e → (∀ i, i < n → (lz_Z A e i ↔ lz_Z A0 e i)) → (bt (A (lz_nx s0 s1 i s) &&& r) e = false → lz_Z A0 e (lz_nx s0 s1 i s)) → lz_KD n kd s0 s1 K A0 i (s + 1) e := by
      intro e he hD hsame hz i' s' a b c hk
      by_cases q : i' = i ∧ s' = s
      · obtain ⟨rfl, rfl⟩ := q
        exact hz ((hv e he).mpr (Or.inr (hL.2.2.2 e _ _ _ _ (hsame i' a).mpr hk)))
      · refine hD i' s' a b ?_ hk
        rcases c with c | c
        · exact Or.inl c
        · refine Or.inr ⟨c.1, ?_⟩
          have : ¬ s' = s := fun y => q ⟨c.1, y⟩
          omega
    refine And.intro w (nm_e (And.intro w (br_c (fun z => nm_r (nI_1 s) (ih (s + 1) f fl A (by omega) (by omega) (lz_Inv_k hI ht2 z hd))) (fun z => And.intro w (nm_e (nm_r (nI_1 s) (ih (s + 1) f 1 _ (by omega) (by omega) (lz_Inv_s hI ht2 (fun e he y => (hv e he).mpr (Or.inl y)) (fun e he y => ?_) hd))))))))
    rcases (hv e he).mp y with y | y
    · exact hI.2.1 e _ he ht2 y
    · exact hL.2.1 e i _ he ⟨hi, s, by omega, rfl⟩ (hL.2.2.2 e _ _ _ _ (hI.2.1 e i he hi) y)
theorem xv_50 (hn : n ≤ 24) (hm : m ≤ 12) (hT : lz_TG n kd s0 s1) (hK : lz_KA n m kd ax ay ea eb cm ch K) (hL : lz_KL m (lz_E n kd s0 s1) P0 K L)
    (hJ : ∀ (fl : Int32) (A : Nat → Int32), lz_Inv n m L A0 A fl (lz_KD n kd s0 s1 K A0 n 0) → J35 fl (x3 + 1) kd ax ay s0 s1 eo ea eb pr cm ch an A wt f0 f1 p0 p1 wk ov mv os ms oe me tp lt cs) :
    ∀ (d i fuel : Nat) (fl : Int32) (A : Nat → Int32), i + d = n → d < fuel → lz_Inv n m L A0 A fl (lz_KD n kd s0 s1 K A0 i 0) →
    wX_solveAvailable_50 post J35 x3 nl vl el tl st (nI n) (nI m) fe pe vt oo mo fuel fl (nI i) kd ax ay s0 s1 eo ea eb pr cm ch an A wt f0 f1 p0 p1 wk ov mv os ms oe me tp lt cs := by
  intro d
  induction d with
  | zero =>
    intro i fuel fl A hi hf hI
    obtain ⟨f, rfl⟩ : ∃ f, fuel = f + 1 := ⟨fuel - 1, by omega⟩
    have hin : i = n := by omega
    subst hin
    exact br_t (nI_le (by omega) (by omega)) (nm_e (hJ fl A hI))
  | succ d ih =>
    intro i fuel fl A hi hf hI
    obtain ⟨f, rfl⟩ : ∃ f, fuel = f + 1 := ⟨fuel - 1, by omega⟩
    have hs2 := lz_sl2 kd i
    refine br_f (nI_ge (by omega) (by omega)) (xg_slotCount (by omega) (Exists.intro 3 (xv_70 hn hm hT (by omega) hK hL (fun fl' A' hI' => ?_) (lz_sl kd i) 0 3 fl A (by omega) (by omega) hI)))
    exact ih (i + 1) f fl' A' (by omega) (by omega) hI'
theorem xv_35 (h0n : 0 < n) (hn : n ≤ 24) (hm : m ≤ 12) (hT : lz_TG n kd s0 s1) (hK : lz_KA n m kd ax ay ea eb cm ch K) (hL : lz_KL m (lz_E n kd s0 s1) P0 K L)
    (h : ∀ A, (∀ e i, e < m → i < n → (lz_Z A e i ↔ L e i)) → post (nl, vl, el, tl, st, nI n, nI m, fe, pe, vt, oo, mo, kd, ax, ay, s0, s1, eo, ea, eb, pr, cm, ch, an, A, wt, f0, f1, p0, p1, wk, ov, mv, os, ms, oe, me, tp, lt, cs)) :
    ∀ (d r fuel : Nat) (fl : Int32) (A : Nat → Int32), r + d = 25 → d < fuel → lz_Out n m L r fl A → (∀ e, e < m → P0 e → lz_Z A e 0) →
    wX_solveAvailable_35 post nl vl el tl st (nI n) (nI m) fe pe vt oo mo fuel fl (nI r) kd ax ay s0 s1 eo ea eb pr cm ch an A wt f0 f1 p0 p1 wk ov mv os ms oe me tp lt cs := by
  intro d
  induction d with
  | zero =>
    intro r fuel fl A hr hf hO hB
    obtain ⟨f, rfl⟩ : ∃ f, fuel = f + 1 := ⟨fuel - 1, by omega⟩
    exact br_t (nI_lt (a := 24) (by omega) (by omega)) (h A (lz_Out_end hO (Or.inl (by omega))))
  | succ d ih =>
    intro r fuel fl A hr hf hO hB
    obtain ⟨f, rfl⟩ : ∃ f, fuel = f + 1 := ⟨fuel - 1, by omega⟩
    refine br_f (nI_nlt (a := 24) (by omega) (by omega)) (br_c (fun z => h A (lz_Out_end hO (Or.inr z))) (fun z => ?_))
    refine Exists.intro (n + 1) (xv_50 (A0 := A) (L := L) hn hm hT hK hL (fun fl' A' hI => ?_) n 0 (n + 1) 0 A (by omega) (by omega) (lz_Inv_0 hO.1 (fun e he i' s' a b c => absurd c (by omega))))
    rw [nI_1]
    exact ih (r + 1) f fl' A' (by omega) (by omega) (lz_Out_s hO hI (fun e he hD => lz_KD_L hT hL he (hB e he) hD)) (fun e he y => hI.1 e 0 he h0n (hB e he y))
theorem xv_2 (h0n : 0 < n) (hn : n ≤ 24) (hm : m ≤ 12) (hT : lz_TG n kd s0 s1) (hal : ∀ e, e < m → bt al e = true) (hK : lz_KA n m kd ax ay ea eb cm ch K) (hL : lz_KL m (lz_E n kd s0 s1) P0 K L) (hP : ∀ e, e < m → P0 e)
    (h : ∀ A, (∀ e i, e < m → i < n → (lz_Z A e i ↔ L e i)) → post (nl, vl, el, tl, st, nI n, nI m, fe, pe, vt, oo, mo, kd, ax, ay, s0, s1, eo, ea, eb, pr, cm, ch, an, A, wt, f0, f1, p0, p1, wk, ov, mv, os, ms, oe, me, tp, lt, cs)) :
    ∀ (d i fuel : Nat) (A : Nat → Int32), i + d = n → d < fuel → (∀ j, j < i → A j = if j = 0 then 0 else al) → wX_solveAvailable_2 post al nl vl el tl st (nI n) (nI m) fe pe vt oo mo fuel (nI i) kd ax ay s0 s1 eo ea eb pr cm ch an A wt f0 f1 p0 p1 wk ov mv os ms oe me tp lt cs := by
  intro d
  induction d with
  | zero =>
    intro i fuel A hi hf hA
    obtain ⟨f, rfl⟩ : ∃ f, fuel = f + 1 := ⟨fuel - 1, by omega⟩
    have hZ0 : ∀ e, e < m → lz_Z A e 0 := by
      intro e he
      unfold lz_Z
      rw [hA 0 (by omega), if_pos rfl, b_0]
    have hZ : ∀ e j, e < m → j < n → lz_Z A e j → j = 0 := by
      intro e j he hj z
      refine Classical.byContradiction fun q => ?_
      unfold lz_Z at z
      rw [hA j (by omega), if_neg q, hal e he] at z
      exact absurd z (by decide)
    exact br_t (nI_le (by omega) (by omega)) (Exists.intro 26 (xv_35 h0n hn hm hT hK hL h 25 0 26 1 A (by omega) (by omega) (lz_Out_0 (fun e j he hj z => by rw [hZ e j he hj z]; exact hL.1 e he (hP e he))) (fun e he _ => hZ0 e he)))
  | succ d ih =>
    intro i fuel A hi hf hA
    obtain ⟨f, rfl⟩ : ∃ f, fuel = f + 1 := ⟨fuel - 1, by omega⟩
    have e1 : (nI i).toNatClampNeg = i := nI_clamp (by omega)
    have w : vp_in (nI i) 24 := vp_in_nI (by omega) (by decide)
    have go : ∀ v : Int32, v = (if i = 0 then 0 else al) → wX_solveAvailable_2 post al nl vl el tl st (nI n) (nI m) fe pe vt oo mo f (nI (i + 1)) kd ax ay s0 s1 eo ea eb pr cm ch an (upd A i v) wt f0 f1 p0 p1 wk ov mv os ms oe me tp lt cs := by
      intro v hv
      refine ih (i + 1) f _ (by omega) (by omega) (fun j hj => ?_)
      by_cases q : j = i
      · subst q; rw [pk_us]; exact hv
      · rw [pk_un q]; exact hA j (by omega)
    refine br_f (nI_ge (by omega) (by omega)) ?_
    rw [e1]
    by_cases q : i = 0
    · exact br_t (by rw [q]; rfl) (And.intro w (nm_e (nm_r (nI_1 i) (go 0 (by rw [if_pos q])))))
    · exact br_f (nI_ne0 (by omega) (by omega)) (And.intro w (nm_e (nm_r (nI_1 i) (go al (by rw [if_neg q])))))
theorem xg_solveAvailable (h0n : 0 < n) (hn : n ≤ 24) (hm : m ≤ 12) (hT : lz_TG n kd s0 s1) (hal : ∀ e, e < m → bt al e = true) (hC : lz_CS n m kd ay cm) (hH : lz_HS n m kd ax ea eb ch)
    (h : ∀ A, (∀ e i, e < m → i < n → (lz_Z A e i ↔ lz_xNV n kd ax ay s0 s1 ea eb e i)) → post (nl, vl, el, tl, st, nI n, nI m, fe, pe, vt, oo, mo, kd, ax, ay, s0, s1, eo, ea, eb, pr, cm, ch, an, A, wt, f0, f1, p0, p1, wk, ov, mv, os, ms, oe, me, tp, lt, cs)) : wpX_solveAvailable post (nl, vl, el, tl, st, nI n, nI m, fe, pe, vt, oo, mo, kd, ax, ay, s0, s1, eo, ea, eb, pr, cm, ch, an, av, wt, f0, f1, p0, p1, wk, ov, mv, os, ms, oe, me, tp, lt, cs) al := by
  refine Exists.intro (n + 1) (xv_2 (P0 := fun _ => True) (K := fun e i j P => lz_H kd ax ea eb e i ∨ (¬ lz_C kd ay (nI e) i ∧ P)) (L := lz_xNV n kd ax ay s0 s1 ea eb) h0n hn hm hT hal ⟨hC, hH, fun _ _ _ _ => Iff.rfl⟩ ⟨fun _ _ _ => lz_NV0, fun e i j _ a b => lz_NVs a b, fun e S _ a b i hi => hi S (a trivial) b, fun e i j P Q f z => z.imp id (fun y => ⟨y.1, f y.2⟩)⟩ (fun _ _ => trivial) h n 0 (n + 1) av (by omega) (by omega) (fun j hj => absurd hj (by omega)))
end
end
section
/-! the component's first and waiting sets -/
def lz_FS (n m : Nat) (kd ax ay s0 s1 ea eb f0 f1 : Nat → Int32) : Prop := ∀ i e, i < n → e < m → (0 < lz_sl kd i → (bt (f0 i) e = true ↔ lz_xF n kd ax ay s0 s1 ea eb e i (lz_nx s0 s1 i 0))) ∧ (1 < lz_sl kd i → (bt (f1 i) e = true ↔ lz_xF n kd ax ay s0 s1 ea eb e i (lz_nx s0 s1 i 1)))
def lz_KW (n m : Nat) (kd ax ay s0 s1 ea eb cm f0 f1 : Nat → Int32) (K : Nat → Nat → Nat → Prop → Prop) : Prop :=
  lz_CS n m kd ay cm ∧ lz_FS n m kd ax ay s0 s1 ea eb f0 f1 ∧ ∀ e i j P, K e i j P ↔ (¬ lz_xF n kd ax ay s0 s1 ea eb e i j ∧ (lz_C kd ay (nI e) i ∨ P))
section
variable {nl vl el tl st nt et fe pe vt oo mo : Int32} {kd ax ay s0 s1 eo ea eb pr cm ch an av wt f0 f1 p0 p1 wk ov mv os ms oe me tp lt cs : Nat → Int32}
variable {post : Int32 → Prop} {n m i s : Nat} {K : Nat → Nat → Nat → Prop → Prop}
theorem xw_19 {z : Int32} (hn : n ≤ 24) (hm : m ≤ 12) (hi : i < n) (hC : lz_CS n m kd ay cm) {t : Nat} (hz : ∀ e, e < m → (bt z e = true ↔ lz_xF n kd ax ay s0 s1 ea eb e i t))
    (h : ∀ r, (∀ e, e < m → (bt r e = true ↔ (lz_xF n kd ax ay s0 s1 ea eb e i t ∨ (¬ lz_Z wt e i ∧ ¬ lz_C kd ay (nI e) i)))) → post r) : wX_waitingOnEdge_19 post (nI i) z nl vl el tl st nt et fe pe vt oo mo kd ax ay s0 s1 eo ea eb pr cm ch an av wt f0 f1 p0 p1 wk ov mv os ms oe me tp lt cs := by
  have e1 : (nI i).toNatClampNeg = i := nI_clamp (by omega)
  have w : vp_in (nI i) 24 := vp_in_nI (by omega) (by decide)
  unfold wX_waitingOnEdge_19
  refine And.intro w (And.intro w (h _ (fun e he => ?_)))
  rw [e1, b_or, b_and, lz_notb _ (by omega), Bool.or_eq_true, Bool.and_eq_true, Bool.not_eq_true', hz e he, lz_bf (x := bt (cm i) e), hC i e hi he]
  unfold lz_Z
  rw [lz_bf (x := bt (wt i) e), Classical.not_not]
theorem xw_e (hn : n ≤ 24) (hm : m ≤ 12) (hi : i < n) (hs : s < lz_sl kd i) (hC : lz_CS n m kd ay cm) (hF : lz_FS n m kd ax ay s0 s1 ea eb f0 f1)
    (h : ∀ r, (∀ e, e < m → (bt r e = true ↔ (lz_xF n kd ax ay s0 s1 ea eb e i (lz_nx s0 s1 i s) ∨ (¬ lz_Z wt e i ∧ ¬ lz_C kd ay (nI e) i)))) → post r) : wpX_waitingOnEdge post (nl, vl, el, tl, st, nt, et, fe, pe, vt, oo, mo, kd, ax, ay, s0, s1, eo, ea, eb, pr, cm, ch, an, av, wt, f0, f1, p0, p1, wk, ov, mv, os, ms, oe, me, tp, lt, cs) (nI i) (nI s) := by
  have hs2 := lz_sl2 kd i
  have e1 : (nI i).toNatClampNeg = i := nI_clamp (by omega)
  have w : vp_in (nI i) 24 := vp_in_nI (by omega) (by decide)
  by_cases q : s = 0
  · subst q
    refine br_t rfl (And.intro w ?_)
    rw [e1]
    exact xw_19 hn hm hi hC (fun e he => (hF i e hi he).1 hs) h
  · have q1 : s = 1 := by omega
    subst q1
    refine br_f (by decide) (And.intro w ?_)
    rw [e1]
    exact xw_19 hn hm hi hC (fun e he => (hF i e hi he).2 hs) h
theorem xw_r (hn : n ≤ 24) (hm : m ≤ 12) (hi : i < n) (hs : s < lz_sl kd i) (hK : lz_KW n m kd ax ay s0 s1 ea eb cm f0 f1 K) (h : ∀ r, (∀ e, e < m → (bt r e = false ↔ K e i (lz_nx s0 s1 i s) (lz_Z wt e i))) → post r) : wpX_waitingOnEdge post (nl, vl, el, tl, st, nt, et, fe, pe, vt, oo, mo, kd, ax, ay, s0, s1, eo, ea, eb, pr, cm, ch, an, av, wt, f0, f1, p0, p1, wk, ov, mv, os, ms, oe, me, tp, lt, cs) (nI i) (nI s) := by
  refine xw_e hn hm hi hs hK.1 hK.2.1 (fun r hr => h r (fun e he => ?_))
  rw [lz_bf, hr e he, hK.2.2]
  constructor
  · intro z
    refine ⟨fun y => z (Or.inl y), Classical.byContradiction fun y => z (Or.inr ⟨fun p => y (Or.inr p), fun p => y (Or.inl p)⟩)⟩
  · rintro ⟨a, b⟩ (z | ⟨z1, z2⟩)
    · exact a z
    · exact b.elim z2 z1
end
section
variable {nl vl el tl st nt et fe pe vt oo mo : Int32} {kd ax ay s0 s1 eo ea eb pr cm ch an av wt f0 f1 p0 p1 wk ov mv os ms oe me tp lt cs : Nat → Int32}
variable {post : SX → Prop} {J38 J53 : Int32 → Int32 → (Nat → Int32) → (Nat → Int32) → (Nat → Int32) → (Nat → Int32) → (Nat → Int32) → (Nat → Int32) → (Nat → Int32) → (Nat → Int32) → (Nat → Int32) → (Nat → Int32) → (Nat → Int32) → (Nat → Int32) → (Nat → Int32) → (Nat → Int32) → (Nat → Int32) → (Nat → Int32) → (Nat → Int32) → (Nat → Int32) → (Nat → Int32) → (Nat → Int32) → (Nat → Int32) → (Nat → Int32) → (Nat → Int32) → (Nat → Int32) → (Nat → Int32) → (Nat → Int32) → (Nat → Int32) → (Nat → Int32) → Prop} {al x3 : Int32} {n m i : Nat} {A0 : Nat → Int32} {P0 : Nat → Prop} {K : Nat → Nat → Nat → Prop → Prop} {L : Nat → Nat → Prop}
theorem xw_73 (hn : n ≤ 24) (hm : m ≤ 12) (hT : lz_TG n kd s0 s1) (hi : i < n) (hK : lz_KW n m kd ax ay s0 s1 ea eb cm f0 f1 K) (hL : lz_KL m (lz_E n kd s0 s1) P0 K L)
    (hJ : ∀ (fl : Int32) (A : Nat → Int32), lz_Inv n m L A0 A fl (lz_KD n kd s0 s1 K A0 (i + 1) 0) → J53 fl (nI (i + 1)) kd ax ay s0 s1 eo ea eb pr cm ch an av A f0 f1 p0 p1 wk ov mv os ms oe me tp lt cs) :
    ∀ (d s fuel : Nat) (fl : Int32) (A : Nat → Int32), s + d = lz_sl kd i → d < fuel → lz_Inv n m L A0 A fl (lz_KD n kd s0 s1 K A0 i s) →
    wX_solveWaits_73 post J38 J53 x3 (nI i) (nI (lz_sl kd i)) nl vl el tl st (nI n) (nI m) fe pe vt oo mo fuel fl (nI s) kd ax ay s0 s1 eo ea eb pr cm ch an av A f0 f1 p0 p1 wk ov mv os ms oe me tp lt cs := by
  have hs2 := lz_sl2 kd i
  intro d
  induction d with
  | zero =>
    intro s fuel fl A hs hf hI
    obtain ⟨f, rfl⟩ : ∃ f, fuel = f + 1 := ⟨fuel - 1, by omega⟩
    refine br_t (nI_le (by omega) (by omega)) (nm_r (nI_1 i) (hJ fl A (lz_Inv_w hI (fun e he hD i' s' a b c => hD i' s' a b ?_))))
    rcases c with c | c
    · by_cases q : i' = i
      · subst q; exact Or.inr ⟨rfl, by omega⟩
      · exact Or.inl (by omega)
    · exact absurd c.2 (by omega)
  | succ d ih =>
    intro s fuel fl A hs hf hI
    obtain ⟨f, rfl⟩ : ∃ f, fuel = f + 1 := ⟨fuel - 1, by omega⟩
    obtain ⟨ht1, ht2⟩ := hT i s hi (by omega)
    have e1 : (nI (lz_nx s0 s1 i s)).toNatClampNeg = lz_nx s0 s1 i s := nI_clamp (by omega)
    have w : vp_in (nI (lz_nx s0 s1 i s)) 24 := vp_in_nI (by omega) (by decide)
    refine br_f (nI_ge (by omega) (by omega)) (xw_r (s := s) hn hm hi (by omega) hK (fun r hr => xg_slotTarget (by omega) (by omega) ?_))
    rw [ht1, e1]
    have hv : ∀ e, e < m → (bt (A (lz_nx s0 s1 i s) &&& r) e = false ↔ (lz_Z A e (lz_nx s0 s1 i s) ∨ K e i (lz_nx s0 s1 i s) (lz_Z A e i))) := by
      intro e he
      rw [b_and, Bool.and_eq_false_iff, hr e he]
      exact Iff.rfl
    have hd : ∀ e, e < m → lz_KD n kd s0 s1 K A0 i s e → (∀ i, i < n → (lz_Z A e i ↔ lz_Z A0 e i)) → (bt (A (lz_nx s0 s1 i s) &&& r) e = false → lz_Z A0 e (lz_nx s0 s1 i s)) → lz_KD n kd s0 s1 K A0 i (s + 1) e := by
      intro e he hD hsame hz i' s' a b c hk
      by_cases q : i' = i ∧ s' = s
      · obtain ⟨rfl, rfl⟩ := q
        exact hz ((hv e he).mpr (Or.inr (hL.2.2.2 e _ _ _ _ (hsame i' a).mpr hk)))
      · refine hD i' s' a b ?_ hk
        rcases c with c | c
        · exact Or.inl c
        · refine Or.inr ⟨c.1, ?_⟩
          have : ¬ s' = s := fun y => q ⟨c.1, y⟩
          omega
    refine And.intro w (nm_e (And.intro w (br_c (fun z => nm_r (nI_1 s) (ih (s + 1) f fl A (by omega) (by omega) (lz_Inv_k hI ht2 z hd))) (fun z => And.intro w (nm_e (nm_r (nI_1 s) (ih (s + 1) f 1 _ (by omega) (by omega) (lz_Inv_s hI ht2 (fun e he y => (hv e he).mpr (Or.inl y)) (fun e he y => ?_) hd))))))))
    rcases (hv e he).mp y with y | y
    · exact hI.2.1 e _ he ht2 y
    · exact hL.2.1 e i _ he ⟨hi, s, by omega, rfl⟩ (hL.2.2.2 e _ _ _ _ (hI.2.1 e i he hi) y)
theorem xw_53 (hn : n ≤ 24) (hm : m ≤ 12) (hT : lz_TG n kd s0 s1) (hK : lz_KW n m kd ax ay s0 s1 ea eb cm f0 f1 K) (hL : lz_KL m (lz_E n kd s0 s1) P0 K L)
    (hJ : ∀ (fl : Int32) (A : Nat → Int32), lz_Inv n m L A0 A fl (lz_KD n kd s0 s1 K A0 n 0) → J38 fl (x3 + 1) kd ax ay s0 s1 eo ea eb pr cm ch an av A f0 f1 p0 p1 wk ov mv os ms oe me tp lt cs) :
    ∀ (d i fuel : Nat) (fl : Int32) (A : Nat → Int32), i + d = n → d < fuel → lz_Inv n m L A0 A fl (lz_KD n kd s0 s1 K A0 i 0) →
    wX_solveWaits_53 post J38 x3 nl vl el tl st (nI n) (nI m) fe pe vt oo mo fuel fl (nI i) kd ax ay s0 s1 eo ea eb pr cm ch an av A f0 f1 p0 p1 wk ov mv os ms oe me tp lt cs := by
  intro d
  induction d with
  | zero =>
    intro i fuel fl A hi hf hI
    obtain ⟨f, rfl⟩ : ∃ f, fuel = f + 1 := ⟨fuel - 1, by omega⟩
    have hin : i = n := by omega
    subst hin
    exact br_t (nI_le (by omega) (by omega)) (nm_e (hJ fl A hI))
  | succ d ih =>
    intro i fuel fl A hi hf hI
    obtain ⟨f, rfl⟩ : ∃ f, fuel = f + 1 := ⟨fuel - 1, by omega⟩
    have hs2 := lz_sl2 kd i
    refine br_f (nI_ge (by omega) (by omega)) (xg_slotCount (by omega) (Exists.intro 3 (xw_73 hn hm hT (by omega) hK hL (fun fl' A' hI' => ?_) (lz_sl kd i) 0 3 fl A (by omega) (by omega) hI)))
    exact ih (i + 1) f fl' A' (by omega) (by omega) hI'
theorem xw_38 (h0n : 0 < n) (hn : n ≤ 24) (hm : m ≤ 12) (hT : lz_TG n kd s0 s1) (hK : lz_KW n m kd ax ay s0 s1 ea eb cm f0 f1 K) (hL : lz_KL m (lz_E n kd s0 s1) P0 K L)
    (h : ∀ A, (∀ e i, e < m → i < n → (lz_Z A e i ↔ L e i)) → post (nl, vl, el, tl, st, nI n, nI m, fe, pe, vt, oo, mo, kd, ax, ay, s0, s1, eo, ea, eb, pr, cm, ch, an, av, A, f0, f1, p0, p1, wk, ov, mv, os, ms, oe, me, tp, lt, cs)) :
    ∀ (d r fuel : Nat) (fl : Int32) (A : Nat → Int32), r + d = 25 → d < fuel → lz_Out n m L r fl A → (∀ e, e < m → P0 e → lz_Z A e 0) →
    wX_solveWaits_38 post nl vl el tl st (nI n) (nI m) fe pe vt oo mo fuel fl (nI r) kd ax ay s0 s1 eo ea eb pr cm ch an av A f0 f1 p0 p1 wk ov mv os ms oe me tp lt cs := by
  intro d
  induction d with
  | zero =>
    intro r fuel fl A hr hf hO hB
    obtain ⟨f, rfl⟩ : ∃ f, fuel = f + 1 := ⟨fuel - 1, by omega⟩
    exact br_t (nI_lt (a := 24) (by omega) (by omega)) (h A (lz_Out_end hO (Or.inl (by omega))))
  | succ d ih =>
    intro r fuel fl A hr hf hO hB
    obtain ⟨f, rfl⟩ : ∃ f, fuel = f + 1 := ⟨fuel - 1, by omega⟩
    refine br_f (nI_nlt (a := 24) (by omega) (by omega)) (br_c (fun z => h A (lz_Out_end hO (Or.inr z))) (fun z => ?_))
    refine Exists.intro (n + 1) (xw_53 (A0 := A) (L := L) hn hm hT hK hL (fun fl' A' hI => ?_) n 0 (n + 1) 0 A (by omega) (by omega) (lz_Inv_0 hO.1 (fun e he i' s' a b c => absurd c (by omega))))
    rw [nI_1]
    exact ih (r + 1) f fl' A' (by omega) (by omega) (lz_Out_s hO hI (fun e he hD => lz_KD_L hT hL he (hB e he) hD)) (fun e he y => hI.1 e 0 he h0n (hB e he y))
theorem xw_2 (h0n : 0 < n) (hn : n ≤ 24) (hm : m ≤ 12) (hT : lz_TG n kd s0 s1) (hal : ∀ e, e < m → bt al e = true) (hK : lz_KW n m kd ax ay s0 s1 ea eb cm f0 f1 K) (hL : lz_KL m (lz_E n kd s0 s1) P0 K L) (hP : ∀ e, e < m → (bt fe e = false ↔ P0 e))
    (h : ∀ A, (∀ e i, e < m → i < n → (lz_Z A e i ↔ L e i)) → post (nl, vl, el, tl, st, nI n, nI m, fe, pe, vt, oo, mo, kd, ax, ay, s0, s1, eo, ea, eb, pr, cm, ch, an, av, A, f0, f1, p0, p1, wk, ov, mv, os, ms, oe, me, tp, lt, cs)) :
    ∀ (d i fuel : Nat) (A : Nat → Int32), i + d = n → d < fuel → (∀ j, j < i → A j = if j = 0 then fe else al) → wX_solveWaits_2 post al nl vl el tl st (nI n) (nI m) fe pe vt oo mo fuel (nI i) kd ax ay s0 s1 eo ea eb pr cm ch an av A f0 f1 p0 p1 wk ov mv os ms oe me tp lt cs := by
  intro d
  induction d with
  | zero =>
    intro i fuel A hi hf hA
    obtain ⟨f, rfl⟩ : ∃ f, fuel = f + 1 := ⟨fuel - 1, by omega⟩
    have hZ0 : ∀ e, e < m → (lz_Z A e 0 ↔ P0 e) := by
      intro e he
      unfold lz_Z
      rw [hA 0 (by omega), if_pos rfl]
      exact hP e he
    have hZ : ∀ e j, e < m → j < n → lz_Z A e j → j = 0 := by
      intro e j he hj z
      refine Classical.byContradiction fun q => ?_
      unfold lz_Z at z
      rw [hA j (by omega), if_neg q, hal e he] at z
      exact absurd z (by decide)
    refine br_t (nI_le (by omega) (by omega)) (Exists.intro 26 (xw_38 h0n hn hm hT hK hL h 25 0 26 1 A (by omega) (by omega) (lz_Out_0 (fun e j he hj z => ?_)) (fun e he y => (hZ0 e he).mpr y)))
    have q := hZ e j he hj z
    subst q
    exact hL.1 e he ((hZ0 e he).mp z)
  | succ d ih =>
    intro i fuel A hi hf hA
    obtain ⟨f, rfl⟩ : ∃ f, fuel = f + 1 := ⟨fuel - 1, by omega⟩
    have e1 : (nI i).toNatClampNeg = i := nI_clamp (by omega)
    have w : vp_in (nI i) 24 := vp_in_nI (by omega) (by decide)
    have go : ∀ v : Int32, v = (if i = 0 then fe else al) → wX_solveWaits_2 post al nl vl el tl st (nI n) (nI m) fe pe vt oo mo f (nI (i + 1)) kd ax ay s0 s1 eo ea eb pr cm ch an av (upd A i v) f0 f1 p0 p1 wk ov mv os ms oe me tp lt cs := by
      intro v hv
      refine ih (i + 1) f _ (by omega) (by omega) (fun j hj => ?_)
      by_cases q : j = i
      · subst q; rw [pk_us]; exact hv
      · rw [pk_un q]; exact hA j (by omega)
    refine br_f (nI_ge (by omega) (by omega)) ?_
    rw [e1]
    by_cases q : i = 0
    · exact br_t (by rw [q]; rfl) (And.intro w (nm_e (nm_r (nI_1 i) (go fe (by rw [if_pos q])))))
    · exact br_f (nI_ne0 (by omega) (by omega)) (And.intro w (nm_e (nm_r (nI_1 i) (go al (by rw [if_neg q])))))
theorem xg_solveWaits (h0n : 0 < n) (hn : n ≤ 24) (hm : m ≤ 12) (hT : lz_TG n kd s0 s1) (hal : ∀ e, e < m → bt al e = true) (hC : lz_CS n m kd ay cm) (hF : lz_FS n m kd ax ay s0 s1 ea eb f0 f1) (hfe : ∀ e, e < m → (bt fe e = false ↔ lz_xNA n kd ax ay s0 s1 ea eb e 0))
    (h : ∀ A, (∀ e i, e < m → i < n → (lz_Z A e i ↔ lz_xNW n kd ax ay s0 s1 ea eb e i)) → post (nl, vl, el, tl, st, nI n, nI m, fe, pe, vt, oo, mo, kd, ax, ay, s0, s1, eo, ea, eb, pr, cm, ch, an, av, A, f0, f1, p0, p1, wk, ov, mv, os, ms, oe, me, tp, lt, cs)) : wpX_solveWaits post (nl, vl, el, tl, st, nI n, nI m, fe, pe, vt, oo, mo, kd, ax, ay, s0, s1, eo, ea, eb, pr, cm, ch, an, av, wt, f0, f1, p0, p1, wk, ov, mv, os, ms, oe, me, tp, lt, cs) al := by
  refine Exists.intro (n + 1) (xw_2 (P0 := fun e => lz_xNA n kd ax ay s0 s1 ea eb e 0) (K := fun e i j P => ¬ lz_xF n kd ax ay s0 s1 ea eb e i j ∧ (lz_C kd ay (nI e) i ∨ P)) (L := lz_xNW n kd ax ay s0 s1 ea eb) h0n hn hm hT hal ⟨hC, hF, fun _ _ _ _ => Iff.rfl⟩ ⟨fun _ _ z => lz_NW0 z, fun e i j _ a b => lz_NWs a b.1 b.2, fun e S _ a b i hi => hi S a (fun i j p q r => b i j p ⟨q, r⟩), fun e i j P Q f z => ⟨z.1, z.2.imp id f⟩⟩ hfe h n 0 (n + 1) wt (by omega) (by omega) (fun j hj => absurd hj (by omega)))
end
end
section
/-! the component's first, placed, and the whole analysis -/
def lz_PS (n m : Nat) (kd ax ay s0 s1 ea eb p0 p1 : Nat → Int32) : Prop := ∀ i e, i < n → e < m → (0 < lz_sl kd i → (bt (p0 i) e = true ↔ lz_xP n kd ax ay s0 s1 ea eb e i (lz_nx s0 s1 i 0))) ∧ (1 < lz_sl kd i → (bt (p1 i) e = true ↔ lz_xP n kd ax ay s0 s1 ea eb e i (lz_nx s0 s1 i 1)))
section
variable {nl vl el tl st nt et fe pe vt oo mo : Int32} {kd ax ay s0 s1 eo ea eb pr cm ch an av wt f0 f1 p0 p1 wk ov mv os ms oe me tp lt cs : Nat → Int32}
variable {post : Int32 → Prop} {n m i : Nat}
theorem xf_av (hn : n ≤ 24) (hm : m ≤ 12) (hi : i < n) (hC : lz_CS n m kd ay cm) (hH : lz_HS n m kd ax ea eb ch) (h : ∀ r, (∀ e, e < m → (bt r e = true ↔ ((lz_C kd ay (nI e) i ∨ ¬ lz_Z av e i) ∧ ¬ lz_H kd ax ea eb e i))) → post r) : wpX_availableAfter post (nl, vl, el, tl, st, nt, et, fe, pe, vt, oo, mo, kd, ax, ay, s0, s1, eo, ea, eb, pr, cm, ch, an, av, wt, f0, f1, p0, p1, wk, ov, mv, os, ms, oe, me, tp, lt, cs) (nI i) := by
  have e1 : (nI i).toNatClampNeg = i := nI_clamp (by omega)
  have w : vp_in (nI i) 24 := vp_in_nI (by omega) (by decide)
  refine And.intro w (And.intro w (And.intro w (h _ (fun e he => ?_))))
  rw [e1, b_and, b_or, lz_notb _ (by omega), Bool.and_eq_true, Bool.or_eq_true, Bool.not_eq_true', hC i e hi he, lz_bf (x := bt (ch i) e), hH i e hi he]
  unfold lz_Z
  rw [lz_bf (x := bt (av i) e), Classical.not_not]
end
section
variable {nl vl el tl st nt et fe pe vt oo mo : Int32} {kd ax ay s0 s1 eo ea eb pr cm ch an av wt f0 f1 p0 p1 wk ov mv os ms oe me tp lt cs : Nat → Int32}
variable {post : SX → Prop} {J12 J19 : Int32 → (Nat → Int32) → (Nat → Int32) → (Nat → Int32) → (Nat → Int32) → (Nat → Int32) → (Nat → Int32) → (Nat → Int32) → (Nat → Int32) → (Nat → Int32) → (Nat → Int32) → (Nat → Int32) → (Nat → Int32) → (Nat → Int32) → (Nat → Int32) → (Nat → Int32) → (Nat → Int32) → (Nat → Int32) → (Nat → Int32) → (Nat → Int32) → (Nat → Int32) → (Nat → Int32) → (Nat → Int32) → (Nat → Int32) → (Nat → Int32) → (Nat → Int32) → (Nat → Int32) → (Nat → Int32) → (Nat → Int32) → Prop} {al : Int32} {n m i : Nat}
theorem lz_tg0 {s0 s1 : Nat → Int32} {i : Nat} : lz_tg s0 s1 i 0 = s0 i := rfl
theorem lz_tg1 {s0 s1 : Nat → Int32} {i : Nat} : lz_tg s0 s1 i 1 = s1 i := rfl
theorem lz_sv0 {n i : Nat} {kd s0 s1 : Nat → Int32} (hn : n ≤ 24) (hT : lz_TG n kd s0 s1) (hi : i < n) (hs : 0 < lz_sl kd i) : vp_in (s0 i) 24 ∧ (s0 i).toNatClampNeg = lz_nx s0 s1 i 0 := by
  obtain ⟨a, b⟩ := hT i 0 hi hs
  rw [lz_tg0] at a
  exact ⟨by rw [a]; exact vp_in_nI (by omega) (by decide), rfl⟩
theorem lz_sv1 {n i : Nat} {kd s0 s1 : Nat → Int32} (hn : n ≤ 24) (hT : lz_TG n kd s0 s1) (hi : i < n) (hs : 1 < lz_sl kd i) : vp_in (s1 i) 24 ∧ (s1 i).toNatClampNeg = lz_nx s0 s1 i 1 := by
  obtain ⟨a, b⟩ := hT i 1 hi hs
  rw [lz_tg1] at a
  exact ⟨by rw [a]; exact vp_in_nI (by omega) (by decide), rfl⟩
theorem xf_86 (hn : n ≤ 24) (hm : m ≤ 12) (hT : lz_TG n kd s0 s1) (hi : i < n) {op z : Int32}
    (hJ : ∀ y, (1 < lz_sl kd i → y = (an (lz_nx s0 s1 i 1) &&& op)) → J12 (nI (i + 1)) kd ax ay s0 s1 eo ea eb pr cm ch an av wt (upd f0 i z) (upd f1 i y) p0 p1 wk ov mv os ms oe me tp lt cs) : wX_findFirst_86 post J12 al (nI i) op (nI (lz_sl kd i)) z (nI i) nl vl el tl st nt et fe pe vt oo mo kd ax ay s0 s1 eo ea eb pr cm ch an av wt f0 f1 p0 p1 wk ov mv os ms oe me tp lt cs := by
  have hs2 := lz_sl2 kd i
  have e1 : (nI i).toNatClampNeg = i := nI_clamp (by omega)
  have w : vp_in (nI i) 24 := vp_in_nI (by omega) (by decide)
  unfold wX_findFirst_86
  refine And.intro w ?_
  rw [e1]
  refine nm_e ?_
  by_cases q : 1 < lz_sl kd i
  · obtain ⟨a, b⟩ := lz_sv1 hn hT hi q
    refine br_f (nI_ge (a := 1) q (by omega)) (And.intro w (And.intro a (And.intro w ?_)))
    rw [b]
    exact nm_e (nm_r (nI_1 i) (hJ _ (fun _ => rfl)))
  · exact br_t (nI_le (b := 1) (by omega) (by omega)) (And.intro w (nm_e (nm_r (nI_1 i) (hJ 0 (fun y => absurd y q)))))
theorem xf_12 (hn : n ≤ 24) (hm : m ≤ 12) (hT : lz_TG n kd s0 s1) (hal : ∀ e, e < m → bt al e = true) (hC : lz_CS n m kd ay cm) (hH : lz_HS n m kd ax ea eb ch) (hN : ∀ e i, e < m → i < n → (lz_Z an e i ↔ lz_xNA n kd ax ay s0 s1 ea eb e i)) (hV : ∀ e i, e < m → i < n → (lz_Z av e i ↔ lz_xNV n kd ax ay s0 s1 ea eb e i))
    (h : ∀ f0' f1', lz_FS n m kd ax ay s0 s1 ea eb f0' f1' → post (nl, vl, el, tl, st, nI n, nI m, fe, pe, vt, oo, mo, kd, ax, ay, s0, s1, eo, ea, eb, pr, cm, ch, an, av, wt, f0', f1', p0, p1, wk, ov, mv, os, ms, oe, me, tp, lt, cs)) :
    ∀ (d i fuel : Nat) (f0' f1' : Nat → Int32), i + d = n → d < fuel → (∀ i' e, i' < i → e < m → (0 < lz_sl kd i' → (bt (f0' i') e = true ↔ lz_xF n kd ax ay s0 s1 ea eb e i' (lz_nx s0 s1 i' 0))) ∧ (1 < lz_sl kd i' → (bt (f1' i') e = true ↔ lz_xF n kd ax ay s0 s1 ea eb e i' (lz_nx s0 s1 i' 1)))) →
    wX_findFirst_12 post al nl vl el tl st (nI n) (nI m) fe pe vt oo mo fuel (nI i) kd ax ay s0 s1 eo ea eb pr cm ch an av wt f0' f1' p0 p1 wk ov mv os ms oe me tp lt cs := by
  intro d
  induction d with
  | zero =>
    intro i fuel f0' f1' hi hf hD
    obtain ⟨f, rfl⟩ : ∃ f, fuel = f + 1 := ⟨fuel - 1, by omega⟩
    have hin : i = n := by omega
    subst hin
    exact br_t (nI_le (by omega) (by omega)) (h f0' f1' hD)
  | succ d ih =>
    intro i fuel f0' f1' hi hf hD
    obtain ⟨f, rfl⟩ : ∃ f, fuel = f + 1 := ⟨fuel - 1, by omega⟩
    have hin : i < n := by omega
    have hs2 := lz_sl2 kd i
    have e1 : (nI i).toNatClampNeg = i := nI_clamp (by omega)
    have w : vp_in (nI i) 24 := vp_in_nI (by omega) (by decide)
    refine br_f (nI_ge (by omega) (by omega)) (xg_anticipatedAfter hn hm hT hin hal (fun ra hra => xf_av hn hm hin hC hH (fun rv hrv => And.intro w ?_)))
    rw [e1]
    refine nm_e (xg_slotCount (by omega) ?_)
    have hop : ∀ e s, e < m → s < lz_sl kd i → (bt (an (lz_nx s0 s1 i s) &&& ((ch i ||| (ra ^^^ (-1))) &&& (rv ^^^ (-1)))) e = true ↔ lz_xF n kd ax ay s0 s1 ea eb e i (lz_nx s0 s1 i s)) := by
      intro e s he hs
      have hz : bt (an (lz_nx s0 s1 i s)) e = true ↔ ¬ lz_xNA n kd ax ay s0 s1 ea eb e (lz_nx s0 s1 i s) := by
        rw [← hN e _ he (hT i s hin hs).2]; unfold lz_Z; rw [lz_bf, Classical.not_not]
      rw [b_and, b_and, b_or, lz_notb _ (by omega), lz_notb _ (by omega), Bool.and_eq_true, Bool.and_eq_true, Bool.or_eq_true, Bool.not_eq_true', Bool.not_eq_true', hz, hH i e hin he, lz_bf (x := bt ra e), hra e he, lz_bf (x := bt rv e), hrv e he, hV e i he hin]
      unfold lz_xF lz_First
      constructor
      · rintro ⟨a, b, c⟩
        refine ⟨a, fun y => c ⟨y.2, y.1⟩, b.imp id (fun y => ?_)⟩
        refine Classical.byContradiction fun p => y ⟨by omega, fun s' h' q => p ⟨_, ⟨hin, s', h', rfl⟩, (hN e _ he (hT i s' hin h').2).mp q⟩⟩
      · rintro ⟨a, b, c⟩
        refine ⟨a, c.imp id ?_, fun y => b ⟨y.2, y.1⟩⟩
        rintro ⟨j, ⟨_, s', h', rfl⟩, p⟩ ⟨_, y⟩
        exact y s' h' ((hN e _ he (hT i s' hin h').2).mpr p)
    have go : ∀ z y, (0 < lz_sl kd i → z = an (lz_nx s0 s1 i 0) &&& ((ch i ||| (ra ^^^ (-1))) &&& (rv ^^^ (-1)))) → (1 < lz_sl kd i → y = an (lz_nx s0 s1 i 1) &&& ((ch i ||| (ra ^^^ (-1))) &&& (rv ^^^ (-1)))) → wX_findFirst_12 post al nl vl el tl st (nI n) (nI m) fe pe vt oo mo f (nI (i + 1)) kd ax ay s0 s1 eo ea eb pr cm ch an av wt (upd f0' i z) (upd f1' i y) p0 p1 wk ov mv os ms oe me tp lt cs := by
      intro z y hz hy
      refine ih (i + 1) f _ _ (by omega) (by omega) (fun i' e a he => ?_)
      by_cases q : i' = i
      · subst q
        rw [pk_us, pk_us]
        refine ⟨fun p => ?_, fun p => ?_⟩
        · rw [hz p]; exact hop e 0 he p
        · rw [hy p]; exact hop e 1 he p
      · rw [pk_un q, pk_un q]; exact hD i' e (by omega) he
    by_cases q : 0 < lz_sl kd i
    · obtain ⟨a, b⟩ := lz_sv0 hn hT hin q
      refine br_f (nI_nle q (by omega)) (And.intro w (And.intro a ?_))
      rw [b]
      exact xf_86 hn hm hT hin (fun y hy => go _ y (fun _ => rfl) hy)
    · refine br_t ?_ (xf_86 hn hm hT hin (fun y hy => go 0 y (fun p => absurd p q) hy))
      rw [show lz_sl kd i = 0 from by omega]; decide
theorem xg_findFirst (h0n : 0 < n) (hn : n ≤ 24) (hm : m ≤ 12) (hT : lz_TG n kd s0 s1) (hal : ∀ e, e < m → bt al e = true) (hC : lz_CS n m kd ay cm) (hH : lz_HS n m kd ax ea eb ch) (hN : ∀ e i, e < m → i < n → (lz_Z an e i ↔ lz_xNA n kd ax ay s0 s1 ea eb e i)) (hV : ∀ e i, e < m → i < n → (lz_Z av e i ↔ lz_xNV n kd ax ay s0 s1 ea eb e i))
    (h : ∀ fe' f0' f1', lz_FS n m kd ax ay s0 s1 ea eb f0' f1' → (∀ e, e < m → (bt fe' e = false ↔ lz_xNA n kd ax ay s0 s1 ea eb e 0)) → post (nl, vl, el, tl, st, nI n, nI m, fe', pe, vt, oo, mo, kd, ax, ay, s0, s1, eo, ea, eb, pr, cm, ch, an, av, wt, f0', f1', p0, p1, wk, ov, mv, os, ms, oe, me, tp, lt, cs)) : wpX_findFirst post (nl, vl, el, tl, st, nI n, nI m, fe, pe, vt, oo, mo, kd, ax, ay, s0, s1, eo, ea, eb, pr, cm, ch, an, av, wt, f0, f1, p0, p1, wk, ov, mv, os, ms, oe, me, tp, lt, cs) al :=
  nm_e (Exists.intro (n + 1) (xf_12 hn hm hT hal hC hH hN hV (fun f0' f1' hF => h (an 0) f0' f1' hF (fun e he => hN e 0 he h0n)) n 0 (n + 1) f0 f1 (by omega) (by omega) (fun i e a => absurd a (by omega))))
theorem lz_pl {n m e i t : Nat} {kd ax ay s0 s1 ea eb wt : Nat → Int32} {r : Int32} (he : e < 12) (ht : lz_Z wt e t ↔ lz_xNW n kd ax ay s0 s1 ea eb e t) (hi : lz_Z wt e i ↔ lz_xNW n kd ax ay s0 s1 ea eb e i) (hr : bt r e = true ↔ (lz_xF n kd ax ay s0 s1 ea eb e i t ∨ (¬ lz_Z wt e i ∧ ¬ lz_C kd ay (nI e) i))) :
    bt (r &&& (wt t ^^^ (-1))) e = true ↔ lz_xP n kd ax ay s0 s1 ea eb e i t := by
  rw [b_and, lz_notb _ (by omega), Bool.and_eq_true, Bool.not_eq_true', hr, hi]
  unfold lz_xP
  rw [← ht]
  exact And.comm
theorem xp_79 (hn : n ≤ 24) (hm : m ≤ 12) (hT : lz_TG n kd s0 s1) (hi : i < n) (hC : lz_CS n m kd ay cm) (hF : lz_FS n m kd ax ay s0 s1 ea eb f0 f1) (hW : ∀ e i, e < m → i < n → (lz_Z wt e i ↔ lz_xNW n kd ax ay s0 s1 ea eb e i))
    (hJ : ∀ y, (1 < lz_sl kd i → ∀ e, e < m → (bt y e = true ↔ lz_xP n kd ax ay s0 s1 ea eb e i (lz_nx s0 s1 i 1))) → J19 (nI (i + 1)) kd ax ay s0 s1 eo ea eb pr cm ch an av wt f0 f1 p0 (upd p1 i y) wk ov mv os ms oe me tp lt cs) : wX_findPlaced_79 post J19 (nI i) (nI (lz_sl kd i)) nl vl el tl st nt et fe pe vt oo mo kd ax ay s0 s1 eo ea eb pr cm ch an av wt f0 f1 p0 (upd p1 i 0) wk ov mv os ms oe me tp lt cs := by
  have hs2 := lz_sl2 kd i
  have e1 : (nI i).toNatClampNeg = i := nI_clamp (by omega)
  have w : vp_in (nI i) 24 := vp_in_nI (by omega) (by decide)
  unfold wX_findPlaced_79
  by_cases q : 1 < lz_sl kd i
  · obtain ⟨a, b⟩ := lz_sv1 hn hT hi q
    refine br_f (nI_ge (a := 1) q (by omega)) (xw_e (s := 1) hn hm hi q hC hF (fun r hr => And.intro w ?_))
    rw [e1, b]
    refine And.intro a (And.intro w (nm_r (e' := upd p1 i (r &&& (wt (lz_nx s0 s1 i 1) ^^^ (-1)))) ?_ (nm_r (nI_1 i) (hJ _ (fun _ e he => ?_)))))
    · funext j
      by_cases p : j = i
      · subst p; rw [pk_us, pk_us]
      · rw [pk_un p, pk_un p, pk_un p]
    · exact lz_pl (m := m) (by omega) (hW e _ he (hT i 1 hi q).2) (hW e i he hi) (hr e he)
  · exact br_t (nI_le (b := 1) (by omega) (by omega)) (nm_r (nI_1 i) (hJ 0 (fun y => absurd y q)))
theorem xp_19 (hn : n ≤ 24) (hm : m ≤ 12) (hT : lz_TG n kd s0 s1) (hC : lz_CS n m kd ay cm) (hF : lz_FS n m kd ax ay s0 s1 ea eb f0 f1) (hW : ∀ e i, e < m → i < n → (lz_Z wt e i ↔ lz_xNW n kd ax ay s0 s1 ea eb e i))
    (h : ∀ p0' p1', lz_PS n m kd ax ay s0 s1 ea eb p0' p1' → post (nl, vl, el, tl, st, nI n, nI m, fe, pe, vt, oo, mo, kd, ax, ay, s0, s1, eo, ea, eb, pr, cm, ch, an, av, wt, f0, f1, p0', p1', wk, ov, mv, os, ms, oe, me, tp, lt, cs)) :
    ∀ (d i fuel : Nat) (p0' p1' : Nat → Int32), i + d = n → d < fuel → (∀ i' e, i' < i → e < m → (0 < lz_sl kd i' → (bt (p0' i') e = true ↔ lz_xP n kd ax ay s0 s1 ea eb e i' (lz_nx s0 s1 i' 0))) ∧ (1 < lz_sl kd i' → (bt (p1' i') e = true ↔ lz_xP n kd ax ay s0 s1 ea eb e i' (lz_nx s0 s1 i' 1)))) →
    wX_findPlaced_19 post nl vl el tl st (nI n) (nI m) fe pe vt oo mo fuel (nI i) kd ax ay s0 s1 eo ea eb pr cm ch an av wt f0 f1 p0' p1' wk ov mv os ms oe me tp lt cs := by
  intro d
  induction d with
  | zero =>
    intro i fuel p0' p1' hi hf hD
    obtain ⟨f, rfl⟩ : ∃ f, fuel = f + 1 := ⟨fuel - 1, by omega⟩
    have hin : i = n := by omega
    subst hin
    exact br_t (nI_le (by omega) (by omega)) (h p0' p1' hD)
  | succ d ih =>
    intro i fuel p0' p1' hi hf hD
    obtain ⟨f, rfl⟩ : ∃ f, fuel = f + 1 := ⟨fuel - 1, by omega⟩
    have hin : i < n := by omega
    have hs2 := lz_sl2 kd i
    have e1 : (nI i).toNatClampNeg = i := nI_clamp (by omega)
    have w : vp_in (nI i) 24 := vp_in_nI (by omega) (by decide)
    have go : ∀ z, (0 < lz_sl kd i → ∀ e, e < m → (bt z e = true ↔ lz_xP n kd ax ay s0 s1 ea eb e i (lz_nx s0 s1 i 0))) → ∀ y, (1 < lz_sl kd i → ∀ e, e < m → (bt y e = true ↔ lz_xP n kd ax ay s0 s1 ea eb e i (lz_nx s0 s1 i 1))) → wX_findPlaced_19 post nl vl el tl st (nI n) (nI m) fe pe vt oo mo f (nI (i + 1)) kd ax ay s0 s1 eo ea eb pr cm ch an av wt f0 f1 (upd p0' i z) (upd p1' i y) wk ov mv os ms oe me tp lt cs := by
      intro z hz y hy
      refine ih (i + 1) f _ _ (by omega) (by omega) (fun i' e a he => ?_)
      by_cases q : i' = i
      · subst q
        rw [pk_us, pk_us]
        exact ⟨fun p => hz p e he, fun p => hy p e he⟩
      · rw [pk_un q, pk_un q]; exact hD i' e (by omega) he
    refine br_f (nI_ge (by omega) (by omega)) (xg_slotCount (by omega) (And.intro w ?_))
    rw [e1]
    refine nm_e (And.intro w (nm_e ?_))
    by_cases q : 0 < lz_sl kd i
    · obtain ⟨a, b⟩ := lz_sv0 hn hT hin q
      refine br_f (nI_nle q (by omega)) (xw_e (s := 0) hn hm hin q hC hF (fun r hr => And.intro w ?_))
      rw [b]
      refine And.intro a (And.intro w (nm_r (e' := upd p0' i (r &&& (wt (lz_nx s0 s1 i 0) ^^^ (-1)))) ?_ (xp_79 hn hm hT hin hC hF hW (go _ (fun _ e he => ?_)))))
      · funext j
        by_cases p : j = i
        · subst p; rw [pk_us, pk_us]
        · rw [pk_un p, pk_un p, pk_un p]
      · exact lz_pl (m := m) (by omega) (hW e _ he (hT i 0 hin q).2) (hW e i he hin) (hr e he)
    · refine br_t ?_ (xp_79 hn hm hT hin hC hF hW (go 0 (fun p => absurd p q)))
      rw [show lz_sl kd i = 0 from by omega]; decide
theorem xg_findPlaced (h0n : 0 < n) (hn : n ≤ 24) (hm : m ≤ 12) (hT : lz_TG n kd s0 s1) (hC : lz_CS n m kd ay cm) (hF : lz_FS n m kd ax ay s0 s1 ea eb f0 f1) (hW : ∀ e i, e < m → i < n → (lz_Z wt e i ↔ lz_xNW n kd ax ay s0 s1 ea eb e i)) (hfe : ∀ e, e < m → (bt fe e = false ↔ lz_xNA n kd ax ay s0 s1 ea eb e 0))
    (h : ∀ pe' p0' p1', lz_PS n m kd ax ay s0 s1 ea eb p0' p1' → (∀ e, e < m → (bt pe' e = true ↔ lz_xP0 n kd ax ay s0 s1 ea eb e)) → post (nl, vl, el, tl, st, nI n, nI m, fe, pe', vt, oo, mo, kd, ax, ay, s0, s1, eo, ea, eb, pr, cm, ch, an, av, wt, f0, f1, p0', p1', wk, ov, mv, os, ms, oe, me, tp, lt, cs)) : wpX_findPlaced post (nl, vl, el, tl, st, nI n, nI m, fe, pe, vt, oo, mo, kd, ax, ay, s0, s1, eo, ea, eb, pr, cm, ch, an, av, wt, f0, f1, p0, p1, wk, ov, mv, os, ms, oe, me, tp, lt, cs) := by
  refine nm_e (Exists.intro (n + 1) (xp_19 hn hm hT hC hF hW (fun p0' p1' hP => h _ p0' p1' hP (fun e he => ?_)) n 0 (n + 1) p0 p1 (by omega) (by omega) (fun i e a => absurd a (by omega))))
  rw [b_and, lz_notb _ (by omega), Bool.and_eq_true, Bool.not_eq_true', lz_xP0, ← hfe e he, lz_bf (x := bt fe e), Classical.not_not, ← hW e 0 he h0n]
  exact And.comm
/-- what the analysis leaves -/
def lz_AN (n m : Nat) (kd ax ay s0 s1 ea eb : Nat → Int32) (pe : Int32) (an av wt p0 p1 : Nat → Int32) : Prop :=
  (∀ e i, e < m → i < n → (lz_Z an e i ↔ lz_xNA n kd ax ay s0 s1 ea eb e i)) ∧ (∀ e i, e < m → i < n → (lz_Z av e i ↔ lz_xNV n kd ax ay s0 s1 ea eb e i)) ∧ (∀ e i, e < m → i < n → (lz_Z wt e i ↔ lz_xNW n kd ax ay s0 s1 ea eb e i)) ∧
  (∀ e, e < m → (bt pe e = true ↔ lz_xP0 n kd ax ay s0 s1 ea eb e)) ∧ lz_PS n m kd ax ay s0 s1 ea eb p0 p1
theorem xg_analyse (h0n : 0 < n) (hn : n ≤ 24) (hm : m ≤ 12) (hT : lz_TG n kd s0 s1) (hY : lz_WY n m kd ay)
    (h : ∀ fe' pe' cm' ch' an' av' wt' f0' f1' p0' p1', lz_AN n m kd ax ay s0 s1 ea eb pe' an' av' wt' p0' p1' → post (nl, vl, el, tl, st, nI n, nI m, fe', pe', vt, oo, mo, kd, ax, ay, s0, s1, eo, ea, eb, pr, cm', ch', an', av', wt', f0', f1', p0', p1', wk, ov, mv, os, ms, oe, me, tp, lt, cs)) : wpX_analyse post (nl, vl, el, tl, st, nI n, nI m, fe, pe, vt, oo, mo, kd, ax, ay, s0, s1, eo, ea, eb, pr, cm, ch, an, av, wt, f0, f1, p0, p1, wk, ov, mv, os, ms, oe, me, tp, lt, cs) := by
  have hal : ∀ e, e < m → bt (((1 : Int32) <<< (nI m &&& 31)) - 1) e = true := fun e he => by rw [lz_all m (by omega) e (by omega), decide_eq_true he]
  refine nm_e (xg_findLocalSets hn hm hY (fun cm' ch' hC hH => ?_))
  refine xg_solveAnticipated hn hm hT hal hC hH (fun an' hN => ?_)
  refine xg_solveAvailable h0n hn hm hT hal hC hH (fun av' hV => ?_)
  refine xg_findFirst h0n hn hm hT hal hC hH hN hV (fun fe' f0' f1' hF hfe => ?_)
  refine xg_solveWaits h0n hn hm hT hal hC hF hfe (fun wt' hW => ?_)
  refine xg_findPlaced h0n hn hm hT hC hF hW hfe (fun pe' p0' p1' hP hpe => ?_)
  exact h fe' pe' cm' ch' an' av' wt' f0' f1' p0' p1' ⟨hN, hV, hW, hpe, hP⟩
end
end
section
/-! the run of the graph, and the theorem of the motion: where an evaluation is dropped, its temporary holds the value -/
noncomputable def lz_if (P : Prop) (a b : Int32) : Int32 := @ite Int32 P (Classical.propDecidable P) a b
theorem lz_if_t {P : Prop} {a b : Int32} (h : P) : lz_if P a b = a := by unfold lz_if; rw [if_pos h]
theorem lz_if_f {P : Prop} {a b : Int32} (h : ¬ P) : lz_if P a b = b := by unfold lz_if; rw [if_neg h]
theorem lz_b_add_t {P : Prop} {x : Int32} (h : P) : x + lz_b P = x + 1 := by rw [lz_b_t h]
theorem lz_b_add_f {P : Prop} {x : Int32} (h : ¬ P) : x + lz_b P = x := by rw [lz_b_f h, Int32.add_zero]
def lz_val (eo ea eb vs : Nat → Int32) (e : Nat) : Int32 :=
  if eo e = 0 then vs (ea e).toNatClampNeg + vs (eb e).toNatClampNeg else if eo e = 1 then vs (ea e).toNatClampNeg - vs (eb e).toNatClampNeg
  else if eo e = 2 then vs (ea e).toNatClampNeg * vs (eb e).toNatClampNeg else if eo e = 3 then vs (ea e).toNatClampNeg &&& vs (eb e).toNatClampNeg
  else if eo e = 4 then vs (ea e).toNatClampNeg ^^^ vs (eb e).toNatClampNeg else if vs (eb e).toNatClampNeg ≤ vs (ea e).toNatClampNeg then 0 else 1
def lz_vs (kd ax ay eo ea eb : Nat → Int32) (i : Nat) (vs : Nat → Int32) : Nat → Int32 :=
  if kd i = 1 then upd vs (ax i).toNatClampNeg (ay i) else if kd i = 2 then upd vs (ax i).toNatClampNeg (vs (ay i).toNatClampNeg)
  else if kd i = 3 then upd vs (ax i).toNatClampNeg (lz_val eo ea eb vs (ay i).toNatClampNeg) else vs
def lz_os (kd ax : Nat → Int32) (i : Nat) (vs os : Nat → Int32) (k : Nat) : Nat → Int32 := if kd i = 4 then upd os k (vs (ax i).toNatClampNeg) else os
def lz_on (kd : Nat → Int32) (i k : Nat) : Nat := if kd i = 4 then k + 1 else k
def lz_ch (kd ax : Nat → Int32) (i : Nat) (vs : Nat → Int32) : Nat := if kd i = 5 ∧ vs (ax i).toNatClampNeg = 0 then 1 else 0
def lz_tr (kd ax ay s0 s1 eo ea eb v0 o0 : Nat → Int32) : Nat → Nat × (Nat → Int32) × (Nat → Int32) × Nat
  | 0 => (0, v0, o0, 0)
  | j + 1 => (lz_nx s0 s1 (lz_tr kd ax ay s0 s1 eo ea eb v0 o0 j).1 (lz_ch kd ax (lz_tr kd ax ay s0 s1 eo ea eb v0 o0 j).1 (lz_vs kd ax ay eo ea eb (lz_tr kd ax ay s0 s1 eo ea eb v0 o0 j).1 (lz_tr kd ax ay s0 s1 eo ea eb v0 o0 j).2.1)),
      lz_vs kd ax ay eo ea eb (lz_tr kd ax ay s0 s1 eo ea eb v0 o0 j).1 (lz_tr kd ax ay s0 s1 eo ea eb v0 o0 j).2.1,
      lz_os kd ax (lz_tr kd ax ay s0 s1 eo ea eb v0 o0 j).1 (lz_tr kd ax ay s0 s1 eo ea eb v0 o0 j).2.1 (lz_tr kd ax ay s0 s1 eo ea eb v0 o0 j).2.2.1 (lz_tr kd ax ay s0 s1 eo ea eb v0 o0 j).2.2.2,
      lz_on kd (lz_tr kd ax ay s0 s1 eo ea eb v0 o0 j).1 (lz_tr kd ax ay s0 s1 eo ea eb v0 o0 j).2.2.2)
/-- what the nodes and the expressions hold -/
def lz_WN (n m : Nat) (kd ax ay ea eb : Nat → Int32) : Prop :=
  (∀ i, i < n → ∃ x, x < 8 ∧ ax i = nI x) ∧ (∀ i, i < n → kd i = 2 → ∃ y, y < 8 ∧ ay i = nI y) ∧ lz_WY n m kd ay ∧ (∀ e, e < m → (∃ a, a < 8 ∧ ea e = nI a) ∧ (∃ b, b < 8 ∧ eb e = nI b))
section
variable {kd ax ay s0 s1 eo ea eb vv ww : Nat → Int32} {n m : Nat}
theorem lz_ch_lt {i : Nat} {vs : Nat → Int32} (h : ¬ kd i = 6) : lz_ch kd ax i vs < lz_sl kd i := by
  unfold lz_ch lz_sl
  rw [if_neg h]
  by_cases h5 : kd i = 5
  · rw [if_pos h5]; split <;> omega
  · rw [if_neg h5, if_neg (fun z => h5 z.1)]; omega
theorem lz_tr_lt (h0 : 0 < n) (hT : lz_TG n kd s0 s1) : ∀ j, (∀ j', j' < j → ¬ kd (lz_tr kd ax ay s0 s1 eo ea eb vv ww j').1 = 6) → (lz_tr kd ax ay s0 s1 eo ea eb vv ww j).1 < n
  | 0, _ => h0
  | j + 1, h => (hT _ _ (lz_tr_lt h0 hT j (fun j' h' => h j' (by omega))) (lz_ch_lt (h j (by omega)))).2
theorem lz_tr_on : ∀ j, (lz_tr kd ax ay s0 s1 eo ea eb vv ww j).2.2.2 ≤ j
  | 0 => Nat.le_refl _
  | j + 1 => by
    have := lz_tr_on j
    show lz_on kd (lz_tr kd ax ay s0 s1 eo ea eb vv ww j).1 (lz_tr kd ax ay s0 s1 eo ea eb vv ww j).2.2.2 ≤ j + 1
    unfold lz_on
    split <;> omega
/-- the run makes L visits and ends in state s -/
def lz_Stop (kd ax ay s0 s1 eo ea eb vv ww : Nat → Int32) (B L : Nat) (s : Int32) : Prop :=
  1 ≤ L ∧ L ≤ B ∧ (∀ j, j + 1 < L → ¬ kd (lz_tr kd ax ay s0 s1 eo ea eb vv ww j).1 = 6) ∧ ((s = 2 ∧ kd (lz_tr kd ax ay s0 s1 eo ea eb vv ww (L - 1)).1 = 6) ∨ (s = 3 ∧ L = B ∧ ¬ kd (lz_tr kd ax ay s0 s1 eo ea eb vv ww (L - 1)).1 = 6))
theorem lz_Stop_ex : ∀ B, 1 ≤ B → ∃ L s, lz_Stop kd ax ay s0 s1 eo ea eb vv ww B L s := by
  intro B hB
  have key : ∀ d L, L + d = B → 1 ≤ L → (∀ j, j + 1 < L → ¬ kd (lz_tr kd ax ay s0 s1 eo ea eb vv ww j).1 = 6) → ∃ L s, lz_Stop kd ax ay s0 s1 eo ea eb vv ww B L s := by
    intro d
    induction d with
    | zero =>
      intro L hL h1 h
      by_cases z : kd (lz_tr kd ax ay s0 s1 eo ea eb vv ww (L - 1)).1 = 6
      · exact ⟨L, 2, h1, by omega, h, Or.inl ⟨rfl, z⟩⟩
      · exact ⟨L, 3, h1, by omega, h, Or.inr ⟨rfl, by omega, z⟩⟩
    | succ d ih =>
      intro L hL h1 h
      by_cases z : kd (lz_tr kd ax ay s0 s1 eo ea eb vv ww (L - 1)).1 = 6
      · exact ⟨L, 2, h1, by omega, h, Or.inl ⟨rfl, z⟩⟩
      · refine ih (L + 1) (by omega) (by omega) (fun j hj => ?_)
        by_cases q : j = L - 1
        · rw [q]; exact z
        · exact h j (by omega)
  exact key (B - 1) 1 (by omega) (by omega) (fun j hj => absurd hj (by omega))
theorem lz_vs_val (hW : lz_WN n m kd ax ay ea eb) {i e : Nat} (hi : i < n) (he : e < m) (hH : ¬ lz_H kd ax ea eb e i) (vs : Nat → Int32) : lz_val eo ea eb (lz_vs kd ax ay eo ea eb i vs) e = lz_val eo ea eb vs e := by
  obtain ⟨x, hx, ex⟩ := hW.1 i hi
  obtain ⟨⟨a, ha, ea'⟩, b, hb, eb'⟩ := hW.2.2.2 e he
  have key : ∀ k, (k = a ∨ k = b) → lz_vs kd ax ay eo ea eb i vs k = vs k := by
    intro k hk
    by_cases w : kd i = 1 ∨ kd i = 2 ∨ kd i = 3
    · have hne : k ≠ (ax i).toNatClampNeg := by
        rw [ex, nI_clamp (by omega)]
        intro q
        apply hH
        refine ⟨w, ?_⟩
        rcases hk with hk | hk
        · exact Or.inl (by rw [ex, ea', ← q, hk])
        · exact Or.inr (by rw [ex, eb', ← q, hk])
      unfold lz_vs
      by_cases h1 : kd i = 1
      · rw [if_pos h1, pk_un hne]
      · by_cases h2 : kd i = 2
        · rw [if_neg h1, if_pos h2, pk_un hne]
        · by_cases h3 : kd i = 3
          · rw [if_neg h1, if_neg h2, if_pos h3, pk_un hne]
          · rw [if_neg h1, if_neg h2, if_neg h3]
    · unfold lz_vs
      rw [if_neg (fun z => w (Or.inl z)), if_neg (fun z => w (Or.inr (Or.inl z))), if_neg (fun z => w (Or.inr (Or.inr z)))]
  unfold lz_val
  rw [ea', eb', nI_clamp (by omega), nI_clamp (by omega), key a (Or.inl rfl), key b (Or.inr rfl)]
/-- the temporary of e holds its value, where e is no longer waiting and still of use -/
def lz_TI (n : Nat) (kd ax ay s0 s1 eo ea eb : Nat → Int32) (e i : Nat) (tp vs : Nat → Int32) : Prop :=
  (¬ lz_xNA n kd ax ay s0 s1 ea eb e i ∨ ¬ lz_xNV n kd ax ay s0 s1 ea eb e i) → lz_xNW n kd ax ay s0 s1 ea eb e i → tp e = lz_val eo ea eb vs e
theorem lz_NA_inv {E : Nat → Nat → Prop} {C B : Nat → Prop} {i : Nat} (h : lz_NA E C B i) : ¬ C i ∧ (B i ∨ ∃ j, E i j ∧ lz_NA E C B j) := by
  have k := h (fun i => lz_NA E C B i ∧ ¬ C i ∧ (B i ∨ ∃ j, E i j ∧ lz_NA E C B j)) (fun i a b => ⟨lz_NA0 a b, a, Or.inl b⟩) (fun i j a b c => ⟨lz_NAs a b c.1, a, Or.inr ⟨j, b, c.1⟩⟩)
  exact k.2
theorem lz_TI_0 {e : Nat} {tp vs : Nat → Int32} (h : lz_xP0 n kd ax ay s0 s1 ea eb e → tp e = lz_val eo ea eb vs e) : lz_TI n kd ax ay s0 s1 eo ea eb e 0 tp vs :=
  fun a b => h ⟨b, a.elim id (fun z => absurd lz_NV0 z)⟩
theorem lz_TI_use {e i : Nat} {tp vs : Nat → Int32} (h : lz_TI n kd ax ay s0 s1 eo ea eb e i tp vs) (hC : lz_C kd ay (nI e) i) (hW : lz_xNW n kd ax ay s0 s1 ea eb e i) : tp e = lz_val eo ea eb vs e :=
  h (Or.inl (fun z => (lz_NA_inv z).1 hC)) hW
theorem lz_TI_s (hN : lz_WN n m kd ax ay ea eb) {e i t : Nat} {tp tp' tp'' vs : Nat → Int32} (he : e < m) (hE : lz_E n kd s0 s1 i t) (h : lz_TI n kd ax ay s0 s1 eo ea eb e i tp vs)
    (h1 : lz_C kd ay (nI e) i → tp' e = lz_val eo ea eb vs e) (h2 : ¬ lz_C kd ay (nI e) i → tp' e = tp e)
    (h3 : lz_xP n kd ax ay s0 s1 ea eb e i t → tp'' e = lz_val eo ea eb (lz_vs kd ax ay eo ea eb i vs) e) (h4 : ¬ lz_xP n kd ax ay s0 s1 ea eb e i t → tp'' e = tp' e) :
    lz_TI n kd ax ay s0 s1 eo ea eb e t tp'' (lz_vs kd ax ay eo ea eb i vs) := by
  intro hu hw
  by_cases hP : lz_xP n kd ax ay s0 s1 ea eb e i t
  · exact h3 hP
  · have hF : ¬ lz_xF n kd ax ay s0 s1 ea eb e i t := fun z => hP ⟨hw, Or.inl z⟩
    have hWC : ¬ lz_C kd ay (nI e) i → lz_xNW n kd ax ay s0 s1 ea eb e i := fun c => Classical.byContradiction fun z => hP ⟨hw, Or.inr ⟨z, c⟩⟩
    have k6 : ¬ kd i = 6 := by
      obtain ⟨_, s, hs, _⟩ := hE
      intro z
      have := lz_sl0.mpr z
      omega
    have key : ¬ lz_H kd ax ea eb e i ∧ (lz_C kd ay (nI e) i ∨ (¬ lz_xNA n kd ax ay s0 s1 ea eb e i ∨ ¬ lz_xNV n kd ax ay s0 s1 ea eb e i)) := by
      rcases hu with hu | hu
      · by_cases q : ¬ lz_H kd ax ea eb e i ∧ (lz_C kd ay (nI e) i ∨ ¬ lz_xNV n kd ax ay s0 s1 ea eb e i)
        · exact ⟨q.1, q.2.imp id Or.inr⟩
        · have q2 : ¬ (lz_H kd ax ea eb e i ∨ ∃ j, lz_E n kd s0 s1 i j ∧ lz_xNA n kd ax ay s0 s1 ea eb e j) := fun z => hF ⟨hu, q, z⟩
          refine ⟨fun z => q2 (Or.inl z), Or.inr (Or.inl (fun z => ?_))⟩
          rcases (lz_NA_inv z).2 with (y | y) | y
          · exact k6 y
          · exact q2 (Or.inl y)
          · exact q2 (Or.inr y)
      · have q : ¬ lz_H kd ax ea eb e i := fun z => hu (lz_NVs hE (Or.inl z))
        refine ⟨q, Classical.byContradiction fun z => hu (lz_NVs hE (Or.inr ⟨fun y => z (Or.inl y), Classical.byContradiction fun y => z (Or.inr (Or.inr y))⟩))⟩
    rw [h4 hP, lz_vs_val hN hE.1 he key.1]
    by_cases c : lz_C kd ay (nI e) i
    · exact h1 c
    · rw [h2 c]
      exact h (key.2.elim (fun z => absurd z c) id) (hWC c)
end
/-! the counts of one expression along a walk: A j: the edge to visit j places it, C j: visit j computes it, W j: it isn't waiting there -/
noncomputable def lz_eo (C : Nat → Prop) : Nat → Int32
  | 0 => 0
  | j + 1 => lz_eo C j + lz_b (C j)
noncomputable def lz_em (A C W : Nat → Prop) : Nat → Int32
  | 0 => 0
  | j + 1 => lz_em A C W j + lz_b (A j) + lz_b (C j ∧ ¬ W j)
noncomputable def lz_la (A C : Nat → Prop) : Nat → Int32
  | 0 => 0
  | j + 1 => lz_if (C j) (nI j) (lz_if (A j) (nI j) (lz_la A C j))
noncomputable def lz_lb (A C : Nat → Prop) (j : Nat) : Int32 := lz_if (A j) (nI j) (lz_la A C j)
noncomputable def lz_cs (A C W : Nat → Prop) : Nat → Int32
  | 0 => 0
  | j + 1 => lz_if (C j ∧ W j) (lz_cs A C W j + (nI j - lz_lb A C j)) (lz_cs A C W j)
theorem lz_eo_c {C C' : Nat → Prop} : ∀ {N : Nat}, (∀ j, j < N → (C j ↔ C' j)) → lz_eo C N = lz_eo C' N
  | 0, _ => rfl
  | N + 1, h => by simp only [lz_eo]; rw [lz_eo_c (fun j hj => h j (by omega)), propext (h N (by omega))]
theorem lz_em_c {A A' C C' W W' : Nat → Prop} : ∀ {N : Nat}, (∀ j, j < N → (A j ↔ A' j) ∧ (C j ↔ C' j) ∧ (W j ↔ W' j)) → lz_em A C W N = lz_em A' C' W' N
  | 0, _ => rfl
  | N + 1, h => by simp only [lz_em]; rw [lz_em_c (fun j hj => h j (by omega)), propext (h N (by omega)).1, propext (h N (by omega)).2.1, propext (h N (by omega)).2.2]
theorem lz_la_c {A A' C C' : Nat → Prop} : ∀ {N : Nat}, (∀ j, j < N → (A j ↔ A' j) ∧ (C j ↔ C' j)) → lz_la A C N = lz_la A' C' N
  | 0, _ => rfl
  | N + 1, h => by simp only [lz_la]; rw [lz_la_c (fun j hj => h j (by omega)), propext (h N (by omega)).1, propext (h N (by omega)).2]
theorem lz_cs_c {A A' C C' W W' : Nat → Prop} : ∀ {N : Nat}, (∀ j, j < N → (A j ↔ A' j) ∧ (C j ↔ C' j) ∧ (W j ↔ W' j)) → lz_cs A C W N = lz_cs A' C' W' N
  | 0, _ => rfl
  | N + 1, h => by
    simp only [lz_cs, lz_lb]
    rw [lz_cs_c (fun j hj => h j (by omega)), lz_la_c (N := N) (fun j hj => ⟨(h j (by omega)).1, (h j (by omega)).2.1⟩), propext (h N (by omega)).1, propext (h N (by omega)).2.1, propext (h N (by omega)).2.2]
end
section
/-! the component's machine: one node, one edge -/
theorem lz_ev {post : Int32 → Prop} {k a b : Int32} (h : post (if k = 0 then a + b else if k = 1 then a - b else if k = 2 then a * b else if k = 3 then a &&& b else if k = 4 then a ^^^ b else if b ≤ a then 0 else 1)) :
    (((k < 0 → (((b ≤ a → (post 0)) ∧ (¬ b ≤ a → (post 1))))) ∧ (¬ k < 0 → (((4 < k → (((b ≤ a → (post 0)) ∧ (¬ b ≤ a → (post 1))))) ∧ (¬ 4 < k → (((k = 0 → (post (a + b))) ∧ (¬ k = 0 → (((k = 1 → (post (a - b))) ∧ (¬ k = 1 → (((k = 2 → (post (a * b))) ∧ (¬ k = 2 → (((k = 3 → (post (a &&& b))) ∧ (¬ k = 3 → (((k = 4 → (post (a ^^^ b))) ∧ (¬ k = 4 → (True)))))))))))))))))))))) := by
  have less : ¬ k = 0 → ¬ k = 1 → ¬ k = 2 → ¬ k = 3 → ¬ k = 4 → ((b ≤ a → (post 0)) ∧ (¬ b ≤ a → (post 1))) := by
    intro h0 h1 h2 h3 h4
    rw [if_neg h0, if_neg h1, if_neg h2, if_neg h3, if_neg h4] at h
    by_cases q : b ≤ a
    · rw [if_pos q] at h; exact br_t q h
    · rw [if_neg q] at h; exact br_f q h
  have ne : ∀ c : Int32, 0 ≤ c → c ≤ 4 → (k < 0 ∨ 4 < k) → ¬ k = c := by
    intro c h0 h4 hk e
    subst e
    rw [Int32.le_iff_toInt_le] at h0 h4
    rw [Int32.lt_iff_toInt_lt, Int32.lt_iff_toInt_lt] at hk
    omega
  refine br_c (fun z => less (ne 0 (by decide) (by decide) (Or.inl z)) (ne 1 (by decide) (by decide) (Or.inl z)) (ne 2 (by decide) (by decide) (Or.inl z)) (ne 3 (by decide) (by decide) (Or.inl z)) (ne 4 (by decide) (by decide) (Or.inl z))) (fun _ => br_c (fun z => less (ne 0 (by decide) (by decide) (Or.inr z)) (ne 1 (by decide) (by decide) (Or.inr z)) (ne 2 (by decide) (by decide) (Or.inr z)) (ne 3 (by decide) (by decide) (Or.inr z)) (ne 4 (by decide) (by decide) (Or.inr z))) (fun _ => ?_))
  refine br_c (fun z => ?_) (fun z0 => br_c (fun z => ?_) (fun z1 => br_c (fun z => ?_) (fun z2 => br_c (fun z => ?_) (fun z3 => br_c (fun z => ?_) (fun _ => trivial)))))
  · rw [if_pos z] at h; exact h
  · rw [if_neg z0, if_pos z] at h; exact h
  · rw [if_neg z0, if_neg z1, if_pos z] at h; exact h
  · rw [if_neg z0, if_neg z1, if_neg z2, if_pos z] at h; exact h
  · rw [if_neg z0, if_neg z1, if_neg z2, if_neg z3, if_pos z] at h; exact h
section
variable {nl vl el tl st nt et fe pe vt oo mo : Int32} {kd ax ay s0 s1 eo ea eb pr cm ch an av wt f0 f1 p0 p1 wk ov mv os ms oe me tp lt cs : Nat → Int32}
variable {post : Int32 → Prop} {n m i e : Nat}
theorem xr_ev0 (hm : m ≤ 12) (hN : lz_WN n m kd ax ay ea eb) (he : e < m) (h : post (lz_val eo ea eb ov e)) : wpX_evaluate post (nl, vl, el, tl, st, nt, et, fe, pe, vt, oo, mo, kd, ax, ay, s0, s1, eo, ea, eb, pr, cm, ch, an, av, wt, f0, f1, p0, p1, wk, ov, mv, os, ms, oe, me, tp, lt, cs) 0 (nI e) := by
  have e1 : (nI e).toNatClampNeg = e := nI_clamp (by omega)
  have w : vp_in (nI e) 12 := vp_in_nI (by omega) (by decide)
  obtain ⟨⟨a, ha, ea'⟩, b, hb, eb'⟩ := hN.2.2.2 e he
  have wa : vp_in (ea e) 8 := by rw [ea']; exact vp_in_nI ha (by decide)
  have wb : vp_in (eb e) 8 := by rw [eb']; exact vp_in_nI hb (by decide)
  refine And.intro w ?_
  rw [e1]
  exact br_t rfl (And.intro wa (And.intro w (br_t rfl (And.intro wb (And.intro w (nm_e (lz_ev h)))))))
theorem xr_ev1 (hm : m ≤ 12) (hN : lz_WN n m kd ax ay ea eb) (he : e < m) (h : post (lz_val eo ea eb mv e)) : wpX_evaluate post (nl, vl, el, tl, st, nt, et, fe, pe, vt, oo, mo, kd, ax, ay, s0, s1, eo, ea, eb, pr, cm, ch, an, av, wt, f0, f1, p0, p1, wk, ov, mv, os, ms, oe, me, tp, lt, cs) 1 (nI e) := by
  have e1 : (nI e).toNatClampNeg = e := nI_clamp (by omega)
  have w : vp_in (nI e) 12 := vp_in_nI (by omega) (by decide)
  obtain ⟨⟨a, ha, ea'⟩, b, hb, eb'⟩ := hN.2.2.2 e he
  have wa : vp_in (ea e) 8 := by rw [ea']; exact vp_in_nI ha (by decide)
  have wb : vp_in (eb e) 8 := by rw [eb']; exact vp_in_nI hb (by decide)
  refine And.intro w ?_
  rw [e1]
  exact br_f (by decide) (And.intro wa (And.intro w (br_f (by decide) (And.intro wb (And.intro w (nm_e (lz_ev h)))))))
theorem xr_slot0 (hn : n ≤ 24) (hN : lz_WN n m kd ax ay ea eb) (hi : i < n) (h : post (nI (lz_ch kd ax i ov))) : wpX_chooseSlot post (nl, vl, el, tl, st, nt, et, fe, pe, vt, oo, mo, kd, ax, ay, s0, s1, eo, ea, eb, pr, cm, ch, an, av, wt, f0, f1, p0, p1, wk, ov, mv, os, ms, oe, me, tp, lt, cs) 0 (nI i) := by
  have e1 : (nI i).toNatClampNeg = i := nI_clamp (by omega)
  have w : vp_in (nI i) 24 := vp_in_nI (by omega) (by decide)
  obtain ⟨x, hx, ex⟩ := hN.1 i hi
  have wx : vp_in (ax i) 8 := by rw [ex]; exact vp_in_nI hx (by decide)
  unfold lz_ch at h
  refine And.intro w ?_
  rw [e1]
  by_cases h5 : kd i = 5
  · refine br_t h5 (And.intro w (br_t rfl (And.intro wx ?_)))
    by_cases z : ov (ax i).toNatClampNeg = 0
    · rw [if_pos ⟨h5, z⟩] at h; exact br_t z h
    · rw [if_neg (fun y => z y.2)] at h; exact br_f z h
  · rw [if_neg (fun y => h5 y.1)] at h; exact br_f h5 h
theorem xr_slot1 (hn : n ≤ 24) (hN : lz_WN n m kd ax ay ea eb) (hi : i < n) (h : post (nI (lz_ch kd ax i mv))) : wpX_chooseSlot post (nl, vl, el, tl, st, nt, et, fe, pe, vt, oo, mo, kd, ax, ay, s0, s1, eo, ea, eb, pr, cm, ch, an, av, wt, f0, f1, p0, p1, wk, ov, mv, os, ms, oe, me, tp, lt, cs) 1 (nI i) := by
  have e1 : (nI i).toNatClampNeg = i := nI_clamp (by omega)
  have w : vp_in (nI i) 24 := vp_in_nI (by omega) (by decide)
  obtain ⟨x, hx, ex⟩ := hN.1 i hi
  have wx : vp_in (ax i) 8 := by rw [ex]; exact vp_in_nI hx (by decide)
  unfold lz_ch at h
  refine And.intro w ?_
  rw [e1]
  by_cases h5 : kd i = 5
  · refine br_t h5 (And.intro w (br_f (by decide) (And.intro wx ?_)))
    by_cases z : mv (ax i).toNatClampNeg = 0
    · rw [if_pos ⟨h5, z⟩] at h; exact br_t z h
    · rw [if_neg (fun y => z y.2)] at h; exact br_f z h
  · rw [if_neg (fun y => h5 y.1)] at h; exact br_f h5 h
end
/-- what passing an edge does to the tables, for the expressions below k -/
def lz_PE (mask : Int32) (va : Nat → Int32) (j : Nat) (tp me lt tp' me' lt' : Nat → Int32) (k : Nat) : Prop :=
  ∀ e, (e < k → bt mask e = true → tp' e = va e ∧ me' e = me e + 1 ∧ lt' e = nI j) ∧ ((k ≤ e ∨ ¬ bt mask e = true) → tp' e = tp e ∧ me' e = me e ∧ lt' e = lt e)
section
variable {nl vl el tl st nt et fe pe vt oo mo : Int32} {kd ax ay s0 s1 eo ea eb pr cm ch an av wt f0 f1 p0 p1 wk ov mv os ms oe me tp lt cs : Nat → Int32}
variable {post : SX → Prop} {n m i j k : Nat} {mask x : Int32}
theorem xr_pe2 (hm : m ≤ 12) (hN : lz_WN n m kd ax ay ea eb) (hx : x = nI j) (h : ∀ tp' me' lt', lz_PE mask (lz_val eo ea eb mv) j tp me lt tp' me' lt' m → post (nl, vl, el, tl, st, nt, nI m, fe, pe, vt, oo, mo, kd, ax, ay, s0, s1, eo, ea, eb, pr, cm, ch, an, av, wt, f0, f1, p0, p1, wk, ov, mv, os, ms, oe, me', tp', lt', cs)) :
    ∀ (d e fuel : Nat) (tp' me' lt' : Nat → Int32), e + d = m → d < fuel → lz_PE mask (lz_val eo ea eb mv) j tp me lt tp' me' lt' e → wX_passEdge_2 post mask x nl vl el tl st nt (nI m) fe pe vt oo mo fuel (nI e) kd ax ay s0 s1 eo ea eb pr cm ch an av wt f0 f1 p0 p1 wk ov mv os ms oe me' tp' lt' cs := by
  subst hx
  intro d
  induction d with
  | zero =>
    intro e fuel tp' me' lt' he hf hP
    obtain ⟨f, rfl⟩ : ∃ f, fuel = f + 1 := ⟨fuel - 1, by omega⟩
    have hem : e = m := by omega
    subst hem
    exact br_t (nI_le (by omega) (by omega)) (h tp' me' lt' hP)
  | succ d ih =>
    intro e fuel tp' me' lt' he hf hP
    obtain ⟨f, rfl⟩ : ∃ f, fuel = f + 1 := ⟨fuel - 1, by omega⟩
    have e1 : (nI e).toNatClampNeg = e := nI_clamp (by omega)
    have w : vp_in (nI e) 12 := vp_in_nI (by omega) (by decide)
    refine br_f (nI_ge (by omega) (by omega)) (br_c (fun z => nm_r (nI_1 e) ?_) (fun z => xr_ev1 hm hN (by omega) (And.intro w ?_)))
    · rw [lz_test (by omega)] at z
      refine ih (e + 1) f tp' me' lt' (by omega) (by omega) (fun e' => ⟨fun a b => ?_, fun a => ?_⟩)
      · by_cases q : e' = e
        · subst q; rw [z] at b; exact absurd b (by decide)
        · exact (hP e').1 (by omega) b
      · by_cases q : e' = e
        · subst q; exact (hP e').2 (Or.inl (Nat.le_refl _))
        · exact (hP e').2 (a.imp (fun y => by omega) id)
    · rw [lz_test (by omega)] at z
      have z' : bt mask e = true := by cases q : bt mask e; exact absurd q z; rfl
      have old := (hP e).2 (Or.inl (Nat.le_refl _))
      rw [e1]
      refine nm_e (And.intro w (And.intro w (nm_e (And.intro w (nm_e (nm_r (nI_1 e) (ih (e + 1) f _ _ _ (by omega) (by omega) (fun e' => ⟨fun a b => ?_, fun a => ?_⟩))))))))
      · by_cases q : e' = e
        · subst q; rw [pk_us, pk_us, pk_us, old.2.1]; exact ⟨rfl, rfl, rfl⟩
        · rw [pk_un q, pk_un q, pk_un q]; exact (hP e').1 (by omega) b
      · by_cases q : e' = e
        · subst q; exact absurd a (fun y => y.elim (fun y => by omega) (fun y => y z'))
        · rw [pk_un q, pk_un q, pk_un q]; exact (hP e').2 (a.imp (fun y => by omega) id)
theorem xg_passEdge (hm : m ≤ 12) (hN : lz_WN n m kd ax ay ea eb) (hx : x = nI j) (h : ∀ tp' me' lt', lz_PE mask (lz_val eo ea eb mv) j tp me lt tp' me' lt' m → post (nl, vl, el, tl, st, nt, nI m, fe, pe, vt, oo, mo, kd, ax, ay, s0, s1, eo, ea, eb, pr, cm, ch, an, av, wt, f0, f1, p0, p1, wk, ov, mv, os, ms, oe, me', tp', lt', cs)) : wpX_passEdge post (nl, vl, el, tl, st, nt, nI m, fe, pe, vt, oo, mo, kd, ax, ay, s0, s1, eo, ea, eb, pr, cm, ch, an, av, wt, f0, f1, p0, p1, wk, ov, mv, os, ms, oe, me, tp, lt, cs) mask x :=
  Exists.intro (m + 1) (xr_pe2 hm hN hx h m 0 (m + 1) tp me lt (by omega) (by omega) (fun e => ⟨fun a => absurd a (by omega), fun _ => ⟨rfl, rfl, rfl⟩⟩))
theorem xr_x0 (hn : n ≤ 24) (hm : m ≤ 12) (hN : lz_WN n m kd ax ay ea eb) (hi : i < n) (hk : k < 240)
    (h : ∀ oe', (∀ e, e < m → oe' e = oe e + lz_b (lz_C kd ay (nI e) i)) → post (nl, vl, el, tl, st, nt, et, fe, pe, vt, nI (lz_on kd i k), mo, kd, ax, ay, s0, s1, eo, ea, eb, pr, cm, ch, an, av, wt, f0, f1, p0, p1, wk, lz_vs kd ax ay eo ea eb i ov, mv, lz_os kd ax i ov os k, ms, oe', me, tp, lt, cs)) : wpX_execute post (nl, vl, el, tl, st, nt, et, fe, pe, vt, nI k, mo, kd, ax, ay, s0, s1, eo, ea, eb, pr, cm, ch, an, av, wt, f0, f1, p0, p1, wk, ov, mv, os, ms, oe, me, tp, lt, cs) 0 (nI i) x := by
  have e1 : (nI i).toNatClampNeg = i := nI_clamp (by omega)
  have e3 : (nI k).toNatClampNeg = k := nI_clamp (by omega)
  have w : vp_in (nI i) 24 := vp_in_nI (by omega) (by decide)
  obtain ⟨x', hx, ex⟩ := hN.1 i hi
  have wx : vp_in (ax i) 8 := by rw [ex]; exact vp_in_nI hx (by decide)
  have same : ¬ kd i = 3 → ∀ e, e < m → oe e = oe e + lz_b (lz_C kd ay (nI e) i) := fun h3 e _ => (lz_b_add_f (fun z => h3 z.1)).symm
  refine And.intro w ?_
  rw [e1]
  refine nm_e ?_
  by_cases h1 : kd i = 1
  · have h' := h oe (same (by rw [h1]; decide))
    rw [show lz_vs kd ax ay eo ea eb i ov = upd ov (ax i).toNatClampNeg (ay i) from if_pos h1, show lz_os kd ax i ov os k = os from if_neg (by rw [h1]; decide), show lz_on kd i k = k from if_neg (by rw [h1]; decide)] at h'
    exact br_f (by rw [h1]; decide) (br_f (by rw [h1]; decide) (br_t h1 (And.intro w (And.intro w (br_t rfl (And.intro wx (nm_e h')))))))
  by_cases h2 : kd i = 2
  · have h' := h oe (same (by rw [h2]; decide))
    obtain ⟨y, hy, ey⟩ := hN.2.1 i hi h2
    have wy : vp_in (ay i) 8 := by rw [ey]; exact vp_in_nI hy (by decide)
    rw [show lz_vs kd ax ay eo ea eb i ov = upd ov (ax i).toNatClampNeg (ov (ay i).toNatClampNeg) from (if_neg h1).trans (if_pos h2), show lz_os kd ax i ov os k = os from if_neg (by rw [h2]; decide), show lz_on kd i k = k from if_neg (by rw [h2]; decide)] at h'
    exact br_f (by rw [h2]; decide) (br_f (by rw [h2]; decide) (br_f h1 (br_t h2 (And.intro w (br_t rfl (And.intro wy (And.intro w (br_t rfl (And.intro wx (nm_e h'))))))))))
  by_cases h3 : kd i = 3
  · obtain ⟨e, he, ee⟩ := hN.2.2.1 i hi h3
    have e2 : (nI e).toNatClampNeg = e := nI_clamp (by omega)
    have we : vp_in (nI e) 12 := vp_in_nI (by omega) (by decide)
    have h' := h (upd oe e (oe e + 1)) (fun e' he' => by
      by_cases q : e' = e
      · subst q; rw [pk_us, lz_b_add_t ⟨h3, ee⟩]
      · rw [pk_un q, lz_b_add_f (fun z => q ((nI_eq (by omega) (by omega)).mp (z.2.symm.trans ee)))])
    rw [show lz_vs kd ax ay eo ea eb i ov = upd ov (ax i).toNatClampNeg (lz_val eo ea eb ov (ay i).toNatClampNeg) from (if_neg h1).trans ((if_neg h2).trans (if_pos h3)), show lz_os kd ax i ov os k = os from if_neg (by rw [h3]; decide), show lz_on kd i k = k from if_neg (by rw [h3]; decide), ee, e2] at h'
    refine br_f (by rw [h3]; decide) (br_f (by rw [h3]; decide) (br_f h1 (br_f h2 (br_t h3 (br_t rfl ?_)))))
    refine And.intro w ?_
    rw [e1]
    refine nm_r ee (xr_ev0 hm hN he (And.intro we (And.intro we ?_)))
    rw [e2]
    exact nm_e (And.intro w (br_t rfl (And.intro wx (nm_e h'))))
  by_cases h4 : kd i = 4
  · have h' := h oe (same h3)
    rw [show lz_vs kd ax ay eo ea eb i ov = ov from (if_neg h1).trans ((if_neg h2).trans (if_neg h3)), show lz_os kd ax i ov os k = upd os k (ov (ax i).toNatClampNeg) from if_pos h4, show lz_on kd i k = k + 1 from if_pos h4] at h'
    refine br_f (by rw [h4]; decide) (br_f (by rw [h4]; decide) (br_f h1 (br_f h2 (br_f h3 (br_t h4 (And.intro w (br_t rfl (And.intro wx (br_t rfl (br_f (nI_ge (b := 240) hk (by omega)) (And.intro (vp_in_nI hk (by decide)) ?_)))))))))))
    rw [e3]
    exact nm_e (nm_r (nI_1 k) h')
  · have h' := h oe (same h3)
    rw [show lz_vs kd ax ay eo ea eb i ov = ov from (if_neg h1).trans ((if_neg h2).trans (if_neg h3)), show lz_os kd ax i ov os k = os from if_neg h4, show lz_on kd i k = k from if_neg h4] at h'
    exact br_c (fun _ => h') (fun _ => br_c (fun _ => h') (fun _ => br_f h1 (br_f h2 (br_f h3 (br_f h4 trivial)))))
/-- what a visit of the moved run does to the tables of e: c: the node computes e, u: e isn't waiting there -/
def lz_XE (c u : Prop) (va : Int32) (j : Nat) (tp me lt cs tp' me' lt' cs' : Int32) : Prop :=
  (c → tp' = va) ∧ (¬ c → tp' = tp) ∧ me' = me + lz_b (c ∧ ¬ u) ∧ lt' = lz_if c (nI j) lt ∧ cs' = lz_if (c ∧ u) (cs + (nI j - lt)) cs
theorem lz_XE_f {c u : Prop} {va : Int32} {j : Nat} {tp me lt cs : Int32} (h : ¬ c) : lz_XE c u va j tp me lt cs tp me lt cs :=
  ⟨fun z => absurd z h, fun _ => rfl, (lz_b_add_f (fun z => h z.1)).symm, (lz_if_f h).symm, (lz_if_f (fun z => h z.1)).symm⟩
theorem xr_62 (hn : n ≤ 24) (hm : m ≤ 12) (hi : i < n) {e : Nat} (he : e < m) (wx : vp_in (ax i) 8) (h : post (nl, vl, el, tl, st, nt, et, fe, pe, vt, oo, mo, kd, ax, ay, s0, s1, eo, ea, eb, pr, cm, ch, an, av, wt, f0, f1, p0, p1, wk, ov, upd mv (ax i).toNatClampNeg (tp e), os, ms, oe, me, tp, upd lt e x, cs)) : wX_executeMovedEval_62 post (nI i) x (nI e) nl vl el tl st nt et fe pe vt oo mo kd ax ay s0 s1 eo ea eb pr cm ch an av wt f0 f1 p0 p1 wk ov mv os ms oe me tp lt cs := by
  have e1 : (nI i).toNatClampNeg = i := nI_clamp (by omega)
  have e2 : (nI e).toNatClampNeg = e := nI_clamp (by omega)
  have w : vp_in (nI i) 24 := vp_in_nI (by omega) (by decide)
  have we : vp_in (nI e) 12 := vp_in_nI (by omega) (by decide)
  unfold wX_executeMovedEval_62
  rw [e1, e2]
  exact And.intro we (nm_e (And.intro w (And.intro we (br_f (by decide) (And.intro wx (nm_e h))))))
theorem xr_me (hn : n ≤ 24) (hm : m ≤ 12) (hN : lz_WN n m kd ax ay ea eb) (hi : i < n) (hW : ∀ e i, e < m → i < n → (lz_Z wt e i ↔ lz_xNW n kd ax ay s0 s1 ea eb e i)) (h3 : kd i = 3) {e : Nat} (he : e < m) (ee : ay i = nI e) (hT : lz_xNW n kd ax ay s0 s1 ea eb e i → tp e = lz_val eo ea eb mv e)
    (h : ∀ tp' me' lt' cs', (∀ e, e < m → lz_XE (lz_C kd ay (nI e) i) (lz_xNW n kd ax ay s0 s1 ea eb e i) (lz_val eo ea eb mv e) j (tp e) (me e) (lt e) (cs e) (tp' e) (me' e) (lt' e) (cs' e)) → post (nl, vl, el, tl, st, nt, et, fe, pe, vt, oo, mo, kd, ax, ay, s0, s1, eo, ea, eb, pr, cm, ch, an, av, wt, f0, f1, p0, p1, wk, ov, upd mv (ax i).toNatClampNeg (lz_val eo ea eb mv e), os, ms, oe, me', tp', lt', cs')) : wpX_executeMovedEval post (nl, vl, el, tl, st, nt, et, fe, pe, vt, oo, mo, kd, ax, ay, s0, s1, eo, ea, eb, pr, cm, ch, an, av, wt, f0, f1, p0, p1, wk, ov, mv, os, ms, oe, me, tp, lt, cs) (nI i) (nI j) := by
  have e1 : (nI i).toNatClampNeg = i := nI_clamp (by omega)
  have e2 : (nI e).toNatClampNeg = e := nI_clamp (by omega)
  have w : vp_in (nI i) 24 := vp_in_nI (by omega) (by decide)
  have we : vp_in (nI e) 12 := vp_in_nI (by omega) (by decide)
  obtain ⟨x', hx, ex⟩ := hN.1 i hi
  have wx : vp_in (ax i) 8 := by rw [ex]; exact vp_in_nI hx (by decide)
  have hC : lz_C kd ay (nI e) i := ⟨h3, ee⟩
  have hne : ∀ e', e' < m → e' ≠ e → ¬ lz_C kd ay (nI e') i := fun e' he' q z => q ((nI_eq (by omega) (by omega)).mp (z.2.symm.trans ee))
  refine And.intro w ?_
  rw [e1]
  refine nm_r ee (And.intro w (br_c (fun z => ?_) (fun z => ?_)))
  · rw [lz_test (by omega)] at z
    have hu : lz_xNW n kd ax ay s0 s1 ea eb e i := (hW e i he hi).mp z
    rw [e2]
    refine And.intro we (And.intro we (And.intro we (nm_e (xr_62 hn hm hi he wx ?_))))
    rw [hT hu]
    refine h tp me (upd lt e (nI j)) (upd cs e (cs e + (nI j - lt e))) (fun e' he' => ?_)
    by_cases q : e' = e
    · subst q
      rw [pk_us, pk_us]
      exact ⟨fun _ => hT hu, fun y => absurd hC y, (lz_b_add_f (fun y => y.2 hu)).symm, (lz_if_t hC).symm, (lz_if_t ⟨hC, hu⟩).symm⟩
    · rw [pk_un q, pk_un q]
      exact lz_XE_f (hne e' he' q)
  · rw [lz_test (by omega)] at z
    have hu : ¬ lz_xNW n kd ax ay s0 s1 ea eb e i := fun y => z ((hW e i he hi).mpr y)
    refine xr_ev1 hm hN he (And.intro we ?_)
    rw [e2]
    refine nm_e (And.intro we (And.intro we (nm_e (xr_62 hn hm hi he wx ?_))))
    rw [pk_us]
    refine h (upd tp e (lz_val eo ea eb mv e)) (upd me e (me e + 1)) (upd lt e (nI j)) cs (fun e' he' => ?_)
    by_cases q : e' = e
    · subst q
      rw [pk_us, pk_us, pk_us]
      exact ⟨fun _ => rfl, fun y => absurd hC y, (lz_b_add_t ⟨hC, hu⟩).symm, (lz_if_t hC).symm, (lz_if_f (fun y => hu y.2)).symm⟩
    · rw [pk_un q, pk_un q, pk_un q]
      exact lz_XE_f (hne e' he' q)
theorem xr_x1 (hn : n ≤ 24) (hm : m ≤ 12) (hN : lz_WN n m kd ax ay ea eb) (hi : i < n) (hk : k < 240) (hW : ∀ e i, e < m → i < n → (lz_Z wt e i ↔ lz_xNW n kd ax ay s0 s1 ea eb e i)) (hT : ∀ e, e < m → lz_TI n kd ax ay s0 s1 eo ea eb e i tp mv)
    (h : ∀ tp' me' lt' cs', (∀ e, e < m → lz_XE (lz_C kd ay (nI e) i) (lz_xNW n kd ax ay s0 s1 ea eb e i) (lz_val eo ea eb mv e) j (tp e) (me e) (lt e) (cs e) (tp' e) (me' e) (lt' e) (cs' e)) → post (nl, vl, el, tl, st, nt, et, fe, pe, vt, oo, nI (lz_on kd i k), kd, ax, ay, s0, s1, eo, ea, eb, pr, cm, ch, an, av, wt, f0, f1, p0, p1, wk, ov, lz_vs kd ax ay eo ea eb i mv, os, lz_os kd ax i mv ms k, oe, me', tp', lt', cs')) : wpX_execute post (nl, vl, el, tl, st, nt, et, fe, pe, vt, oo, nI k, kd, ax, ay, s0, s1, eo, ea, eb, pr, cm, ch, an, av, wt, f0, f1, p0, p1, wk, ov, mv, os, ms, oe, me, tp, lt, cs) 1 (nI i) (nI j) := by
  have e1 : (nI i).toNatClampNeg = i := nI_clamp (by omega)
  have e3 : (nI k).toNatClampNeg = k := nI_clamp (by omega)
  have w : vp_in (nI i) 24 := vp_in_nI (by omega) (by decide)
  obtain ⟨x', hx, ex⟩ := hN.1 i hi
  have wx : vp_in (ax i) 8 := by rw [ex]; exact vp_in_nI hx (by decide)
  have same : ¬ kd i = 3 → ∀ e, e < m → lz_XE (lz_C kd ay (nI e) i) (lz_xNW n kd ax ay s0 s1 ea eb e i) (lz_val eo ea eb mv e) j (tp e) (me e) (lt e) (cs e) (tp e) (me e) (lt e) (cs e) := fun h3 e _ => lz_XE_f (fun z => h3 z.1)
  refine And.intro w ?_
  rw [e1]
  refine nm_e ?_
  by_cases h1 : kd i = 1
  · have h' := h tp me lt cs (same (by rw [h1]; decide))
    rw [show lz_vs kd ax ay eo ea eb i mv = upd mv (ax i).toNatClampNeg (ay i) from if_pos h1, show lz_os kd ax i mv ms k = ms from if_neg (by rw [h1]; decide), show lz_on kd i k = k from if_neg (by rw [h1]; decide)] at h'
    exact br_f (by rw [h1]; decide) (br_f (by rw [h1]; decide) (br_t h1 (And.intro w (And.intro w (br_f (by decide) (And.intro wx (nm_e h')))))))
  by_cases h2 : kd i = 2
  · have h' := h tp me lt cs (same (by rw [h2]; decide))
    obtain ⟨y, hy, ey⟩ := hN.2.1 i hi h2
    have wy : vp_in (ay i) 8 := by rw [ey]; exact vp_in_nI hy (by decide)
    rw [show lz_vs kd ax ay eo ea eb i mv = upd mv (ax i).toNatClampNeg (mv (ay i).toNatClampNeg) from (if_neg h1).trans (if_pos h2), show lz_os kd ax i mv ms k = ms from if_neg (by rw [h2]; decide), show lz_on kd i k = k from if_neg (by rw [h2]; decide)] at h'
    exact br_f (by rw [h2]; decide) (br_f (by rw [h2]; decide) (br_f h1 (br_t h2 (And.intro w (br_f (by decide) (And.intro wy (And.intro w (br_f (by decide) (And.intro wx (nm_e h'))))))))))
  by_cases h3 : kd i = 3
  · obtain ⟨e, he, ee⟩ := hN.2.2.1 i hi h3
    have e2 : (nI e).toNatClampNeg = e := nI_clamp (by omega)
    rw [show lz_vs kd ax ay eo ea eb i mv = upd mv (ax i).toNatClampNeg (lz_val eo ea eb mv (ay i).toNatClampNeg) from (if_neg h1).trans ((if_neg h2).trans (if_pos h3)), show lz_os kd ax i mv ms k = ms from if_neg (by rw [h3]; decide), show lz_on kd i k = k from if_neg (by rw [h3]; decide), ee, e2] at h
    exact br_f (by rw [h3]; decide) (br_f (by rw [h3]; decide) (br_f h1 (br_f h2 (br_t h3 (br_f (by decide) (xr_me hn hm hN hi hW h3 he ee (fun y => lz_TI_use (hT e he) ⟨h3, ee⟩ y) h))))))
  by_cases h4 : kd i = 4
  · have h' := h tp me lt cs (same h3)
    rw [show lz_vs kd ax ay eo ea eb i mv = mv from (if_neg h1).trans ((if_neg h2).trans (if_neg h3)), show lz_os kd ax i mv ms k = upd ms k (mv (ax i).toNatClampNeg) from if_pos h4, show lz_on kd i k = k + 1 from if_pos h4] at h'
    refine br_f (by rw [h4]; decide) (br_f (by rw [h4]; decide) (br_f h1 (br_f h2 (br_f h3 (br_t h4 (And.intro w (br_f (by decide) (And.intro wx (br_f (by decide) (br_f (nI_ge (b := 240) hk (by omega)) (And.intro (vp_in_nI hk (by decide)) ?_)))))))))))
    rw [e3]
    exact nm_e (nm_r (nI_1 k) h')
  · have h' := h tp me lt cs (same h3)
    rw [show lz_vs kd ax ay eo ea eb i mv = mv from (if_neg h1).trans ((if_neg h2).trans (if_neg h3)), show lz_os kd ax i mv ms k = ms from if_neg h4, show lz_on kd i k = k from if_neg h4] at h'
    exact br_c (fun _ => h') (fun _ => br_c (fun _ => h') (fun _ => br_f h1 (br_f h2 (br_f h3 (br_f h4 trivial)))))
end
end
section
/-! the component's run: both walks, against the trace -/
def lz_wk (w : Nat → Nat) (wk : Nat → Int32) (j : Nat) : Nat → Int32 := fun t => if t < j then nI (w t) else wk t
theorem lz_wk_0 {w : Nat → Nat} {wk : Nat → Int32} : lz_wk w wk 0 = wk := by
  funext t
  exact if_neg (by omega)
theorem lz_wk_s {w : Nat → Nat} {wk : Nat → Int32} {j : Nat} : upd (lz_wk w wk j) j (nI (w j)) = lz_wk w wk (j + 1) := by
  funext t
  by_cases q : t = j
  · subst q; rw [pk_us]; unfold lz_wk; rw [if_pos (by omega)]
  · rw [pk_un q]
    unfold lz_wk
    by_cases p : t < j
    · rw [if_pos p, if_pos (by omega)]
    · rw [if_neg p, if_neg (by omega)]
theorem lz_wk_lt {w : Nat → Nat} {wk : Nat → Int32} {j t : Nat} (h : t < j) : lz_wk w wk j t = nI (w t) := if_pos h
def lz_rs (pr v : Nat → Int32) (j : Nat) : Nat → Int32 := fun t => if t < j then pr t else v t
theorem lz_rs_0 {pr v : Nat → Int32} : lz_rs pr v 0 = v := by
  funext t
  exact if_neg (by omega)
theorem lz_rs_s {pr v : Nat → Int32} {j : Nat} : upd (lz_rs pr v j) j (pr j) = lz_rs pr v (j + 1) := by
  funext t
  by_cases q : t = j
  · subst q; rw [pk_us]; unfold lz_rs; rw [if_pos (by omega)]
  · rw [pk_un q]
    unfold lz_rs
    by_cases p : t < j
    · rw [if_pos p, if_pos (by omega)]
    · rw [if_neg p, if_neg (by omega)]
section
variable {nl vl el tl st nt et fe pe vt oo mo : Int32} {kd ax ay s0 s1 eo ea eb pr cm ch an av wt f0 f1 p0 p1 wk ov mv os ms oe me tp lt cs : Nat → Int32}
variable {vv ww : Nat → Int32} {post : Int32 → SX → Prop} {n m B L : Nat} {s : Int32}
theorem xr_119 {J19 : Int32 → Int32 → Int32 → Int32 → Int32 → Int32 → Int32 → Int32 → Int32 → Int32 → Int32 → Int32 → Int32 → Int32 → (Nat → Int32) → (Nat → Int32) → (Nat → Int32) → (Nat → Int32) → (Nat → Int32) → (Nat → Int32) → (Nat → Int32) → (Nat → Int32) → (Nat → Int32) → (Nat → Int32) → (Nat → Int32) → (Nat → Int32) → (Nat → Int32) → (Nat → Int32) → (Nat → Int32) → (Nat → Int32) → (Nat → Int32) → (Nat → Int32) → (Nat → Int32) → (Nat → Int32) → (Nat → Int32) → (Nat → Int32) → (Nat → Int32) → (Nat → Int32) → (Nat → Int32) → (Nat → Int32) → (Nat → Int32) → (Nat → Int32) → Prop} {x1 x2 : Int32} {i c j : Nat} (hn : n ≤ 24) (hT : lz_TG n kd s0 s1) (hi : i < n) (hc : c < lz_sl kd i) (h : J19 (nI (lz_nx s0 s1 i c)) (nI (j + 1)) nl vl el tl st nt et fe pe vt oo mo kd ax ay s0 s1 eo ea eb pr cm ch an av wt f0 f1 p0 p1 wk ov mv os ms oe me tp lt cs) : wX_walkGraph_119 post J19 x1 x2 (nI i) (nI j) (nI c) nl vl el tl st nt et fe pe vt oo mo kd ax ay s0 s1 eo ea eb pr cm ch an av wt f0 f1 p0 p1 wk ov mv os ms oe me tp lt cs := by
  have hs2 := lz_sl2 kd i
  unfold wX_walkGraph_119
  refine xg_slotTarget (by omega) (by omega) ?_
  rw [(hT i c hi hc).1]
  exact nm_r (nI_1 j) h
theorem xr_w0 (h0n : 0 < n) (hn : n ≤ 24) (hm : m ≤ 12) (hT : lz_TG n kd s0 s1) (hN : lz_WN n m kd ax ay ea eb) (hB : B ≤ 240) (hS : lz_Stop kd ax ay s0 s1 eo ea eb vv ww B L s)
    (h : ∀ oe', (∀ e, e < m → oe' e = lz_eo (fun j => lz_C kd ay (nI e) (lz_tr kd ax ay s0 s1 eo ea eb vv ww j).1) L) → post s (nl, vl, el, tl, st, nI n, nI m, fe, pe, nI L, nI (lz_tr kd ax ay s0 s1 eo ea eb vv ww L).2.2.2, mo, kd, ax, ay, s0, s1, eo, ea, eb, pr, cm, ch, an, av, wt, f0, f1, p0, p1, lz_wk (fun t => (lz_tr kd ax ay s0 s1 eo ea eb vv ww t).1) wk L, (lz_tr kd ax ay s0 s1 eo ea eb vv ww L).2.1, mv, (lz_tr kd ax ay s0 s1 eo ea eb vv ww L).2.2.1, ms, oe', me, tp, lt, cs)) :
    ∀ (d j fuel : Nat) (oe' : Nat → Int32), j + d + 1 = L → d + 2 ≤ fuel → (∀ e, e < m → oe' e = lz_eo (fun j => lz_C kd ay (nI e) (lz_tr kd ax ay s0 s1 eo ea eb vv ww j).1) j) →
    wX_walkGraph_19 post 0 (nI B) fuel (nI (lz_tr kd ax ay s0 s1 eo ea eb vv ww j).1) (nI j) nl vl el tl st (nI n) (nI m) fe pe (nI j) (nI (lz_tr kd ax ay s0 s1 eo ea eb vv ww j).2.2.2) mo kd ax ay s0 s1 eo ea eb pr cm ch an av wt f0 f1 p0 p1 (lz_wk (fun t => (lz_tr kd ax ay s0 s1 eo ea eb vv ww t).1) wk j) ((lz_tr kd ax ay s0 s1 eo ea eb vv ww j).2.1) mv ((lz_tr kd ax ay s0 s1 eo ea eb vv ww j).2.2.1) ms oe' me tp lt cs := by
  obtain ⟨hL1, hLB, hne, hend⟩ := hS
  have hlt : ∀ j, j < L → (lz_tr kd ax ay s0 s1 eo ea eb vv ww j).1 < n := fun j hj => lz_tr_lt h0n hT j (fun j' h' => hne j' (by omega))
  intro d
  induction d with
  | zero =>
    intro j fuel oe' hj hf ho
    obtain ⟨f, rfl⟩ : ∃ f, fuel = f + 1 + 1 := ⟨fuel - 2, by omega⟩
    have hjn := hlt j (by omega)
    have hon := lz_tr_on (kd := kd) (ax := ax) (ay := ay) (s0 := s0) (s1 := s1) (eo := eo) (ea := ea) (eb := eb) (vv := vv) (ww := ww) j
    have e1 : (nI j).toNatClampNeg = j := nI_clamp (by omega)
    have e2 : (nI (lz_tr kd ax ay s0 s1 eo ea eb vv ww j).1).toNatClampNeg = (lz_tr kd ax ay s0 s1 eo ea eb vv ww j).1 := nI_clamp (by omega)
    have hLj : L = j + 1 := by omega
    subst hLj
    rw [show j + 1 - 1 = j from rfl] at hend
    refine br_f (nI_ge (by omega) (by omega)) (br_t rfl (And.intro (vp_in_nI (by omega) (by decide)) ?_))
    rw [e1]
    refine nm_r (lz_wk_s (w := fun t => (lz_tr kd ax ay s0 s1 eo ea eb vv ww t).1)) (nm_r (nI_1 j) ?_)
    refine xr_x0 hn hm hN hjn (by omega) (fun oe'' hoe => ?_)
    have key := h oe'' (fun e he => by rw [hoe e he, ho e he]; rfl)
    refine And.intro (vp_in_nI (by omega) (by decide)) ?_
    rw [e2]
    rcases hend with ⟨rfl, h6⟩ | ⟨rfl, hBj, h6⟩
    · exact br_t h6 key
    · subst hBj
      refine br_f h6 (br_t ?_ (nm_r (nI_1 j) (br_t (nI_le (by omega) (by omega)) key)))
      rw [nI_1]; exact nI_le (by omega) (by omega)
  | succ d ih =>
    intro j fuel oe' hj hf ho
    obtain ⟨f, rfl⟩ : ∃ f, fuel = f + 1 := ⟨fuel - 1, by omega⟩
    have hjn := hlt j (by omega)
    have hon := lz_tr_on (kd := kd) (ax := ax) (ay := ay) (s0 := s0) (s1 := s1) (eo := eo) (ea := ea) (eb := eb) (vv := vv) (ww := ww) j
    have e1 : (nI j).toNatClampNeg = j := nI_clamp (by omega)
    have e2 : (nI (lz_tr kd ax ay s0 s1 eo ea eb vv ww j).1).toNatClampNeg = (lz_tr kd ax ay s0 s1 eo ea eb vv ww j).1 := nI_clamp (by omega)
    have h6 := hne j (by omega)
    refine br_f (nI_ge (by omega) (by omega)) (br_t rfl (And.intro (vp_in_nI (by omega) (by decide)) ?_))
    rw [e1]
    refine nm_r (lz_wk_s (w := fun t => (lz_tr kd ax ay s0 s1 eo ea eb vv ww t).1)) (nm_r (nI_1 j) ?_)
    refine xr_x0 hn hm hN hjn (by omega) (fun oe'' hoe => ?_)
    refine And.intro (vp_in_nI (by omega) (by decide)) ?_
    rw [e2]
    refine br_f h6 (br_f ?_ (xr_slot0 hn hN hjn (br_f (by decide) (xr_119 hn hT hjn (lz_ch_lt h6) ?_))))
    · rw [nI_1]; exact nI_ge (by omega) (by omega)
    · exact ih (j + 1) f oe'' (by omega) (by omega) (fun e he => by rw [hoe e he, ho e he]; rfl)
end
end
section
/-! the component's moved walk -/
/-- the tables of the moved run ahead of visit j (the edge to it is passed) -/
def lz_MT (n m : Nat) (kd ax ay s0 s1 ea eb : Nat → Int32) (w : Nat → Nat) (me lt cs : Nat → Int32) (j : Nat) : Prop :=
  ∀ e, e < m → me e = lz_em (lz_xA n kd ax ay s0 s1 ea eb w e) (fun j => lz_C kd ay (nI e) (w j)) (fun j => lz_xNW n kd ax ay s0 s1 ea eb e (w j)) j + lz_b (lz_xA n kd ax ay s0 s1 ea eb w e j) ∧
    lt e = lz_lb (lz_xA n kd ax ay s0 s1 ea eb w e) (fun j => lz_C kd ay (nI e) (w j)) j ∧
    cs e = lz_cs (lz_xA n kd ax ay s0 s1 ea eb w e) (fun j => lz_C kd ay (nI e) (w j)) (fun j => lz_xNW n kd ax ay s0 s1 ea eb e (w j)) j
/-- .. and after the execution of visit j - 1 -/
def lz_MU (n m : Nat) (kd ax ay s0 s1 ea eb : Nat → Int32) (w : Nat → Nat) (me lt cs : Nat → Int32) (j : Nat) : Prop :=
  ∀ e, e < m → me e = lz_em (lz_xA n kd ax ay s0 s1 ea eb w e) (fun j => lz_C kd ay (nI e) (w j)) (fun j => lz_xNW n kd ax ay s0 s1 ea eb e (w j)) j ∧
    lt e = lz_la (lz_xA n kd ax ay s0 s1 ea eb w e) (fun j => lz_C kd ay (nI e) (w j)) j ∧
    cs e = lz_cs (lz_xA n kd ax ay s0 s1 ea eb w e) (fun j => lz_C kd ay (nI e) (w j)) (fun j => lz_xNW n kd ax ay s0 s1 ea eb e (w j)) j
theorem lz_MU_of {n m : Nat} {kd ax ay s0 s1 eo ea eb mv : Nat → Int32} {w : Nat → Nat} {tp me lt cs tp' me' lt' cs' : Nat → Int32} {j : Nat} (h : lz_MT n m kd ax ay s0 s1 ea eb w me lt cs j)
    (hX : ∀ e, e < m → lz_XE (lz_C kd ay (nI e) (w j)) (lz_xNW n kd ax ay s0 s1 ea eb e (w j)) (lz_val eo ea eb mv e) j (tp e) (me e) (lt e) (cs e) (tp' e) (me' e) (lt' e) (cs' e)) : lz_MU n m kd ax ay s0 s1 ea eb w me' lt' cs' (j + 1) := by
  intro e he
  obtain ⟨a, b, c⟩ := h e he
  obtain ⟨_, _, d1, d2, d3⟩ := hX e he
  refine ⟨?_, ?_, ?_⟩
  · rw [d1, a]; rfl
  · rw [d2, b]; rfl
  · rw [d3, c, b]; rfl
theorem lz_MT_of {n m : Nat} {kd ax ay s0 s1 ea eb va : Nat → Int32} {w : Nat → Nat} {tp me lt cs tp' me' lt' : Nat → Int32} {j : Nat} {mask : Int32} (h : lz_MU n m kd ax ay s0 s1 ea eb w me lt cs j) (hm : ∀ e, e < m → (bt mask e = true ↔ lz_xA n kd ax ay s0 s1 ea eb w e j))
    (hX : lz_PE mask va j tp me lt tp' me' lt' m) : lz_MT n m kd ax ay s0 s1 ea eb w me' lt' cs j := by
  intro e he
  obtain ⟨a, b, c⟩ := h e he
  by_cases z : lz_xA n kd ax ay s0 s1 ea eb w e j
  · obtain ⟨_, d1, d2⟩ := (hX e).1 he ((hm e he).mpr z)
    refine ⟨?_, ?_, c⟩
    · rw [d1, a, lz_b_t z]
    · rw [d2]; exact (lz_if_t z).symm
  · obtain ⟨_, d1, d2⟩ := (hX e).2 (Or.inr (fun y => z ((hm e he).mp y)))
    refine ⟨?_, ?_, c⟩
    · rw [d1, a, lz_b_add_f z]
    · rw [d2, b]; exact (lz_if_f z).symm
section
variable {nl vl el tl st nt et fe pe vt oo mo : Int32} {kd ax ay s0 s1 eo ea eb pr cm ch an av wt f0 f1 p0 p1 wk ov mv os ms oe me tp lt cs : Nat → Int32}
variable {vv ww : Nat → Int32} {post : Int32 → SX → Prop} {n m B L : Nat} {s : Int32}
theorem xr_107 {J19 : Int32 → Int32 → Int32 → Int32 → Int32 → Int32 → Int32 → Int32 → Int32 → Int32 → Int32 → Int32 → Int32 → Int32 → (Nat → Int32) → (Nat → Int32) → (Nat → Int32) → (Nat → Int32) → (Nat → Int32) → (Nat → Int32) → (Nat → Int32) → (Nat → Int32) → (Nat → Int32) → (Nat → Int32) → (Nat → Int32) → (Nat → Int32) → (Nat → Int32) → (Nat → Int32) → (Nat → Int32) → (Nat → Int32) → (Nat → Int32) → (Nat → Int32) → (Nat → Int32) → (Nat → Int32) → (Nat → Int32) → (Nat → Int32) → (Nat → Int32) → (Nat → Int32) → (Nat → Int32) → (Nat → Int32) → (Nat → Int32) → (Nat → Int32) → Prop} {x2 mask : Int32} {i c j : Nat} (hn : n ≤ 24) (hm : m ≤ 12) (hT : lz_TG n kd s0 s1) (hN : lz_WN n m kd ax ay ea eb) (hi : i < n) (hc : c < lz_sl kd i)
    (h : ∀ tp' me' lt', lz_PE mask (lz_val eo ea eb mv) (j + 1) tp me lt tp' me' lt' m → J19 (nI (lz_nx s0 s1 i c)) (nI (j + 1)) nl vl el tl st nt (nI m) fe pe vt oo mo kd ax ay s0 s1 eo ea eb pr cm ch an av wt f0 f1 p0 p1 wk ov mv os ms oe me' tp' lt' cs) : wX_walkGraph_107 post J19 1 x2 (nI i) (nI j) (nI c) mask nl vl el tl st nt (nI m) fe pe vt oo mo kd ax ay s0 s1 eo ea eb pr cm ch an av wt f0 f1 p0 p1 wk ov mv os ms oe me tp lt cs := by
  unfold wX_walkGraph_107
  refine xg_passEdge hm hN (nI_1 j) (fun tp' me' lt' hP => ?_)
  exact xr_119 hn hT hi hc (h tp' me' lt' hP)
theorem xr_w1 (h0n : 0 < n) (hn : n ≤ 24) (hm : m ≤ 12) (hT : lz_TG n kd s0 s1) (hN : lz_WN n m kd ax ay ea eb) (hW : ∀ e i, e < m → i < n → (lz_Z wt e i ↔ lz_xNW n kd ax ay s0 s1 ea eb e i)) (hP : lz_PS n m kd ax ay s0 s1 ea eb p0 p1) (hB : B ≤ 240) (hS : lz_Stop kd ax ay s0 s1 eo ea eb vv ww B L s)
    (h : ∀ r tp' me' lt' cs', lz_MU n m kd ax ay s0 s1 ea eb (fun t => (lz_tr kd ax ay s0 s1 eo ea eb vv ww t).1) me' lt' cs' L → post r (nl, vl, el, tl, st, nI n, nI m, fe, pe, vt, oo, nI (lz_tr kd ax ay s0 s1 eo ea eb vv ww L).2.2.2, kd, ax, ay, s0, s1, eo, ea, eb, pr, cm, ch, an, av, wt, f0, f1, p0, p1, wk, ov, (lz_tr kd ax ay s0 s1 eo ea eb vv ww L).2.1, os, (lz_tr kd ax ay s0 s1 eo ea eb vv ww L).2.2.1, oe, me', tp', lt', cs')) :
    ∀ (d j fuel : Nat) (tp' me' lt' cs' : Nat → Int32), j + d + 1 = L → d + 2 ≤ fuel → lz_MT n m kd ax ay s0 s1 ea eb (fun t => (lz_tr kd ax ay s0 s1 eo ea eb vv ww t).1) me' lt' cs' j → (∀ e, e < m → lz_TI n kd ax ay s0 s1 eo ea eb e (lz_tr kd ax ay s0 s1 eo ea eb vv ww j).1 tp' (lz_tr kd ax ay s0 s1 eo ea eb vv ww j).2.1) →
    wX_walkGraph_19 post 1 (nI B) fuel (nI (lz_tr kd ax ay s0 s1 eo ea eb vv ww j).1) (nI j) nl vl el tl st (nI n) (nI m) fe pe vt oo (nI (lz_tr kd ax ay s0 s1 eo ea eb vv ww j).2.2.2) kd ax ay s0 s1 eo ea eb pr cm ch an av wt f0 f1 p0 p1 wk ov ((lz_tr kd ax ay s0 s1 eo ea eb vv ww j).2.1) os ((lz_tr kd ax ay s0 s1 eo ea eb vv ww j).2.2.1) oe me' tp' lt' cs' := by
  obtain ⟨hL1, hLB, hne, hend⟩ := hS
  have hlt : ∀ j, j < L → (lz_tr kd ax ay s0 s1 eo ea eb vv ww j).1 < n := fun j hj => lz_tr_lt h0n hT j (fun j' h' => hne j' (by omega))
  intro d
  induction d with
  | zero =>
    intro j fuel tp' me' lt' cs' hj hf hM hI
    obtain ⟨f, rfl⟩ : ∃ f, fuel = f + 1 + 1 := ⟨fuel - 2, by omega⟩
    have hjn := hlt j (by omega)
    have hon := lz_tr_on (kd := kd) (ax := ax) (ay := ay) (s0 := s0) (s1 := s1) (eo := eo) (ea := ea) (eb := eb) (vv := vv) (ww := ww) j
    have e2 : (nI (lz_tr kd ax ay s0 s1 eo ea eb vv ww j).1).toNatClampNeg = (lz_tr kd ax ay s0 s1 eo ea eb vv ww j).1 := nI_clamp (by omega)
    have hLj : L = j + 1 := by omega
    subst hLj
    rw [show j + 1 - 1 = j from rfl] at hend
    refine br_f (nI_ge (by omega) (by omega)) (br_f (by decide) ?_)
    refine xr_x1 hn hm hN hjn (by omega) hW hI (fun tp2 me2 lt2 cs2 hX => ?_)
    have hU := lz_MU_of (w := fun t => (lz_tr kd ax ay s0 s1 eo ea eb vv ww t).1) hM hX
    refine And.intro (vp_in_nI (by omega) (by decide)) ?_
    rw [e2]
    rcases hend with ⟨rfl, h6⟩ | ⟨rfl, hBj, h6⟩
    · exact br_t h6 (h _ _ _ _ _ hU)
    · subst hBj
      refine br_f h6 (br_t ?_ (nm_r (nI_1 j) (br_t (nI_le (by omega) (by omega)) (h _ _ _ _ _ hU))))
      rw [nI_1]; exact nI_le (by omega) (by omega)
  | succ d ih =>
    intro j fuel tp' me' lt' cs' hj hf hM hI
    obtain ⟨f, rfl⟩ : ∃ f, fuel = f + 1 := ⟨fuel - 1, by omega⟩
    have hjn := hlt j (by omega)
    have hon := lz_tr_on (kd := kd) (ax := ax) (ay := ay) (s0 := s0) (s1 := s1) (eo := eo) (ea := ea) (eb := eb) (vv := vv) (ww := ww) j
    have e2 : (nI (lz_tr kd ax ay s0 s1 eo ea eb vv ww j).1).toNatClampNeg = (lz_tr kd ax ay s0 s1 eo ea eb vv ww j).1 := nI_clamp (by omega)
    have h6 := hne j (by omega)
    have w : vp_in (nI (lz_tr kd ax ay s0 s1 eo ea eb vv ww j).1) 24 := vp_in_nI (by omega) (by decide)
    refine br_f (nI_ge (by omega) (by omega)) (br_f (by decide) ?_)
    refine xr_x1 hn hm hN hjn (by omega) hW hI (fun tp2 me2 lt2 cs2 hX => ?_)
    have hU := lz_MU_of (w := fun t => (lz_tr kd ax ay s0 s1 eo ea eb vv ww t).1) hM hX
    have hcl := lz_ch_lt (ax := ax) (vs := (lz_tr kd ax ay s0 s1 eo ea eb vv ww (j + 1)).2.1) h6
    refine And.intro w ?_
    rw [e2]
    refine br_f h6 (br_f ?_ (xr_slot1 hn hN hjn (br_t rfl ?_)))
    · rw [nI_1]; exact nI_ge (by omega) (by omega)
    have go : ∀ mask, (∀ e, e < m → (bt mask e = true ↔ lz_xP n kd ax ay s0 s1 ea eb e (lz_tr kd ax ay s0 s1 eo ea eb vv ww j).1 (lz_tr kd ax ay s0 s1 eo ea eb vv ww (j + 1)).1)) → ∀ tp3 me3 lt3, lz_PE mask (lz_val eo ea eb (lz_tr kd ax ay s0 s1 eo ea eb vv ww (j + 1)).2.1) (j + 1) tp2 me2 lt2 tp3 me3 lt3 m →
        wX_walkGraph_19 post 1 (nI B) f (nI (lz_tr kd ax ay s0 s1 eo ea eb vv ww (j + 1)).1) (nI (j + 1)) nl vl el tl st (nI n) (nI m) fe pe vt oo (nI (lz_tr kd ax ay s0 s1 eo ea eb vv ww (j + 1)).2.2.2) kd ax ay s0 s1 eo ea eb pr cm ch an av wt f0 f1 p0 p1 wk ov ((lz_tr kd ax ay s0 s1 eo ea eb vv ww (j + 1)).2.1) os ((lz_tr kd ax ay s0 s1 eo ea eb vv ww (j + 1)).2.2.1) oe me3 tp3 lt3 cs2 := by
      intro mask hmask tp3 me3 lt3 hPE
      refine ih (j + 1) f tp3 me3 lt3 cs2 (by omega) (by omega) (lz_MT_of hU (fun e he => (hmask e he).trans ?_) hPE) (fun e he => ?_)
      · unfold lz_xA; rw [if_neg (by omega)]; exact Iff.rfl
      · exact lz_TI_s hN he ⟨hjn, _, hcl, rfl⟩ (hI e he) (hX e he).1 (hX e he).2.1 (fun y => ((hPE e).1 he ((hmask e he).mpr y)).1) (fun y => ((hPE e).2 (Or.inr (fun q => y ((hmask e he).mp q)))).1)
    by_cases c0 : lz_ch kd ax (lz_tr kd ax ay s0 s1 eo ea eb vv ww j).1 (lz_tr kd ax ay s0 s1 eo ea eb vv ww (j + 1)).2.1 = 0
    · refine br_t (congrArg nI c0) (And.intro w (xr_107 hn hm hT hN hjn hcl (go _ (fun e he => ?_))))
      have q := (hP (lz_tr kd ax ay s0 s1 eo ea eb vv ww j).1 e hjn he).1 (by omega)
      rw [← c0] at q
      exact q
    · have hs2 := lz_sl2 kd (lz_tr kd ax ay s0 s1 eo ea eb vv ww j).1
      have c1 : lz_ch kd ax (lz_tr kd ax ay s0 s1 eo ea eb vv ww j).1 (lz_tr kd ax ay s0 s1 eo ea eb vv ww (j + 1)).2.1 = 1 := by omega
      refine br_f (nI_ne0 (n := lz_ch kd ax (lz_tr kd ax ay s0 s1 eo ea eb vv ww j).1 (lz_tr kd ax ay s0 s1 eo ea eb vv ww (j + 1)).2.1) (Nat.pos_of_ne_zero c0) (by omega)) (And.intro w (xr_107 hn hm hT hN hjn hcl (go _ (fun e he => ?_))))
      have q := (hP (lz_tr kd ax ay s0 s1 eo ea eb vv ww j).1 e hjn he).2 (by omega)
      rw [← c1] at q
      exact q
end
end
section
/-! the component's run, whole -/
section
variable {nl vl el tl st nt et fe pe vt oo mo : Int32} {kd ax ay s0 s1 eo ea eb pr cm ch an av wt f0 f1 p0 p1 wk ov mv os ms oe me tp lt cs : Nat → Int32}
variable {post : SX → Prop}
theorem xr_55 (h : ∀ oe' me' tp' lt' cs', (∀ e, e < 12 → oe' e = 0 ∧ me' e = 0 ∧ tp' e = 0 ∧ lt' e = 0 ∧ cs' e = 0) → post (nl, vl, el, tl, st, nt, et, fe, pe, vt, oo, mo, kd, ax, ay, s0, s1, eo, ea, eb, pr, cm, ch, an, av, wt, f0, f1, p0, p1, wk, ov, mv, os, ms, oe', me', tp', lt', cs')) :
    ∀ (d k fuel : Nat) (oe' me' tp' lt' cs' : Nat → Int32), k + d = 12 → d < fuel → (∀ e, e < k → oe' e = 0 ∧ me' e = 0 ∧ tp' e = 0 ∧ lt' e = 0 ∧ cs' e = 0) → wX_resetRun_55 post nl vl el tl st nt et fe pe vt oo mo fuel (nI k) kd ax ay s0 s1 eo ea eb pr cm ch an av wt f0 f1 p0 p1 wk ov mv os ms oe' me' tp' lt' cs' := by
  intro d
  induction d with
  | zero =>
    intro k fuel oe' me' tp' lt' cs' hk hf hA
    obtain ⟨f, rfl⟩ : ∃ f, fuel = f + 1 := ⟨fuel - 1, by omega⟩
    exact br_t (nI_le (a := 12) (by omega) (by omega)) (h oe' me' tp' lt' cs' (fun e he => hA e (by omega)))
  | succ d ih =>
    intro k fuel oe' me' tp' lt' cs' hk hf hA
    obtain ⟨f, rfl⟩ : ∃ f, fuel = f + 1 := ⟨fuel - 1, by omega⟩
    have e1 : (nI k).toNatClampNeg = k := nI_clamp (by omega)
    have w : vp_in (nI k) 12 := vp_in_nI (by omega) (by decide)
    refine br_f (nI_ge (b := 12) (by omega) (by omega)) (And.intro w ?_)
    rw [e1]
    refine nm_e (And.intro w (nm_e (And.intro w (nm_e (And.intro w (nm_e (And.intro w (nm_e (nm_r (nI_1 k) (ih (k + 1) f _ _ _ _ _ (by omega) (by omega) (fun e he => ?_)))))))))))
    by_cases q : e = k
    · subst q; rw [pk_us, pk_us, pk_us, pk_us, pk_us]; exact ⟨rfl, rfl, rfl, rfl, rfl⟩
    · rw [pk_un q, pk_un q, pk_un q, pk_un q, pk_un q]; exact hA e (by omega)
theorem xr_17 (h : ∃ n55 : Nat, wX_resetRun_55 post nl vl el tl st nt et fe pe vt oo mo n55 0 kd ax ay s0 s1 eo ea eb pr cm ch an av wt f0 f1 p0 p1 wk (lz_rs pr ov 8) (lz_rs pr mv 8) os ms oe me tp lt cs) :
    ∀ (d k fuel : Nat), k + d = 8 → d < fuel → wX_resetRun_17 post nl vl el tl st nt et fe pe vt oo mo fuel (nI k) kd ax ay s0 s1 eo ea eb pr cm ch an av wt f0 f1 p0 p1 wk (lz_rs pr ov k) (lz_rs pr mv k) os ms oe me tp lt cs := by
  intro d
  induction d with
  | zero =>
    intro k fuel hk hf
    obtain ⟨f, rfl⟩ : ∃ f, fuel = f + 1 := ⟨fuel - 1, by omega⟩
    have q : k = 8 := by omega
    subst q
    exact br_t (nI_le (a := 8) (by omega) (by omega)) h
  | succ d ih =>
    intro k fuel hk hf
    obtain ⟨f, rfl⟩ : ∃ f, fuel = f + 1 := ⟨fuel - 1, by omega⟩
    have e1 : (nI k).toNatClampNeg = k := nI_clamp (by omega)
    have w : vp_in (nI k) 8 := vp_in_nI (by omega) (by decide)
    refine br_f (nI_ge (b := 8) (by omega) (by omega)) (And.intro w (And.intro w ?_))
    rw [e1]
    exact nm_r lz_rs_s (And.intro w (And.intro w (nm_r lz_rs_s (nm_r (nI_1 k) (ih (k + 1) f (by omega) (by omega))))))
theorem xg_resetRun (h : ∀ oe' me' tp' lt' cs', (∀ e, e < 12 → oe' e = 0 ∧ me' e = 0 ∧ tp' e = 0 ∧ lt' e = 0 ∧ cs' e = 0) → post (nl, vl, el, tl, st, nt, et, fe, pe, 0, 0, 0, kd, ax, ay, s0, s1, eo, ea, eb, pr, cm, ch, an, av, wt, f0, f1, p0, p1, wk, lz_rs pr ov 8, lz_rs pr mv 8, os, ms, oe', me', tp', lt', cs')) : wpX_resetRun post (nl, vl, el, tl, st, nt, et, fe, pe, vt, oo, mo, kd, ax, ay, s0, s1, eo, ea, eb, pr, cm, ch, an, av, wt, f0, f1, p0, p1, wk, ov, mv, os, ms, oe, me, tp, lt, cs) := by
  have k := xr_17 (post := post) (nl := nl) (vl := vl) (el := el) (tl := tl) (st := st) (nt := nt) (et := et) (fe := fe) (pe := pe) (vt := 0) (oo := 0) (mo := 0) (kd := kd) (ax := ax) (ay := ay) (s0 := s0) (s1 := s1) (eo := eo) (ea := ea) (eb := eb) (pr := pr) (cm := cm) (ch := ch) (an := an) (av := av) (wt := wt) (f0 := f0) (f1 := f1) (p0 := p0) (p1 := p1) (wk := wk) (ov := ov) (mv := mv) (os := os) (ms := ms) (oe := oe) (me := me) (tp := tp) (lt := lt) (cs := cs)
    (Exists.intro 13 (xr_55 h 12 0 13 oe me tp lt cs (by omega) (by omega) (fun e he => absurd he (by omega)))) 8 0 9 (by omega) (by omega)
  rw [lz_rs_0, lz_rs_0] at k
  exact Exists.intro 9 k
end
section
variable {nl vl el tl st nt et fe pe vt oo mo : Int32} {kd ax ay s0 s1 eo ea eb pr cm ch an av wt f0 f1 p0 p1 wk ov mv os ms oe me tp lt cs : Nat → Int32}
variable {vv ww : Nat → Int32} {post : Int32 → SX → Prop} {n m B L : Nat} {s : Int32}
theorem xg_walk0 (h0n : 0 < n) (hn : n ≤ 24) (hm : m ≤ 12) (hT : lz_TG n kd s0 s1) (hN : lz_WN n m kd ax ay ea eb) (hB : B ≤ 240) (hS : lz_Stop kd ax ay s0 s1 eo ea eb ov os B L s) (ho : ∀ e, e < 12 → oe e = 0)
    (h : ∀ oe', (∀ e, e < m → oe' e = lz_eo (fun j => lz_C kd ay (nI e) (lz_tr kd ax ay s0 s1 eo ea eb ov os j).1) L) → post s (nl, vl, el, tl, st, nI n, nI m, fe, pe, nI L, nI (lz_tr kd ax ay s0 s1 eo ea eb ov os L).2.2.2, mo, kd, ax, ay, s0, s1, eo, ea, eb, pr, cm, ch, an, av, wt, f0, f1, p0, p1, lz_wk (fun t => (lz_tr kd ax ay s0 s1 eo ea eb ov os t).1) wk L, (lz_tr kd ax ay s0 s1 eo ea eb ov os L).2.1, mv, (lz_tr kd ax ay s0 s1 eo ea eb ov os L).2.2.1, ms, oe', me, tp, lt, cs)) :
    wpX_walkGraph post (nl, vl, el, tl, st, nI n, nI m, fe, pe, 0, 0, mo, kd, ax, ay, s0, s1, eo, ea, eb, pr, cm, ch, an, av, wt, f0, f1, p0, p1, wk, ov, mv, os, ms, oe, me, tp, lt, cs) 0 (nI B) := by
  have hL := hS.1
  have k := xr_w0 (vv := ov) (ww := os) h0n hn hm hT hN hB hS h (L - 1) 0 (L + 1) oe (by omega) (by omega) (fun e he => ho e (by omega))
  rw [lz_wk_0] at k
  exact br_f (by decide) (Exists.intro (L + 1) k)
theorem xg_walk1 (h0n : 0 < n) (hn : n ≤ 24) (hm : m ≤ 12) (hT : lz_TG n kd s0 s1) (hN : lz_WN n m kd ax ay ea eb) (hA : lz_AN n m kd ax ay s0 s1 ea eb pe an av wt p0 p1) (hB : B ≤ 240) (hS : lz_Stop kd ax ay s0 s1 eo ea eb mv ms B L s) (ho : ∀ e, e < 12 → me e = 0 ∧ lt e = 0 ∧ cs e = 0)
    (h : ∀ r tp' me' lt' cs', lz_MU n m kd ax ay s0 s1 ea eb (fun t => (lz_tr kd ax ay s0 s1 eo ea eb mv ms t).1) me' lt' cs' L → post r (nl, vl, el, tl, st, nI n, nI m, fe, pe, vt, oo, nI (lz_tr kd ax ay s0 s1 eo ea eb mv ms L).2.2.2, kd, ax, ay, s0, s1, eo, ea, eb, pr, cm, ch, an, av, wt, f0, f1, p0, p1, wk, ov, (lz_tr kd ax ay s0 s1 eo ea eb mv ms L).2.1, os, (lz_tr kd ax ay s0 s1 eo ea eb mv ms L).2.2.1, oe, me', tp', lt', cs')) :
    wpX_walkGraph post (nl, vl, el, tl, st, nI n, nI m, fe, pe, vt, oo, 0, kd, ax, ay, s0, s1, eo, ea, eb, pr, cm, ch, an, av, wt, f0, f1, p0, p1, wk, ov, mv, os, ms, oe, me, tp, lt, cs) 1 (nI B) := by
  have hL := hS.1
  refine br_t rfl (xg_passEdge (j := 0) hm hN rfl (fun tp' me' lt' hP => ?_))
  have hmask : ∀ e, e < m → (bt pe e = true ↔ lz_xA n kd ax ay s0 s1 ea eb (fun t => (lz_tr kd ax ay s0 s1 eo ea eb mv ms t).1) e 0) := fun e he => by
    unfold lz_xA; rw [if_pos rfl]; exact hA.2.2.2.1 e he
  have hU : lz_MU n m kd ax ay s0 s1 ea eb (fun t => (lz_tr kd ax ay s0 s1 eo ea eb mv ms t).1) me lt cs 0 := fun e he => ho e (by omega)
  refine Exists.intro (L + 1) (xr_w1 (vv := mv) (ww := ms) h0n hn hm hT hN hA.2.2.1 hA.2.2.2.2 hB hS h (L - 1) 0 (L + 1) tp' me' lt' cs (by omega) (by omega) (lz_MT_of hU hmask hP) (fun e he => ?_))
  exact lz_TI_0 (fun z => ((hP e).1 he ((hA.2.2.2.1 e he).mpr z)).1)
theorem xg_run {T : Nat} (hst : ¬ st = 0) (h0n : 0 < n) (hn : n ≤ 24) (hm : m ≤ 12) (hT : lz_TG n kd s0 s1) (hN : lz_WN n m kd ax ay ea eb) (hA : lz_AN n m kd ax ay s0 s1 ea eb pe an av wt p0 p1) (hTl : T ≤ 240) (hB1 : 1 ≤ B) (hB : B ≤ T) (hS : lz_Stop kd ax ay s0 s1 eo ea eb vv ww B L s) (hvv : vv = lz_rs pr ov 8) (hww : ww = os)
    (h : ∀ oe' me' tp' lt' cs', (∀ e, e < m → oe' e = lz_eo (fun j => lz_C kd ay (nI e) (lz_tr kd ax ay s0 s1 eo ea eb vv ww j).1) L) → lz_MU n m kd ax ay s0 s1 ea eb (fun t => (lz_tr kd ax ay s0 s1 eo ea eb vv ww t).1) me' lt' cs' L →
      post s (nl, vl, el, nI T, s, nI n, nI m, fe, pe, nI L, nI (lz_tr kd ax ay s0 s1 eo ea eb vv ww L).2.2.2, nI (lz_tr kd ax ay s0 s1 eo ea eb vv ww L).2.2.2, kd, ax, ay, s0, s1, eo, ea, eb, pr, cm, ch, an, av, wt, f0, f1, p0, p1, lz_wk (fun t => (lz_tr kd ax ay s0 s1 eo ea eb vv ww t).1) wk L, (lz_tr kd ax ay s0 s1 eo ea eb vv ww L).2.1, (lz_tr kd ax ay s0 s1 eo ea eb vv ww L).2.1, (lz_tr kd ax ay s0 s1 eo ea eb vv ww L).2.2.1, (lz_tr kd ax ay s0 s1 eo ea eb vv ww L).2.2.1, oe', me', tp', lt', cs')) : wpX_run post (nl, vl, el, nI T, st, nI n, nI m, fe, pe, vt, oo, mo, kd, ax, ay, s0, s1, eo, ea, eb, pr, cm, ch, an, av, wt, f0, f1, p0, p1, wk, ov, ov, os, os, oe, me, tp, lt, cs) (nI B) := by
  subst hvv hww
  refine br_f hst (br_f (nI_nlt (b := 1) hB1 (by omega)) (br_t (nI_le hB (by omega)) (xg_resetRun (fun oe1 me1 tp1 lt1 cs1 h1 => ?_))))
  refine xg_walk0 h0n hn hm hT hN (by omega) hS (fun e he => (h1 e he).1) (fun oe' ho => ?_)
  refine xg_walk1 h0n hn hm hT hN hA (by omega) hS (fun e he => ⟨(h1 e he).2.1, (h1 e he).2.2.2.1, (h1 e he).2.2.2.2⟩) (fun r tp' me' lt' cs' hU => ?_)
  exact h oe' me' tp' lt' cs' ho hU
end
end
section
/-! the reference's run -/
section
variable {nl vl el tl st nt et vt oo : Int32} {kd ax ay s0 s1 eo ea eb pr ov wk os mk yn yv yw : Nat → Int32}
variable {post : Int32 → Prop} {n m e : Nat}
theorem yr_val (hm : m ≤ 12) (hN : lz_WN n m kd ax ay ea eb) (he : e < m) (h : post (lz_val eo ea eb ov e)) : wpY_value post (nl, vl, el, tl, st, nt, et, vt, oo, kd, ax, ay, s0, s1, eo, ea, eb, pr, ov, wk, os, mk, yn, yv, yw) (nI e) := by
  have e1 : (nI e).toNatClampNeg = e := nI_clamp (by omega)
  have w : vp_in (nI e) 12 := vp_in_nI (by omega) (by decide)
  obtain ⟨⟨a, ha, ea'⟩, b, hb, eb'⟩ := hN.2.2.2 e he
  have wa : vp_in (ea e) 8 := by rw [ea']; exact vp_in_nI ha (by decide)
  have wb : vp_in (eb e) 8 := by rw [eb']; exact vp_in_nI hb (by decide)
  unfold lz_val at h
  refine And.intro w ?_
  rw [e1]
  refine And.intro wa (nm_e (And.intro w (And.intro wb (nm_e (And.intro w ?_)))))
  refine br_c (fun z => ?_) (fun z0 => And.intro w (br_c (fun z => ?_) (fun z1 => And.intro w (br_c (fun z => ?_) (fun z2 => And.intro w (br_c (fun z => ?_) (fun z3 => And.intro w (br_c (fun z => ?_) (fun z4 => br_c (fun z => ?_) (fun z => ?_)))))))))) 
  · rw [if_pos z] at h; exact h
  · rw [if_neg z0, if_pos z] at h; exact h
  · rw [if_neg z0, if_neg z1, if_pos z] at h; exact h
  · rw [if_neg z0, if_neg z1, if_neg z2, if_pos z] at h; exact h
  · rw [if_neg z0, if_neg z1, if_neg z2, if_neg z3, if_pos z] at h; exact h
  · rw [if_neg z0, if_neg z1, if_neg z2, if_neg z3, if_neg z4, if_pos z] at h; exact h
  · rw [if_neg z0, if_neg z1, if_neg z2, if_neg z3, if_neg z4, if_neg z] at h; exact h
end
section
variable {nl vl el tl st nt et vt oo : Int32} {kd ax ay s0 s1 eo ea eb pr ov wk os mk yn yv yw : Nat → Int32}
variable {post : Int32 → SY → Prop} {J65 : Int32 → Int32 → Int32 → Int32 → Int32 → (Nat → Int32) → (Nat → Int32) → (Nat → Int32) → (Nat → Int32) → (Nat → Int32) → (Nat → Int32) → (Nat → Int32) → (Nat → Int32) → (Nat → Int32) → (Nat → Int32) → (Nat → Int32) → (Nat → Int32) → (Nat → Int32) → (Nat → Int32) → (Nat → Int32) → (Nat → Int32) → Prop} {x1 : Int32} {n m i j k : Nat}
theorem yr_214 (hn : n ≤ 24) (hT : lz_TG n kd s0 s1) (hi : i < n) (wx : vp_in (ax i) 8) (h6 : kd i = 6 → J65 (nI i) (nI (j + 1)) 2 vt oo kd ax ay s0 s1 eo ea eb pr ov wk os mk yn yv yw) (h : ¬ kd i = 6 → J65 (nI (lz_nx s0 s1 i (lz_ch kd ax i ov))) (nI (j + 1)) st vt oo kd ax ay s0 s1 eo ea eb pr ov wk os mk yn yv yw) : wY_run_214 post J65 x1 (nI i) (nI j) (ax i) nl vl el tl st nt et vt oo kd ax ay s0 s1 eo ea eb pr ov wk os mk yn yv yw := by
  have e1 : (nI i).toNatClampNeg = i := nI_clamp (by omega)
  have w : vp_in (nI i) 24 := vp_in_nI (by omega) (by decide)
  unfold wY_run_214
  refine And.intro w ?_
  rw [e1]
  refine br_c (fun z => nm_r (nI_1 j) (h6 z)) (fun z6 => And.intro w ?_)
  have h' := h z6
  have hcl := lz_ch_lt (ax := ax) (vs := ov) z6
  have ht := (hT i _ hi hcl).1
  rw [← ht] at h'
  unfold lz_ch at h'
  refine br_c (fun z => And.intro wx (br_c (fun y => ?_) (fun y => ?_))) (fun z => ?_)
  · rw [if_pos ⟨z, y⟩] at h'; exact And.intro w (nm_e (nm_r (nI_1 j) h'))
  · rw [if_neg (fun q => y q.2)] at h'; exact And.intro w (nm_e (nm_r (nI_1 j) h'))
  · rw [if_neg (fun q => z q.1)] at h'; exact And.intro w (nm_e (nm_r (nI_1 j) h'))
theorem yr_178 (hn : n ≤ 24) (hi : i < n) (h4 : ¬ kd i = 4) (h : wY_run_214 post J65 x1 (nI i) (nI j) (ax i) nl vl el tl st nt et vt oo kd ax ay s0 s1 eo ea eb pr ov wk os mk yn yv yw) : wY_run_178 post J65 x1 (nI i) (nI j) (ax i) nl vl el tl st nt et vt oo kd ax ay s0 s1 eo ea eb pr ov wk os mk yn yv yw := by
  have e1 : (nI i).toNatClampNeg = i := nI_clamp (by omega)
  unfold wY_run_178
  refine And.intro (vp_in_nI (by omega) (by decide)) ?_
  rw [e1]
  exact br_f h4 h
theorem yr_151 (hn : n ≤ 24) (hi : i < n) (h4 : ¬ kd i = 3) (h : wY_run_178 post J65 x1 (nI i) (nI j) (ax i) nl vl el tl st nt et vt oo kd ax ay s0 s1 eo ea eb pr ov wk os mk yn yv yw) : wY_run_151 post J65 x1 (nI i) (nI j) (ax i) nl vl el tl st nt et vt oo kd ax ay s0 s1 eo ea eb pr ov wk os mk yn yv yw := by
  have e1 : (nI i).toNatClampNeg = i := nI_clamp (by omega)
  unfold wY_run_151
  refine And.intro (vp_in_nI (by omega) (by decide)) ?_
  rw [e1]
  exact br_f h4 h
theorem yr_123 (hn : n ≤ 24) (hi : i < n) (h4 : ¬ kd i = 2) (h : wY_run_151 post J65 x1 (nI i) (nI j) (ax i) nl vl el tl st nt et vt oo kd ax ay s0 s1 eo ea eb pr ov wk os mk yn yv yw) : wY_run_123 post J65 x1 (nI i) (nI j) (ax i) nl vl el tl st nt et vt oo kd ax ay s0 s1 eo ea eb pr ov wk os mk yn yv yw := by
  have e1 : (nI i).toNatClampNeg = i := nI_clamp (by omega)
  unfold wY_run_123
  refine And.intro (vp_in_nI (by omega) (by decide)) ?_
  rw [e1]
  exact br_f h4 h
theorem yr_x (hn : n ≤ 24) (hm : m ≤ 12) (hT : lz_TG n kd s0 s1) (hN : lz_WN n m kd ax ay ea eb) (hi : i < n) (hk : k < 240)
    (h6 : kd i = 6 → J65 (nI i) (nI (j + 1)) 2 vt (nI (lz_on kd i k)) kd ax ay s0 s1 eo ea eb pr (lz_vs kd ax ay eo ea eb i ov) wk (lz_os kd ax i ov os k) mk yn yv yw)
    (h : ¬ kd i = 6 → J65 (nI (lz_nx s0 s1 i (lz_ch kd ax i (lz_vs kd ax ay eo ea eb i ov)))) (nI (j + 1)) st vt (nI (lz_on kd i k)) kd ax ay s0 s1 eo ea eb pr (lz_vs kd ax ay eo ea eb i ov) wk (lz_os kd ax i ov os k) mk yn yv yw) :
    ((kd i = 1 → (vp_in (nI i) 24 ∧ (vp_in (ax i) 8 ∧ ∀ a_vals_75 : Nat → Int32, a_vals_75 = upd ov (ax i).toNatClampNeg (ay i) → (wY_run_123 post J65 x1 (nI i) (nI j) (ax i) nl vl el tl st nt et vt (nI k) kd ax ay s0 s1 eo ea eb pr a_vals_75 wk os mk yn yv yw)))) ∧ (¬ kd i = 1 → (wY_run_123 post J65 x1 (nI i) (nI j) (ax i) nl vl el tl st nt et vt (nI k) kd ax ay s0 s1 eo ea eb pr ov wk os mk yn yv yw))) := by
  have e1 : (nI i).toNatClampNeg = i := nI_clamp (by omega)
  have e3 : (nI k).toNatClampNeg = k := nI_clamp (by omega)
  have w : vp_in (nI i) 24 := vp_in_nI (by omega) (by decide)
  obtain ⟨x', hx, ex⟩ := hN.1 i hi
  have wx : vp_in (ax i) 8 := by rw [ex]; exact vp_in_nI hx (by decide)
  by_cases h1 : kd i = 1
  · rw [show lz_vs kd ax ay eo ea eb i ov = upd ov (ax i).toNatClampNeg (ay i) from if_pos h1, show lz_os kd ax i ov os k = os from if_neg (by rw [h1]; decide), show lz_on kd i k = k from if_neg (by rw [h1]; decide)] at h h6
    exact br_t h1 (And.intro w (And.intro wx (nm_e (yr_123 hn hi (by rw [h1]; decide) (yr_151 hn hi (by rw [h1]; decide) (yr_178 hn hi (by rw [h1]; decide) (yr_214 hn hT hi wx h6 h)))))))
  refine br_f h1 ?_
  by_cases h2 : kd i = 2
  · obtain ⟨y, hy, ey⟩ := hN.2.1 i hi h2
    have wy : vp_in (ay i) 8 := by rw [ey]; exact vp_in_nI hy (by decide)
    rw [show lz_vs kd ax ay eo ea eb i ov = upd ov (ax i).toNatClampNeg (ov (ay i).toNatClampNeg) from (if_neg h1).trans (if_pos h2), show lz_os kd ax i ov os k = os from if_neg (by rw [h2]; decide), show lz_on kd i k = k from if_neg (by rw [h2]; decide)] at h h6
    unfold wY_run_123
    refine And.intro w ?_
    rw [e1]
    exact br_t h2 (And.intro w (And.intro wy (And.intro wx (nm_e (yr_151 hn hi (by rw [h2]; decide) (yr_178 hn hi (by rw [h2]; decide) (yr_214 hn hT hi wx h6 h)))))))
  refine yr_123 hn hi h2 ?_
  by_cases h3 : kd i = 3
  · obtain ⟨e, he, ee⟩ := hN.2.2.1 i hi h3
    have e2 : (nI e).toNatClampNeg = e := nI_clamp (by omega)
    rw [show lz_vs kd ax ay eo ea eb i ov = upd ov (ax i).toNatClampNeg (lz_val eo ea eb ov (ay i).toNatClampNeg) from (if_neg h1).trans ((if_neg h2).trans (if_pos h3)), show lz_os kd ax i ov os k = os from if_neg (by rw [h3]; decide), show lz_on kd i k = k from if_neg (by rw [h3]; decide), ee, e2] at h h6
    unfold wY_run_151
    refine And.intro w ?_
    rw [e1]
    refine br_t h3 (And.intro w ?_)
    rw [ee]
    exact yr_val hm hN he (And.intro wx (nm_e (yr_178 hn hi (by rw [h3]; decide) (yr_214 hn hT hi wx h6 h))))
  refine yr_151 hn hi h3 ?_
  by_cases h4 : kd i = 4
  · rw [show lz_vs kd ax ay eo ea eb i ov = ov from (if_neg h1).trans ((if_neg h2).trans (if_neg h3)), show lz_os kd ax i ov os k = upd os k (ov (ax i).toNatClampNeg) from if_pos h4, show lz_on kd i k = k + 1 from if_pos h4] at h h6
    unfold wY_run_178
    refine And.intro w ?_
    rw [e1, e3]
    exact br_t h4 (And.intro wx (And.intro (vp_in_nI hk (by decide)) (nm_e (nm_r (nI_1 k) (yr_214 hn hT hi wx h6 h)))))
  · rw [show lz_vs kd ax ay eo ea eb i ov = ov from (if_neg h1).trans ((if_neg h2).trans (if_neg h3)), show lz_os kd ax i ov os k = os from if_neg h4, show lz_on kd i k = k from if_neg h4] at h h6
    exact yr_178 hn hi h4 (yr_214 hn hT hi wx h6 h)
end
section
variable {nl vl el tl st nt et vt oo : Int32} {kd ax ay s0 s1 eo ea eb pr ov wk os mk yn yv yw : Nat → Int32}
variable {vv ww : Nat → Int32} {post : Int32 → SY → Prop} {n m B L : Nat} {s : Int32}
theorem yr_65 (h0n : 0 < n) (hn : n ≤ 24) (hm : m ≤ 12) (hT : lz_TG n kd s0 s1) (hN : lz_WN n m kd ax ay ea eb) (hB : B ≤ 240) (hS : lz_Stop kd ax ay s0 s1 eo ea eb vv ww B L s)
    (h : post s (nl, vl, el, tl, s, nI n, nI m, nI L, nI (lz_tr kd ax ay s0 s1 eo ea eb vv ww L).2.2.2, kd, ax, ay, s0, s1, eo, ea, eb, pr, (lz_tr kd ax ay s0 s1 eo ea eb vv ww L).2.1, lz_wk (fun t => (lz_tr kd ax ay s0 s1 eo ea eb vv ww t).1) wk L, (lz_tr kd ax ay s0 s1 eo ea eb vv ww L).2.2.1, mk, yn, yv, yw)) :
    ∀ (d j fuel : Nat) (vt' : Int32), j + d + 1 = L → d + 2 ≤ fuel →
    wY_run_65 post (nI B) nl vl el tl (nI n) (nI m) fuel (nI (lz_tr kd ax ay s0 s1 eo ea eb vv ww j).1) (nI j) 3 vt' (nI (lz_tr kd ax ay s0 s1 eo ea eb vv ww j).2.2.2) kd ax ay s0 s1 eo ea eb pr ((lz_tr kd ax ay s0 s1 eo ea eb vv ww j).2.1) (lz_wk (fun t => (lz_tr kd ax ay s0 s1 eo ea eb vv ww t).1) wk j) ((lz_tr kd ax ay s0 s1 eo ea eb vv ww j).2.2.1) mk yn yv yw := by
  obtain ⟨hL1, hLB, hne, hend⟩ := hS
  have hlt : ∀ j, j < L → (lz_tr kd ax ay s0 s1 eo ea eb vv ww j).1 < n := fun j hj => lz_tr_lt h0n hT j (fun j' h' => hne j' (by omega))
  intro d
  induction d with
  | zero =>
    intro j fuel vt' hj hf
    obtain ⟨f, rfl⟩ : ∃ f, fuel = f + 1 + 1 := ⟨fuel - 2, by omega⟩
    have hjn := hlt j (by omega)
    have hon := lz_tr_on (kd := kd) (ax := ax) (ay := ay) (s0 := s0) (s1 := s1) (eo := eo) (ea := ea) (eb := eb) (vv := vv) (ww := ww) j
    have e1 : (nI j).toNatClampNeg = j := nI_clamp (by omega)
    have e2 : (nI (lz_tr kd ax ay s0 s1 eo ea eb vv ww j).1).toNatClampNeg = (lz_tr kd ax ay s0 s1 eo ea eb vv ww j).1 := nI_clamp (by omega)
    have w : vp_in (nI (lz_tr kd ax ay s0 s1 eo ea eb vv ww j).1) 24 := vp_in_nI (by omega) (by decide)
    have hLj : L = j + 1 := by omega
    subst hLj
    rw [show j + 1 - 1 = j from rfl] at hend
    refine br_f (nI_ge (by omega) (by omega)) (br_t rfl (And.intro (vp_in_nI (by omega) (by decide)) ?_))
    rw [e1]
    refine nm_r (lz_wk_s (w := fun t => (lz_tr kd ax ay s0 s1 eo ea eb vv ww t).1)) (nm_r (nI_1 j) (And.intro w ?_))
    rw [e2]
    refine nm_e (And.intro w (yr_x hn hm hT hN hjn (by omega) (fun z => ?_) (fun z => ?_)))
    · rcases hend with ⟨rfl, h6⟩ | ⟨rfl, hBj, h6⟩
      · by_cases q : B ≤ j + 1
        · exact br_t (nI_le q (by omega)) h
        · exact br_f (nI_ge (by omega) (by omega)) (br_f (by decide) h)
      · exact absurd z h6
    · rcases hend with ⟨rfl, h6⟩ | ⟨rfl, hBj, h6⟩
      · exact absurd h6 z
      · exact br_t (nI_le (by omega) (by omega)) h
  | succ d ih =>
    intro j fuel vt' hj hf
    obtain ⟨f, rfl⟩ : ∃ f, fuel = f + 1 := ⟨fuel - 1, by omega⟩
    have hjn := hlt j (by omega)
    have hon := lz_tr_on (kd := kd) (ax := ax) (ay := ay) (s0 := s0) (s1 := s1) (eo := eo) (ea := ea) (eb := eb) (vv := vv) (ww := ww) j
    have e1 : (nI j).toNatClampNeg = j := nI_clamp (by omega)
    have e2 : (nI (lz_tr kd ax ay s0 s1 eo ea eb vv ww j).1).toNatClampNeg = (lz_tr kd ax ay s0 s1 eo ea eb vv ww j).1 := nI_clamp (by omega)
    have w : vp_in (nI (lz_tr kd ax ay s0 s1 eo ea eb vv ww j).1) 24 := vp_in_nI (by omega) (by decide)
    have h6 := hne j (by omega)
    refine br_f (nI_ge (by omega) (by omega)) (br_t rfl (And.intro (vp_in_nI (by omega) (by decide)) ?_))
    rw [e1]
    refine nm_r (lz_wk_s (w := fun t => (lz_tr kd ax ay s0 s1 eo ea eb vv ww t).1)) (nm_r (nI_1 j) (And.intro w ?_))
    rw [e2]
    refine nm_e (And.intro w (yr_x hn hm hT hN hjn (by omega) (fun z => absurd z h6) (fun z => ?_)))
    exact ih (j + 1) f (nI (j + 1)) (by omega) (by omega)
theorem yr_27 (h : ∃ n65 : Nat, wY_run_65 post (nI B) nl vl el tl nt et n65 0 0 3 vt 0 kd ax ay s0 s1 eo ea eb pr (lz_rs pr ov 8) wk os mk yn yv yw) : ∀ (d k fuel : Nat), k + d = 8 → d < fuel → wY_run_27 post (nI B) nl vl el tl st nt et vt oo fuel (nI k) kd ax ay s0 s1 eo ea eb pr (lz_rs pr ov k) wk os mk yn yv yw := by
  intro d
  induction d with
  | zero =>
    intro k fuel hk hf
    obtain ⟨f, rfl⟩ : ∃ f, fuel = f + 1 := ⟨fuel - 1, by omega⟩
    have q : k = 8 := by omega
    subst q
    exact br_t (nI_le (a := 8) (by omega) (by omega)) h
  | succ d ih =>
    intro k fuel hk hf
    obtain ⟨f, rfl⟩ : ∃ f, fuel = f + 1 := ⟨fuel - 1, by omega⟩
    have e1 : (nI k).toNatClampNeg = k := nI_clamp (by omega)
    have w : vp_in (nI k) 8 := vp_in_nI (by omega) (by decide)
    refine br_f (nI_ge (b := 8) (by omega) (by omega)) (And.intro w (And.intro w ?_))
    rw [e1]
    exact nm_r lz_rs_s (nm_r (nI_1 k) (ih (k + 1) f (by omega) (by omega)))
theorem yg_run {T : Nat} (hst : ¬ st = 0) (h0n : 0 < n) (hn : n ≤ 24) (hm : m ≤ 12) (hT : lz_TG n kd s0 s1) (hN : lz_WN n m kd ax ay ea eb) (hTl : T ≤ 240) (hB1 : 1 ≤ B) (hB : B ≤ T) (hS : lz_Stop kd ax ay s0 s1 eo ea eb vv ww B L s) (hvv : vv = lz_rs pr ov 8) (hww : ww = os)
    (h : post s (nl, vl, el, nI T, s, nI n, nI m, nI L, nI (lz_tr kd ax ay s0 s1 eo ea eb vv ww L).2.2.2, kd, ax, ay, s0, s1, eo, ea, eb, pr, (lz_tr kd ax ay s0 s1 eo ea eb vv ww L).2.1, lz_wk (fun t => (lz_tr kd ax ay s0 s1 eo ea eb vv ww t).1) wk L, (lz_tr kd ax ay s0 s1 eo ea eb vv ww L).2.2.1, mk, yn, yv, yw)) : wpY_run post (nl, vl, el, nI T, st, nI n, nI m, vt, oo, kd, ax, ay, s0, s1, eo, ea, eb, pr, ov, wk, os, mk, yn, yv, yw) (nI B) := by
  subst hvv hww
  have hL := hS.1
  have k1 := yr_65 (nl := nl) (vl := vl) (el := el) (tl := nI T) (wk := wk) (pr := pr) h0n hn hm hT hN (by omega) hS h (L - 1) 0 (L + 1) vt (by omega) (by omega)
  rw [lz_wk_0] at k1
  have k2 := yr_27 (st := st) (oo := oo) (Exists.intro (L + 1) k1) 8 0 9 (by omega) (by omega)
  rw [lz_rs_0] at k2
  exact br_f hst (br_f (nI_nlt (b := 1) hB1 (by omega)) (br_t (nI_le hB (by omega)) (Exists.intro 9 k2)))
end
end
section
/-! the reference's evals and carried: the counts along the walk -/
section
variable {nl vl el tl st nt et vt oo : Int32} {kd ax ay s0 s1 eo ea eb pr ov wk os mk yn yv yw : Nat → Int32}
variable {post : Int32 → SY → Prop} {J51 J27 : Int32 → Int32 → Prop} {x : Int32} {n e L : Nat} {w : Nat → Nat}
theorem yq_78a {j : Nat} (hn : n ≤ 24) (hL : L ≤ 240) (hj : j < L) (hw : ∀ k, k < L → wk k = nI (w k) ∧ w k < n) (h : J51 (x + lz_b (lz_C kd ay (nI e) (w j))) (nI (j + 1))) : wY_evals_78 post J51 0 (nI e) x (nI j) nl vl el tl st nt et vt oo kd ax ay s0 s1 eo ea eb pr ov wk os mk yn yv yw := by
  have e1 : (nI j).toNatClampNeg = j := nI_clamp (by omega)
  have h1 := hw j hj
  unfold wY_evals_78
  refine And.intro (vp_in_nI (by omega) (by decide)) ?_
  rw [e1, h1.1]
  refine yg_computes (by omega) (lz_br (fun z => ?_) (fun z => ?_))
  · rw [lz_b_add_f z] at h; exact nm_r (nI_1 j) h
  · rw [lz_b_add_t z] at h; exact br_t rfl (nm_e (nm_r (nI_1 j) h))
theorem yq_78b {j : Nat} (hn : n ≤ 24) (hL : L ≤ 240) (hj : j < L) (hw : ∀ k, k < L → wk k = nI (w k) ∧ w k < n) (hS : lz_YS n kd ax ay s0 s1 ea eb e yn yv yw) (h : J51 (x + lz_b (lz_C kd ay (nI e) (w j) ∧ ¬ lz_xNW n kd ax ay s0 s1 ea eb e (w j))) (nI (j + 1))) : wY_evals_78 post J51 1 (nI e) x (nI j) nl vl el tl st nt et vt oo kd ax ay s0 s1 eo ea eb pr ov wk os mk yn yv yw := by
  have e1 : (nI j).toNatClampNeg = j := nI_clamp (by omega)
  have h1 := hw j hj
  have h2 := h1.2
  have e2 : (nI (w j)).toNatClampNeg = w j := nI_clamp (by omega)
  unfold wY_evals_78
  refine And.intro (vp_in_nI (by omega) (by decide)) ?_
  rw [e1, h1.1]
  refine yg_computes (by omega) (lz_br (fun z => ?_) (fun z => br_f (by decide) (And.intro (vp_in_nI (by omega) (by decide)) (And.intro (vp_in_nI (by omega) (by decide)) ?_))))
  · rw [lz_b_add_f (fun y => z y.1)] at h; exact nm_r (nI_1 j) h
  · rw [e2, hS.2.2 _ h2]
    refine lz_br (fun y => ?_) (fun y => ?_)
    · rw [lz_b_add_f (fun q => y q.2)] at h; exact nm_r (nI_1 j) h
    · rw [lz_b_add_t ⟨z, y⟩] at h; exact nm_e (nm_r (nI_1 j) h)
theorem yq_51a (hn : n ≤ 24) (hL : L ≤ 240) (hw : ∀ k, k < L → wk k = nI (w k) ∧ w k < n) (h : post (lz_eo (fun j => lz_C kd ay (nI e) (w j)) L) (nl, vl, el, tl, st, nt, et, nI L, oo, kd, ax, ay, s0, s1, eo, ea, eb, pr, ov, wk, os, mk, yn, yv, yw)) :
    ∀ (d j fuel : Nat), j + d = L → d < fuel → wY_evals_51 post 0 (nI e) nl vl el tl st nt et (nI L) oo kd ax ay s0 s1 eo ea eb pr ov wk os mk yn yv yw fuel (lz_eo (fun j => lz_C kd ay (nI e) (w j)) j) (nI j) := by
  intro d
  induction d with
  | zero =>
    intro j fuel hj hf
    obtain ⟨f, rfl⟩ : ∃ f, fuel = f + 1 := ⟨fuel - 1, by omega⟩
    have q : j = L := by omega
    subst q
    exact br_t (nI_le (by omega) (by omega)) h
  | succ d ih =>
    intro j fuel hj hf
    obtain ⟨f, rfl⟩ : ∃ f, fuel = f + 1 := ⟨fuel - 1, by omega⟩
    exact br_f (nI_ge (by omega) (by omega)) (br_f (by decide) (yq_78a hn hL (by omega) hw (ih (j + 1) f (by omega) (by omega))))
theorem yq_51b (hn : n ≤ 24) (h0 : 0 < n) (hT : lz_TG n kd s0 s1) (he : e < 12) (hL : L ≤ 240) (hw : ∀ k, k < L → wk k = nI (w k) ∧ w k < n) (hw0 : w 0 = 0) (hS : lz_YS n kd ax ay s0 s1 ea eb e yn yv yw)
    (h : post (lz_em (lz_xA n kd ax ay s0 s1 ea eb w e) (fun j => lz_C kd ay (nI e) (w j)) (fun j => lz_xNW n kd ax ay s0 s1 ea eb e (w j)) L) (nl, vl, el, tl, st, nt, et, nI L, oo, kd, ax, ay, s0, s1, eo, ea, eb, pr, ov, wk, os, mk, yn, yv, yw)) :
    ∀ (d j fuel : Nat), j + d = L → d < fuel → wY_evals_51 post 1 (nI e) nl vl el tl st nt et (nI L) oo kd ax ay s0 s1 eo ea eb pr ov wk os mk yn yv yw fuel (lz_em (lz_xA n kd ax ay s0 s1 ea eb w e) (fun j => lz_C kd ay (nI e) (w j)) (fun j => lz_xNW n kd ax ay s0 s1 ea eb e (w j)) j) (nI j) := by
  intro d
  induction d with
  | zero =>
    intro j fuel hj hf
    obtain ⟨f, rfl⟩ : ∃ f, fuel = f + 1 := ⟨fuel - 1, by omega⟩
    have q : j = L := by omega
    subst q
    exact br_t (nI_le (by omega) (by omega)) h
  | succ d ih =>
    intro j fuel hj hf
    obtain ⟨f, rfl⟩ : ∃ f, fuel = f + 1 := ⟨fuel - 1, by omega⟩
    have k := ih (j + 1) f (by omega) (by omega)
    simp only [lz_em] at k
    refine br_f (nI_ge (by omega) (by omega)) (br_t rfl (yg_placedAt hn h0 hT he hL (by omega) hw hw0 hS (lz_br (fun z => ?_) (fun z => ?_))))
    · rw [lz_b_add_f z] at k; exact yq_78b hn hL (by omega) hw hS k
    · rw [lz_b_add_t z] at k; exact nm_e (yq_78b hn hL (by omega) hw hS k)
theorem yq_69 {i : Nat} (hn : n ≤ 24) (h0 : 0 < n) (hT : lz_TG n kd s0 s1) (he : e < 12) (hL : L ≤ 240) (hi : i < L) (hw : ∀ k, k < L → wk k = nI (w k) ∧ w k < n) (hw0 : w 0 = 0) (hS : lz_YS n kd ax ay s0 s1 ea eb e yn yv yw)
    (h : J27 (x + (nI i - lz_lb (lz_xA n kd ax ay s0 s1 ea eb w e) (fun j => lz_C kd ay (nI e) (w j)) i)) (nI (i + 1))) :
    ∀ (d j fuel : Nat) (g : Int32), j + d = i + 1 → d < fuel → (j ≤ i → g = lz_la (lz_xA n kd ax ay s0 s1 ea eb w e) (fun j => lz_C kd ay (nI e) (w j)) j) → (i < j → g = lz_lb (lz_xA n kd ax ay s0 s1 ea eb w e) (fun j => lz_C kd ay (nI e) (w j)) i) → wY_carried_69 post J27 (nI e) x (nI i) nl vl el tl st nt et (nI L) oo kd ax ay s0 s1 eo ea eb pr ov wk os mk yn yv yw fuel g (nI j) := by
  intro d
  induction d with
  | zero =>
    intro j fuel g hj hf g1 g2
    obtain ⟨f, rfl⟩ : ∃ f, fuel = f + 1 := ⟨fuel - 1, by omega⟩
    rw [g2 (by omega)]
    exact br_t (nI_lt (by omega) (by omega)) (nm_e (nm_r (nI_1 i) h))
  | succ d ih =>
    intro j fuel g hj hf g1 g2
    obtain ⟨f, rfl⟩ : ∃ f, fuel = f + 1 := ⟨fuel - 1, by omega⟩
    have e1 : (nI j).toNatClampNeg = j := nI_clamp (by omega)
    have hg := g1 (by omega)
    refine br_f (nI_nlt (by omega) (by omega)) (yg_placedAt hn h0 hT he hL (by omega) hw hw0 hS (lz_br (fun z => ?_) (fun z => nm_r (nI_1 j) (ih (j + 1) f (nI j) (by omega) (by omega) (fun q => ?_) (fun q => ?_)))))
    · by_cases q : i ≤ j
      · have q2 : j = i := by omega
        subst q2
        refine br_t (nI_le (by omega) (by omega)) (nm_r (nI_1 j) (ih (j + 1) f g (by omega) (by omega) (fun p => absurd p (by omega)) (fun p => ?_)))
        rw [hg]; exact (lz_if_f z).symm
      · have hj2 := hw j (by omega)
        refine br_f (nI_ge (by omega) (by omega)) (And.intro (vp_in_nI (by omega) (by decide)) ?_)
        rw [e1, hj2.1]
        refine yg_computes (by omega) (lz_br (fun y => nm_r (nI_1 j) (ih (j + 1) f g (by omega) (by omega) (fun p => ?_) (fun p => absurd p (by omega)))) (fun y => nm_r (nI_1 j) (ih (j + 1) f (nI j) (by omega) (by omega) (fun p => ?_) (fun p => absurd p (by omega)))))
        · simp only [lz_la]; rw [lz_if_f y, lz_if_f z]; exact hg
        · simp only [lz_la]; rw [lz_if_t y]
    · simp only [lz_la]
      by_cases y : lz_C kd ay (nI e) (w j)
      · rw [lz_if_t y]
      · rw [lz_if_f y, lz_if_t z]
    · have q2 : j = i := by omega
      subst q2
      exact (lz_if_t z).symm
theorem yq_27 (hn : n ≤ 24) (h0 : 0 < n) (hT : lz_TG n kd s0 s1) (he : e < 12) (hL : L ≤ 240) (hw : ∀ k, k < L → wk k = nI (w k) ∧ w k < n) (hw0 : w 0 = 0) (hS : lz_YS n kd ax ay s0 s1 ea eb e yn yv yw)
    (h : post (lz_cs (lz_xA n kd ax ay s0 s1 ea eb w e) (fun j => lz_C kd ay (nI e) (w j)) (fun j => lz_xNW n kd ax ay s0 s1 ea eb e (w j)) L) (nl, vl, el, tl, st, nt, et, nI L, oo, kd, ax, ay, s0, s1, eo, ea, eb, pr, ov, wk, os, mk, yn, yv, yw)) :
    ∀ (d j fuel : Nat), j + d = L → d < fuel → wY_carried_27 post (nI e) nl vl el tl st nt et (nI L) oo kd ax ay s0 s1 eo ea eb pr ov wk os mk yn yv yw fuel (lz_cs (lz_xA n kd ax ay s0 s1 ea eb w e) (fun j => lz_C kd ay (nI e) (w j)) (fun j => lz_xNW n kd ax ay s0 s1 ea eb e (w j)) j) (nI j) := by
  intro d
  induction d with
  | zero =>
    intro j fuel hj hf
    obtain ⟨f, rfl⟩ : ∃ f, fuel = f + 1 := ⟨fuel - 1, by omega⟩
    have q : j = L := by omega
    subst q
    exact br_t (nI_le (by omega) (by omega)) h
  | succ d ih =>
    intro j fuel hj hf
    obtain ⟨f, rfl⟩ : ∃ f, fuel = f + 1 := ⟨fuel - 1, by omega⟩
    have e1 : (nI j).toNatClampNeg = j := nI_clamp (by omega)
    have h1 := hw j (by omega)
    have h2 := h1.2
    have e2 : (nI (w j)).toNatClampNeg = w j := nI_clamp (by omega)
    have k := ih (j + 1) f (by omega) (by omega)
    simp only [lz_cs] at k
    refine br_f (nI_ge (by omega) (by omega)) (And.intro (vp_in_nI (by omega) (by decide)) ?_)
    rw [e1, h1.1]
    refine yg_computes (by omega) (lz_br (fun z => ?_) (fun z => And.intro (vp_in_nI (by omega) (by decide)) (And.intro (vp_in_nI (by omega) (by decide)) ?_)))
    · rw [lz_if_f (fun y => z y.1)] at k; exact nm_r (nI_1 j) k
    · rw [e2, hS.2.2 _ h2]
      refine lz_br (fun y => ?_) (fun y => ?_)
      · rw [lz_if_t ⟨z, Classical.byContradiction y⟩] at k
        exact Exists.intro (j + 2) (yq_69 hn h0 hT he hL (by omega) hw hw0 hS k (j + 1) 0 (j + 2) 0 (by omega) (by omega) (fun _ => rfl) (fun q => absurd q (by omega)))
      · rw [lz_if_f (fun q => y q.2)] at k; exact nm_r (nI_1 j) k
end
end
section
/-! the relation -/
def lz_RR (NL VL EL TL n m L K : Nat) (st pe : Int32) (kd ax ay s0 s1 eo ea eb an av wt p0 p1 wk oe me cs : Nat → Int32) : Prop :=
  (NL ≤ 24 ∧ VL ≤ 8 ∧ EL ≤ 12 ∧ TL ≤ 240 ∧ n ≤ NL ∧ m ≤ EL ∧ L ≤ 240 ∧ K ≤ 240) ∧
  lz_WN n m kd ax ay ea eb ∧ lz_WT n s0 s1 ∧ (∀ e e', e < m → e' < m → eo e = eo e' → ea e = ea e' → eb e = eb e' → e = e') ∧
  (¬ st = 0 → 0 < n ∧ lz_AT n kd s0 s1 ∧ lz_AR n kd s0 s1 ∧ lz_AN n m kd ax ay s0 s1 ea eb pe an av wt p0 p1) ∧
  (st = 2 ∨ st = 3 → ∃ w : Nat → Nat, (∀ k, k < L → wk k = nI (w k) ∧ w k < n) ∧ w 0 = 0 ∧
    ∀ e, e < m → oe e = lz_eo (fun j => lz_C kd ay (nI e) (w j)) L ∧ me e = lz_em (lz_xA n kd ax ay s0 s1 ea eb w e) (fun j => lz_C kd ay (nI e) (w j)) (fun j => lz_xNW n kd ax ay s0 s1 ea eb e (w j)) L ∧
      cs e = lz_cs (lz_xA n kd ax ay s0 s1 ea eb w e) (fun j => lz_C kd ay (nI e) (w j)) (fun j => lz_xNW n kd ax ay s0 s1 ea eb e (w j)) L)
/-- the relation at the head of a turn -/
def i_Rel (_ : Nat) (u : SX) (v : SY) : Prop := ∃ (NL VL EL TL n m L K : Nat) (st fe pe : Int32) (kd ax ay s0 s1 eo ea eb pr cm ch an av wt f0 f1 p0 p1 wk ov os oe me tp lt cs mk yn yv yw : Nat → Int32), u = (nI NL, nI VL, nI EL, nI TL, st, nI n, nI m, fe, pe, nI L, nI K, nI K, kd, ax, ay, s0, s1, eo, ea, eb, pr, cm, ch, an, av, wt, f0, f1, p0, p1, wk, ov, ov, os, os, oe, me, tp, lt, cs) ∧ v = (nI NL, nI VL, nI EL, nI TL, st, nI n, nI m, nI L, nI K, kd, ax, ay, s0, s1, eo, ea, eb, pr, ov, wk, os, mk, yn, yv, yw) ∧ lz_RR NL VL EL TL n m L K st pe kd ax ay s0 s1 eo ea eb an av wt p0 p1 wk oe me cs
theorem zz_el {k : Nat} {u : SX} {v : SY} {P : SX → SY → Prop} (h : ∀ (NL VL EL TL n m L K : Nat) (st fe pe : Int32) (kd ax ay s0 s1 eo ea eb pr cm ch an av wt f0 f1 p0 p1 wk ov os oe me tp lt cs mk yn yv yw : Nat → Int32), lz_RR NL VL EL TL n m L K st pe kd ax ay s0 s1 eo ea eb an av wt p0 p1 wk oe me cs → P (nI NL, nI VL, nI EL, nI TL, st, nI n, nI m, fe, pe, nI L, nI K, nI K, kd, ax, ay, s0, s1, eo, ea, eb, pr, cm, ch, an, av, wt, f0, f1, p0, p1, wk, ov, ov, os, os, oe, me, tp, lt, cs) (nI NL, nI VL, nI EL, nI TL, st, nI n, nI m, nI L, nI K, kd, ax, ay, s0, s1, eo, ea, eb, pr, ov, wk, os, mk, yn, yv, yw)) (I : i_Rel k u v) : P u v :=
  I.elim fun NL I => I.elim fun VL I => I.elim fun EL I => I.elim fun TL I => I.elim fun n I => I.elim fun m I => I.elim fun L I => I.elim fun K I => I.elim fun st I => I.elim fun fe I => I.elim fun pe I => I.elim fun kd I => I.elim fun ax I => I.elim fun ay I => I.elim fun s0 I => I.elim fun s1 I => I.elim fun eo I => I.elim fun ea I => I.elim fun eb I => I.elim fun pr I => I.elim fun cm I => I.elim fun ch I => I.elim fun an I => I.elim fun av I => I.elim fun wt I => I.elim fun f0 I => I.elim fun f1 I => I.elim fun p0 I => I.elim fun p1 I => I.elim fun wk I => I.elim fun ov I => I.elim fun os I => I.elim fun oe I => I.elim fun me I => I.elim fun tp I => I.elim fun lt I => I.elim fun cs I => I.elim fun mk I => I.elim fun yn I => I.elim fun yv I => I.elim fun yw I =>  And.elim (fun hu hvr => And.elim (fun hv hr => by rw [hu, hv]; exact h NL VL EL TL n m L K st fe pe kd ax ay s0 s1 eo ea eb pr cm ch an av wt f0 f1 p0 p1 wk ov os oe me tp lt cs mk yn yv yw hr) hvr) I
section
variable {NL VL EL TL n m L K : Nat} {st fe pe : Int32} {kd ax ay s0 s1 eo ea eb pr cm ch an av wt f0 f1 p0 p1 wk ov os oe me tp lt cs mk yn yv yw : Nat → Int32}
theorem zz_in {k : Nat} (h : lz_RR NL VL EL TL n m L K st pe kd ax ay s0 s1 eo ea eb an av wt p0 p1 wk oe me cs) : i_Rel k (nI NL, nI VL, nI EL, nI TL, st, nI n, nI m, fe, pe, nI L, nI K, nI K, kd, ax, ay, s0, s1, eo, ea, eb, pr, cm, ch, an, av, wt, f0, f1, p0, p1, wk, ov, ov, os, os, oe, me, tp, lt, cs) (nI NL, nI VL, nI EL, nI TL, st, nI n, nI m, nI L, nI K, kd, ax, ay, s0, s1, eo, ea, eb, pr, ov, wk, os, mk, yn, yv, yw) := ⟨NL, VL, EL, TL, n, m, L, K, st, fe, pe, kd, ax, ay, s0, s1, eo, ea, eb, pr, cm, ch, an, av, wt, f0, f1, p0, p1, wk, ov, os, oe, me, tp, lt, cs, mk, yn, yv, yw, rfl, rfl, h⟩
end
theorem i_up {k : Nat} {u : SX} {v : SY} (h : i_Rel k u v) : i_Rel (k + 5) u v := h
def lz_cl (p lo hi : Int32) : Int32 := if lo ≤ p then (if p ≤ hi then p else hi) else lo
theorem lz_cl_n {lo hi : Nat} (h : lo ≤ hi) (hh : hi < 2 ^ 31) (p : Int32) : ∃ c, c ≤ hi ∧ lz_cl p (nI lo) (nI hi) = nI c := by
  unfold lz_cl
  by_cases a : nI lo ≤ p
  · rw [if_pos a]
    by_cases b : p ≤ nI hi
    · rw [if_pos b]
      have h0 : ¬ p < 0 := by
        rw [Int32.lt_iff_toInt_lt, show (0 : Int32).toInt = 0 from by decide]
        rw [Int32.le_iff_toInt_le, nI_toInt (by omega)] at a
        omega
      exact nI_of2 (nI_toInt hh) h0 b
    · rw [if_neg b]; exact ⟨hi, Nat.le_refl _, rfl⟩
  · rw [if_neg a]; exact ⟨lo, h, rfl⟩
section
variable {nl vl el tl st nt et fe pe vt oo mo : Int32} {kd ax ay s0 s1 eo ea eb pr cm ch an av wt f0 f1 p0 p1 wk ov mv os ms oe me tp lt cs : Nat → Int32}
theorem xg_clamp {post : Int32 → Prop} {p lo hi z : Int32} (e : lz_cl p lo hi = z) (h : post z) : wpX_clamp post (nl, vl, el, tl, st, nt, et, fe, pe, vt, oo, mo, kd, ax, ay, s0, s1, eo, ea, eb, pr, cm, ch, an, av, wt, f0, f1, p0, p1, wk, ov, mv, os, ms, oe, me, tp, lt, cs) p lo hi := by
  subst e
  unfold lz_cl at h
  by_cases a : lo ≤ p
  · rw [if_pos a] at h
    by_cases b : p ≤ hi
    · rw [if_pos b] at h; exact br_t a (br_t b h)
    · rw [if_neg b] at h; exact br_t a (br_f b h)
  · rw [if_neg a] at h; exact br_f a h
end
section
variable {nl vl el tl st nt et vt oo : Int32} {kd ax ay s0 s1 eo ea eb pr ov wk os mk yn yv yw : Nat → Int32}
theorem yg_clamp {post : Int32 → Prop} {p lo hi z : Int32} (e : lz_cl p lo hi = z) (h : post z) : wpY_clamp post (nl, vl, el, tl, st, nt, et, vt, oo, kd, ax, ay, s0, s1, eo, ea, eb, pr, ov, wk, os, mk, yn, yv, yw) p lo hi := by
  subst e
  unfold lz_cl at h
  by_cases a : lo ≤ p
  · rw [if_pos a] at h
    by_cases b : p ≤ hi
    · rw [if_pos b] at h; exact br_t a (br_t b h)
    · rw [if_neg b] at h; exact br_t a (br_f b h)
  · rw [if_neg a] at h; exact br_f a h
end
theorem i_vc0 (k0 : Int32) (k1 : Int32) (k2 : Int32) (k3 : Int32) : wpX_init (fun u => wpY_init (fun v => i_Rel 4 u v) k0 k1 k2 k3) k0 k1 k2 k3 := by
  obtain ⟨c0, b0, e0⟩ := lz_cl_n (lo := 2) (hi := 24) (by omega) (by omega) k0
  obtain ⟨c1, b1, e1⟩ := lz_cl_n (lo := 1) (hi := 8) (by omega) (by omega) k1
  obtain ⟨c2, b2, e2⟩ := lz_cl_n (lo := 1) (hi := 12) (by omega) (by omega) k2
  obtain ⟨c3, b3, e3⟩ := lz_cl_n (lo := 8) (hi := 240) (by omega) (by omega) k3
  unfold wpX_init wpY_init
  refine xg_clamp e0 (xg_clamp e1 (xg_clamp e2 (xg_clamp e3 (yg_clamp e0 (yg_clamp e1 (yg_clamp e2 (yg_clamp e3 ?_)))))))
  refine zz_in (NL := c0) (VL := c1) (EL := c2) (TL := c3) (n := 0) (m := 0) (L := 0) (K := 0) (st := 0) ⟨⟨b0, b1, b2, b3, by omega, by omega, by omega, by omega⟩, ⟨fun i h => absurd h (by omega), fun i h => absurd h (by omega), fun i h => absurd h (by omega), fun i h => absurd h (by omega)⟩, fun i h => absurd h (by omega), fun e e' h => absurd h (by omega), fun z => absurd rfl z, fun z => absurd z (by decide)⟩
end
section
/-! the small methods -/
section
variable {NL VL EL TL n m L K : Nat} {st fe pe : Int32} {kd ax ay s0 s1 eo ea eb pr cm ch an av wt f0 f1 p0 p1 wk ov os oe me tp lt cs mk yn yv yw : Nat → Int32}
theorem zz_st0 (h : lz_RR NL VL EL TL n m L K st pe kd ax ay s0 s1 eo ea eb an av wt p0 p1 wk oe me cs) : lz_RR NL VL EL TL n m L K 0 pe kd ax ay s0 s1 eo ea eb an av wt p0 p1 wk oe me cs := ⟨h.1, h.2.1, h.2.2.1, h.2.2.2.1, fun z => absurd rfl z, fun z => absurd z (by decide)⟩
end
theorem i_vc_state {k : Nat} {u : SX} {v : SY} (I : i_Rel k u v) (hk : k + 5 ≤ 2564) : wpX_state (fun r => wpY_state (fun r' => r' = r ∧ i_Rel (k + 5) u v) v) u := by
  refine zz_el (P := fun u v => wpX_state (fun r => wpY_state (fun r' => r' = r ∧ i_Rel (k + 5) u v) v) u) ?_ I
  intro NL VL EL TL n m L K st fe pe kd ax ay s0 s1 eo ea eb pr cm ch an av wt f0 f1 p0 p1 wk ov os oe me tp lt cs mk yn yv yw h
  exact And.intro rfl (zz_in h)
theorem i_vc_nodeCount {k : Nat} {u : SX} {v : SY} (I : i_Rel k u v) (hk : k + 5 ≤ 2564) : wpX_nodeCount (fun r => wpY_nodeCount (fun r' => r' = r ∧ i_Rel (k + 5) u v) v) u := by
  refine zz_el (P := fun u v => wpX_nodeCount (fun r => wpY_nodeCount (fun r' => r' = r ∧ i_Rel (k + 5) u v) v) u) ?_ I
  intro NL VL EL TL n m L K st fe pe kd ax ay s0 s1 eo ea eb pr cm ch an av wt f0 f1 p0 p1 wk ov os oe me tp lt cs mk yn yv yw h
  exact And.intro rfl (zz_in h)
theorem i_vc_reopen {k : Nat} {u : SX} {v : SY} (I : i_Rel k u v) (hk : k + 5 ≤ 2564) : wpX_reopen (fun r u' => wpY_reopen (fun r' v' => r' = r ∧ i_Rel (k + 5) u' v') v) u := by
  refine zz_el (P := fun u v => wpX_reopen (fun r u' => wpY_reopen (fun r' v' => r' = r ∧ i_Rel (k + 5) u' v') v) u) ?_ I
  intro NL VL EL TL n m L K st fe pe kd ax ay s0 s1 eo ea eb pr cm ch an av wt f0 f1 p0 p1 wk ov os oe me tp lt cs mk yn yv yw h
  exact br_c (fun z => br_t z (And.intro rfl (zz_in h))) (fun z => br_f z (And.intro rfl (zz_in (zz_st0 h))))
theorem i_vc_preset {k : Nat} {u : SX} {v : SY} (I : i_Rel k u v) (hk : k + 5 ≤ 2564) (v1 : Int32) (v2 : Int32) : wpX_preset (fun r u' => wpY_preset (fun r' v' => r' = r ∧ i_Rel (k + 5) u' v') v v1 v2) u v1 v2 := by
  refine zz_el (P := fun u v => wpX_preset (fun r u' => wpY_preset (fun r' v' => r' = r ∧ i_Rel (k + 5) u' v') v v1 v2) u v1 v2) ?_ I
  intro NL VL EL TL n m L K st fe pe kd ax ay s0 s1 eo ea eb pr cm ch an av wt f0 f1 p0 p1 wk ov os oe me tp lt cs mk yn yv yw h
  have hV := h.1.2.1
  unfold wpX_preset wpY_preset
  refine xg_isVariable (by omega) (lz_br (fun z => yg_isVar (by omega) (lz_br (fun _ => And.intro rfl (zz_in h)) (fun y => absurd y z))) (fun z => ?_))
  obtain ⟨j, hj, rfl⟩ := z
  have w : vp_in (nI j) 8 := vp_in_nI (by omega) (by decide)
  exact And.intro w (nm_e (yg_isVar (by omega) (lz_br (fun y => absurd ⟨j, hj, rfl⟩ y) (fun _ => And.intro w (nm_e (And.intro rfl (zz_in h)))))))
section
variable {nl vl el tl st nt et fe pe vt oo mo : Int32} {kd ax ay s0 s1 eo ea eb pr cm ch an av wt f0 f1 p0 p1 wk ov mv os ms oe me tp lt cs : Nat → Int32}
theorem xm_17 {post : SX → Prop} (h : post (nl, vl, el, tl, st, nt, et, fe, pe, vt, oo, mo, kd, ax, ay, s0, s1, eo, ea, eb, lz_rs (fun _ => 0) pr 8, cm, ch, an, av, wt, f0, f1, p0, p1, wk, ov, mv, os, ms, oe, me, tp, lt, cs)) : ∀ (d k fuel : Nat), k + d = 8 → d < fuel → wX_clear_17 post nl vl el tl st nt et fe pe vt oo mo fuel (nI k) kd ax ay s0 s1 eo ea eb (lz_rs (fun _ => 0) pr k) cm ch an av wt f0 f1 p0 p1 wk ov mv os ms oe me tp lt cs := by
  intro d
  induction d with
  | zero =>
    intro k fuel hk hf
    obtain ⟨f, rfl⟩ : ∃ f, fuel = f + 1 := ⟨fuel - 1, by omega⟩
    have q : k = 8 := by omega
    subst q
    exact br_t (nI_le (a := 8) (by omega) (by omega)) h
  | succ d ih =>
    intro k fuel hk hf
    obtain ⟨f, rfl⟩ : ∃ f, fuel = f + 1 := ⟨fuel - 1, by omega⟩
    have e1 : (nI k).toNatClampNeg = k := nI_clamp (by omega)
    refine br_f (nI_ge (b := 8) (by omega) (by omega)) (And.intro (vp_in_nI (by omega) (by decide)) ?_)
    rw [e1]
    exact nm_r (lz_rs_s (pr := fun _ => 0)) (nm_r (nI_1 k) (ih (k + 1) f (by omega) (by omega)))
theorem xg_clear {post : SX → Prop} (h : post (nl, vl, el, tl, 0, 0, 0, fe, pe, vt, oo, mo, kd, ax, ay, s0, s1, eo, ea, eb, lz_rs (fun _ => 0) pr 8, cm, ch, an, av, wt, f0, f1, p0, p1, wk, ov, mv, os, ms, oe, me, tp, lt, cs)) : wpX_clear post (nl, vl, el, tl, st, nt, et, fe, pe, vt, oo, mo, kd, ax, ay, s0, s1, eo, ea, eb, pr, cm, ch, an, av, wt, f0, f1, p0, p1, wk, ov, mv, os, ms, oe, me, tp, lt, cs) := by
  have k := xm_17 h 8 0 9 (by omega) (by omega)
  rw [lz_rs_0] at k
  exact Exists.intro 9 k
end
section
variable {nl vl el tl st nt et vt oo : Int32} {kd ax ay s0 s1 eo ea eb pr ov wk os mk yn yv yw : Nat → Int32}
theorem ym_17 {post : SY → Prop} (h : post (nl, vl, el, tl, st, nt, et, vt, oo, kd, ax, ay, s0, s1, eo, ea, eb, lz_rs (fun _ => 0) pr 8, ov, wk, os, mk, yn, yv, yw)) : ∀ (d k fuel : Nat), k + d = 8 → d < fuel → wY_clear_17 post nl vl el tl st nt et vt oo fuel (nI k) kd ax ay s0 s1 eo ea eb (lz_rs (fun _ => 0) pr k) ov wk os mk yn yv yw := by
  intro d
  induction d with
  | zero =>
    intro k fuel hk hf
    obtain ⟨f, rfl⟩ : ∃ f, fuel = f + 1 := ⟨fuel - 1, by omega⟩
    have q : k = 8 := by omega
    subst q
    exact br_t (nI_le (a := 8) (by omega) (by omega)) h
  | succ d ih =>
    intro k fuel hk hf
    obtain ⟨f, rfl⟩ : ∃ f, fuel = f + 1 := ⟨fuel - 1, by omega⟩
    have e1 : (nI k).toNatClampNeg = k := nI_clamp (by omega)
    refine br_f (nI_ge (b := 8) (by omega) (by omega)) (And.intro (vp_in_nI (by omega) (by decide)) ?_)
    rw [e1]
    exact nm_r (lz_rs_s (pr := fun _ => 0)) (nm_r (nI_1 k) (ih (k + 1) f (by omega) (by omega)))
theorem yg_clear {post : SY → Prop} (h : post (nl, vl, el, tl, 0, 0, 0, vt, oo, kd, ax, ay, s0, s1, eo, ea, eb, lz_rs (fun _ => 0) pr 8, ov, wk, os, mk, yn, yv, yw)) : wpY_clear post (nl, vl, el, tl, st, nt, et, vt, oo, kd, ax, ay, s0, s1, eo, ea, eb, pr, ov, wk, os, mk, yn, yv, yw) := by
  have k := ym_17 h 8 0 9 (by omega) (by omega)
  rw [lz_rs_0] at k
  exact Exists.intro 9 k
end
theorem i_vc_clear {k : Nat} {u : SX} {v : SY} (I : i_Rel k u v) (hk : k + 5 ≤ 2564) : wpX_clear (fun u' => wpY_clear (fun v' => i_Rel (k + 5) u' v') v) u := by
  refine zz_el (P := fun u v => wpX_clear (fun u' => wpY_clear (fun v' => i_Rel (k + 5) u' v') v) u) ?_ I
  intro NL VL EL TL n m L K st fe pe kd ax ay s0 s1 eo ea eb pr cm ch an av wt f0 f1 p0 p1 wk ov os oe me tp lt cs mk yn yv yw h
  obtain ⟨⟨b1, b2, b3, b4, b5, b6, b7, b8⟩, _⟩ := h
  refine xg_clear (yg_clear ?_)
  refine zz_in (n := 0) (m := 0) (st := 0) ⟨⟨b1, b2, b3, b4, by omega, by omega, b7, b8⟩, ⟨fun i h => absurd h (by omega), fun i h => absurd h (by omega), fun i h => absurd h (by omega), fun i h => absurd h (by omega)⟩, fun i h => absurd h (by omega), fun e e' h => absurd h (by omega), fun z => absurd rfl z, fun z => absurd z (by decide)⟩
theorem i_vc_outCount {k : Nat} {u : SX} {v : SY} (I : i_Rel k u v) (hk : k + 5 ≤ 2564) (v1 : Int32) : wpX_outCount (fun r => wpY_outCount (fun r' => r' = r ∧ i_Rel (k + 5) u v) v v1) u v1 := by
  refine zz_el (P := fun u v => wpX_outCount (fun r => wpY_outCount (fun r' => r' = r ∧ i_Rel (k + 5) u v) v v1) u v1) ?_ I
  intro NL VL EL TL n m L K st fe pe kd ax ay s0 s1 eo ea eb pr cm ch an av wt f0 f1 p0 p1 wk ov os oe me tp lt cs mk yn yv yw h
  have R := zz_in (k := k + 5) (fe := fe) (pr := pr) (cm := cm) (ch := ch) (f0 := f0) (f1 := f1) (ov := ov) (os := os) (tp := tp) (lt := lt) (mk := mk) (yn := yn) (yv := yv) (yw := yw) h
  unfold wpX_outCount wpY_outCount
  refine xg_hasRun (lz_br (fun z => yg_ran (lz_br (fun _ => And.intro rfl R) (fun y => absurd y z))) (fun z => xg_isRunChoice (lz_br (fun y => yg_ran (lz_br (fun q => absurd z q) (fun _ => br_f (fun q => y (Or.inl q)) (br_f (fun q => y (Or.inr q)) (And.intro rfl R))))) (fun y => ?_))))
  by_cases q : v1 = 0
  · exact br_t q (yg_ran (lz_br (fun p => absurd z p) (fun _ => br_t q (And.intro rfl R))))
  · have q1 : v1 = 1 := y.elim (fun p => absurd p q) id
    exact br_f q (yg_ran (lz_br (fun p => absurd z p) (fun _ => br_f q (br_t q1 (And.intro rfl R)))))
theorem i_vc_walkNode {k : Nat} {u : SX} {v : SY} (I : i_Rel k u v) (hk : k + 5 ≤ 2564) (v1 : Int32) : wpX_walkNode (fun r => wpY_walkNode (fun r' => r' = r ∧ i_Rel (k + 5) u v) v v1) u v1 := by
  refine zz_el (P := fun u v => wpX_walkNode (fun r => wpY_walkNode (fun r' => r' = r ∧ i_Rel (k + 5) u v) v v1) u v1) ?_ I
  intro NL VL EL TL n m L K st fe pe kd ax ay s0 s1 eo ea eb pr cm ch an av wt f0 f1 p0 p1 wk ov os oe me tp lt cs mk yn yv yw h
  have R := zz_in (k := k + 5) (fe := fe) (pr := pr) (cm := cm) (ch := ch) (f0 := f0) (f1 := f1) (ov := ov) (os := os) (tp := tp) (lt := lt) (mk := mk) (yn := yn) (yv := yv) (yw := yw) h
  have hL := h.1.2.2.2.2.2.2.1
  unfold wpX_walkNode wpY_walkNode
  refine xg_hasRun (lz_br (fun z => yg_ran (lz_br (fun _ => And.intro rfl R) (fun y => absurd y z))) (fun z => ?_))
  by_cases q : v1 < 0
  · exact br_t q (yg_ran (lz_br (fun p => absurd z p) (fun _ => br_t q (And.intro rfl R))))
  obtain ⟨j, hj, rfl⟩ := nI_of q
  by_cases p : j < L
  · have w : vp_in (nI j) 240 := vp_in_nI (by omega) (by decide)
    exact br_f q (br_t (nI_lt p (by omega)) (And.intro w (yg_ran (lz_br (fun p => absurd z p) (fun _ => br_f q (br_f (nI_ge p (by omega)) (And.intro w (And.intro rfl R))))))))
  · exact br_f q (br_f (nI_nlt (by omega) (by omega)) (yg_ran (lz_br (fun p => absurd z p) (fun _ => br_f q (br_t (nI_le (by omega) (by omega)) (And.intro rfl R))))))
theorem i_vc_outValue {k : Nat} {u : SX} {v : SY} (I : i_Rel k u v) (hk : k + 5 ≤ 2564) (v1 : Int32) (v2 : Int32) : wpX_outValue (fun r => wpY_outValue (fun r' => r' = r ∧ i_Rel (k + 5) u v) v v1 v2) u v1 v2 := by
  refine zz_el (P := fun u v => wpX_outValue (fun r => wpY_outValue (fun r' => r' = r ∧ i_Rel (k + 5) u v) v v1 v2) u v1 v2) ?_ I
  intro NL VL EL TL n m L K st fe pe kd ax ay s0 s1 eo ea eb pr cm ch an av wt f0 f1 p0 p1 wk ov os oe me tp lt cs mk yn yv yw h
  have R := zz_in (k := k + 5) (fe := fe) (pr := pr) (cm := cm) (ch := ch) (f0 := f0) (f1 := f1) (ov := ov) (os := os) (tp := tp) (lt := lt) (mk := mk) (yn := yn) (yv := yv) (yw := yw) h
  have hK := h.1.2.2.2.2.2.2.2
  unfold wpX_outValue wpY_outValue
  refine xg_hasRun (lz_br (fun z => yg_ran (lz_br (fun _ => And.intro rfl R) (fun y => absurd y z))) (fun z => xg_isRunChoice (lz_br (fun y => yg_ran (lz_br (fun q => absurd z q) (fun _ => br_f (fun q => y (Or.inl q)) (br_f (fun q => y (Or.inr q)) (And.intro rfl R))))) (fun y => ?_))))
  have yy : ∀ r, wY_outValue_18 (fun r' => r' = r ∧ i_Rel (k + 5) (nI NL, nI VL, nI EL, nI TL, st, nI n, nI m, fe, pe, nI L, nI K, nI K, kd, ax, ay, s0, s1, eo, ea, eb, pr, cm, ch, an, av, wt, f0, f1, p0, p1, wk, ov, ov, os, os, oe, me, tp, lt, cs) (nI NL, nI VL, nI EL, nI TL, st, nI n, nI m, nI L, nI K, kd, ax, ay, s0, s1, eo, ea, eb, pr, ov, wk, os, mk, yn, yv, yw)) v2 (nI NL) (nI VL) (nI EL) (nI TL) st (nI n) (nI m) (nI L) (nI K) kd ax ay s0 s1 eo ea eb pr ov wk os mk yn yv yw → wpY_ran (fun r_1 => (((r_1 = 0 → ((0 : Int32) = r ∧ i_Rel (k + 5) (nI NL, nI VL, nI EL, nI TL, st, nI n, nI m, fe, pe, nI L, nI K, nI K, kd, ax, ay, s0, s1, eo, ea, eb, pr, cm, ch, an, av, wt, f0, f1, p0, p1, wk, ov, ov, os, os, oe, me, tp, lt, cs) (nI NL, nI VL, nI EL, nI TL, st, nI n, nI m, nI L, nI K, kd, ax, ay, s0, s1, eo, ea, eb, pr, ov, wk, os, mk, yn, yv, yw))) ∧ (¬ r_1 = 0 → (((v1 = 0 → (wY_outValue_18 (fun r' => r' = r ∧ i_Rel (k + 5) (nI NL, nI VL, nI EL, nI TL, st, nI n, nI m, fe, pe, nI L, nI K, nI K, kd, ax, ay, s0, s1, eo, ea, eb, pr, cm, ch, an, av, wt, f0, f1, p0, p1, wk, ov, ov, os, os, oe, me, tp, lt, cs) (nI NL, nI VL, nI EL, nI TL, st, nI n, nI m, nI L, nI K, kd, ax, ay, s0, s1, eo, ea, eb, pr, ov, wk, os, mk, yn, yv, yw)) v2 (nI NL) (nI VL) (nI EL) (nI TL) st (nI n) (nI m) (nI L) (nI K) kd ax ay s0 s1 eo ea eb pr ov wk os mk yn yv yw)) ∧ (¬ v1 = 0 → (((v1 = 1 → (wY_outValue_18 (fun r' => r' = r ∧ i_Rel (k + 5) (nI NL, nI VL, nI EL, nI TL, st, nI n, nI m, fe, pe, nI L, nI K, nI K, kd, ax, ay, s0, s1, eo, ea, eb, pr, cm, ch, an, av, wt, f0, f1, p0, p1, wk, ov, ov, os, os, oe, me, tp, lt, cs) (nI NL, nI VL, nI EL, nI TL, st, nI n, nI m, nI L, nI K, kd, ax, ay, s0, s1, eo, ea, eb, pr, ov, wk, os, mk, yn, yv, yw)) v2 (nI NL) (nI VL) (nI EL) (nI TL) st (nI n) (nI m) (nI L) (nI K) kd ax ay s0 s1 eo ea eb pr ov wk os mk yn yv yw)) ∧ (¬ v1 = 1 → ((0 : Int32) = r ∧ i_Rel (k + 5) (nI NL, nI VL, nI EL, nI TL, st, nI n, nI m, fe, pe, nI L, nI K, nI K, kd, ax, ay, s0, s1, eo, ea, eb, pr, cm, ch, an, av, wt, f0, f1, p0, p1, wk, ov, ov, os, os, oe, me, tp, lt, cs) (nI NL, nI VL, nI EL, nI TL, st, nI n, nI m, nI L, nI K, kd, ax, ay, s0, s1, eo, ea, eb, pr, ov, wk, os, mk, yn, yv, yw)))))))))))) (nI NL, nI VL, nI EL, nI TL, st, nI n, nI m, nI L, nI K, kd, ax, ay, s0, s1, eo, ea, eb, pr, ov, wk, os, mk, yn, yv, yw) :=
    fun r hr => yg_ran (lz_br (fun p => absurd z p) (fun _ => br_c (fun _ => hr) (fun q => br_t (y.elim (fun p => absurd p q) id) hr)))
  have fin : ∀ z0, z0 = nI K → wX_outValue_32 (fun r => wpY_ran (fun r_1 => (((r_1 = 0 → ((0 : Int32) = r ∧ i_Rel (k + 5) (nI NL, nI VL, nI EL, nI TL, st, nI n, nI m, fe, pe, nI L, nI K, nI K, kd, ax, ay, s0, s1, eo, ea, eb, pr, cm, ch, an, av, wt, f0, f1, p0, p1, wk, ov, ov, os, os, oe, me, tp, lt, cs) (nI NL, nI VL, nI EL, nI TL, st, nI n, nI m, nI L, nI K, kd, ax, ay, s0, s1, eo, ea, eb, pr, ov, wk, os, mk, yn, yv, yw))) ∧ (¬ r_1 = 0 → (((v1 = 0 → (wY_outValue_18 (fun r' => r' = r ∧ i_Rel (k + 5) (nI NL, nI VL, nI EL, nI TL, st, nI n, nI m, fe, pe, nI L, nI K, nI K, kd, ax, ay, s0, s1, eo, ea, eb, pr, cm, ch, an, av, wt, f0, f1, p0, p1, wk, ov, ov, os, os, oe, me, tp, lt, cs) (nI NL, nI VL, nI EL, nI TL, st, nI n, nI m, nI L, nI K, kd, ax, ay, s0, s1, eo, ea, eb, pr, ov, wk, os, mk, yn, yv, yw)) v2 (nI NL) (nI VL) (nI EL) (nI TL) st (nI n) (nI m) (nI L) (nI K) kd ax ay s0 s1 eo ea eb pr ov wk os mk yn yv yw)) ∧ (¬ v1 = 0 → (((v1 = 1 → (wY_outValue_18 (fun r' => r' = r ∧ i_Rel (k + 5) (nI NL, nI VL, nI EL, nI TL, st, nI n, nI m, fe, pe, nI L, nI K, nI K, kd, ax, ay, s0, s1, eo, ea, eb, pr, cm, ch, an, av, wt, f0, f1, p0, p1, wk, ov, ov, os, os, oe, me, tp, lt, cs) (nI NL, nI VL, nI EL, nI TL, st, nI n, nI m, nI L, nI K, kd, ax, ay, s0, s1, eo, ea, eb, pr, ov, wk, os, mk, yn, yv, yw)) v2 (nI NL) (nI VL) (nI EL) (nI TL) st (nI n) (nI m) (nI L) (nI K) kd ax ay s0 s1 eo ea eb pr ov wk os mk yn yv yw)) ∧ (¬ v1 = 1 → ((0 : Int32) = r ∧ i_Rel (k + 5) (nI NL, nI VL, nI EL, nI TL, st, nI n, nI m, fe, pe, nI L, nI K, nI K, kd, ax, ay, s0, s1, eo, ea, eb, pr, cm, ch, an, av, wt, f0, f1, p0, p1, wk, ov, ov, os, os, oe, me, tp, lt, cs) (nI NL, nI VL, nI EL, nI TL, st, nI n, nI m, nI L, nI K, kd, ax, ay, s0, s1, eo, ea, eb, pr, ov, wk, os, mk, yn, yv, yw)))))))))))) (nI NL, nI VL, nI EL, nI TL, st, nI n, nI m, nI L, nI K, kd, ax, ay, s0, s1, eo, ea, eb, pr, ov, wk, os, mk, yn, yv, yw)) v1 v2 z0 (nI NL) (nI VL) (nI EL) (nI TL) st (nI n) (nI m) fe pe (nI L) (nI K) (nI K) kd ax ay s0 s1 eo ea eb pr cm ch an av wt f0 f1 p0 p1 wk ov ov os os oe me tp lt cs := by
    rintro z0 rfl
    unfold wX_outValue_32
    by_cases q : v2 < 0
    · refine br_t q (yy 0 ?_)
      unfold wY_outValue_18
      exact br_t q (And.intro rfl R)
    obtain ⟨j, hj, rfl⟩ := nI_of q
    by_cases p : j < K
    · have w : vp_in (nI j) 240 := vp_in_nI (by omega) (by decide)
      have a : wpY_ran (fun r_1 => (((r_1 = 0 → ((0 : Int32) = os (nI j).toNatClampNeg ∧ i_Rel (k + 5) (nI NL, nI VL, nI EL, nI TL, st, nI n, nI m, fe, pe, nI L, nI K, nI K, kd, ax, ay, s0, s1, eo, ea, eb, pr, cm, ch, an, av, wt, f0, f1, p0, p1, wk, ov, ov, os, os, oe, me, tp, lt, cs) (nI NL, nI VL, nI EL, nI TL, st, nI n, nI m, nI L, nI K, kd, ax, ay, s0, s1, eo, ea, eb, pr, ov, wk, os, mk, yn, yv, yw))) ∧ (¬ r_1 = 0 → (((v1 = 0 → (wY_outValue_18 (fun r' => r' = os (nI j).toNatClampNeg ∧ i_Rel (k + 5) (nI NL, nI VL, nI EL, nI TL, st, nI n, nI m, fe, pe, nI L, nI K, nI K, kd, ax, ay, s0, s1, eo, ea, eb, pr, cm, ch, an, av, wt, f0, f1, p0, p1, wk, ov, ov, os, os, oe, me, tp, lt, cs) (nI NL, nI VL, nI EL, nI TL, st, nI n, nI m, nI L, nI K, kd, ax, ay, s0, s1, eo, ea, eb, pr, ov, wk, os, mk, yn, yv, yw)) (nI j) (nI NL) (nI VL) (nI EL) (nI TL) st (nI n) (nI m) (nI L) (nI K) kd ax ay s0 s1 eo ea eb pr ov wk os mk yn yv yw)) ∧ (¬ v1 = 0 → (((v1 = 1 → (wY_outValue_18 (fun r' => r' = os (nI j).toNatClampNeg ∧ i_Rel (k + 5) (nI NL, nI VL, nI EL, nI TL, st, nI n, nI m, fe, pe, nI L, nI K, nI K, kd, ax, ay, s0, s1, eo, ea, eb, pr, cm, ch, an, av, wt, f0, f1, p0, p1, wk, ov, ov, os, os, oe, me, tp, lt, cs) (nI NL, nI VL, nI EL, nI TL, st, nI n, nI m, nI L, nI K, kd, ax, ay, s0, s1, eo, ea, eb, pr, ov, wk, os, mk, yn, yv, yw)) (nI j) (nI NL) (nI VL) (nI EL) (nI TL) st (nI n) (nI m) (nI L) (nI K) kd ax ay s0 s1 eo ea eb pr ov wk os mk yn yv yw)) ∧ (¬ v1 = 1 → ((0 : Int32) = os (nI j).toNatClampNeg ∧ i_Rel (k + 5) (nI NL, nI VL, nI EL, nI TL, st, nI n, nI m, fe, pe, nI L, nI K, nI K, kd, ax, ay, s0, s1, eo, ea, eb, pr, cm, ch, an, av, wt, f0, f1, p0, p1, wk, ov, ov, os, os, oe, me, tp, lt, cs) (nI NL, nI VL, nI EL, nI TL, st, nI n, nI m, nI L, nI K, kd, ax, ay, s0, s1, eo, ea, eb, pr, ov, wk, os, mk, yn, yv, yw)))))))))))) (nI NL, nI VL, nI EL, nI TL, st, nI n, nI m, nI L, nI K, kd, ax, ay, s0, s1, eo, ea, eb, pr, ov, wk, os, mk, yn, yv, yw) := by
        refine yy _ ?_
        unfold wY_outValue_18
        exact br_f q (br_f (nI_ge p (by omega)) (And.intro w (And.intro rfl R)))
      exact br_f q (br_t (nI_lt p (by omega)) (br_c (fun _ => And.intro w a) (fun _ => And.intro w a)))
    · refine br_f q (br_f (nI_nlt (by omega) (by omega)) (yy 0 ?_))
      unfold wY_outValue_18
      exact br_f q (br_t (nI_le (by omega) (by omega)) (And.intro rfl R))
  exact br_c (fun _ => fin _ rfl) (fun _ => fin _ rfl)
theorem i_vc_variable {k : Nat} {u : SX} {v : SY} (I : i_Rel k u v) (hk : k + 5 ≤ 2564) (v1 : Int32) (v2 : Int32) : wpX_variable (fun r => wpY_variable (fun r' => r' = r ∧ i_Rel (k + 5) u v) v v1 v2) u v1 v2 := by
  refine zz_el (P := fun u v => wpX_variable (fun r => wpY_variable (fun r' => r' = r ∧ i_Rel (k + 5) u v) v v1 v2) u v1 v2) ?_ I
  intro NL VL EL TL n m L K st fe pe kd ax ay s0 s1 eo ea eb pr cm ch an av wt f0 f1 p0 p1 wk ov os oe me tp lt cs mk yn yv yw h
  have R := zz_in (k := k + 5) (fe := fe) (pr := pr) (cm := cm) (ch := ch) (f0 := f0) (f1 := f1) (ov := ov) (os := os) (tp := tp) (lt := lt) (mk := mk) (yn := yn) (yv := yv) (yw := yw) h
  have hV := h.1.2.1
  unfold wpX_variable wpY_variable
  refine xg_isVariable (by omega) (lz_br (fun z => yg_isVar (by omega) (lz_br (fun _ => And.intro rfl R) (fun y => absurd y z))) (fun z => ?_))
  have zz := z
  obtain ⟨j, hj, rfl⟩ := z
  have w : vp_in (nI j) 8 := vp_in_nI (by omega) (by decide)
  by_cases q2 : v1 = 2
  · exact br_t q2 (And.intro w (yg_isVar (by omega) (lz_br (fun p => absurd zz p) (fun _ => br_t q2 (And.intro w (And.intro rfl R))))))
  refine br_f q2 (xg_hasRun (lz_br (fun y => yg_isVar (by omega) (lz_br (fun p => absurd zz p) (fun _ => br_f q2 (yg_ran (lz_br (fun _ => And.intro rfl R) (fun p => absurd p y)))))) (fun y => xg_isRunChoice (lz_br (fun x => ?_) (fun x => ?_)))))
  · exact yg_isVar (by omega) (lz_br (fun p => absurd zz p) (fun _ => br_f q2 (yg_ran (lz_br (fun p => absurd y p) (fun _ => br_f (fun q => x (Or.inl q)) (br_f (fun q => x (Or.inr q)) (And.intro rfl R)))))))
  · by_cases q : v1 = 0
    · exact br_t q (And.intro w (yg_isVar (by omega) (lz_br (fun p => absurd zz p) (fun _ => br_f q2 (yg_ran (lz_br (fun p => absurd y p) (fun _ => br_t q (And.intro w (And.intro rfl R)))))))))
    · have q1 : v1 = 1 := x.elim (fun p => absurd p q) id
      exact br_f q (And.intro w (yg_isVar (by omega) (lz_br (fun p => absurd zz p) (fun _ => br_f q2 (yg_ran (lz_br (fun p => absurd y p) (fun _ => br_f q (br_t q1 (And.intro w (And.intro rfl R))))))))))
end
section
/-! the questions -/
theorem lz_sl6 {kd : Nat → Int32} {i : Nat} (h : kd i = 6) : lz_sl kd i = 0 := lz_sl0.mpr h
theorem lz_sl5 {kd : Nat → Int32} {i : Nat} (h : kd i = 5) : lz_sl kd i = 2 := by
  unfold lz_sl; rw [if_neg (by rw [h]; decide), if_pos h]
theorem lz_sl1 {kd : Nat → Int32} {i : Nat} (h6 : ¬ kd i = 6) (h : ¬ kd i = 5) : lz_sl kd i = 1 := by
  unfold lz_sl; rw [if_neg h6, if_neg h]
theorem lz_sle {kd : Nat → Int32} {i : Nat} (h : kd i = 3) : lz_sl kd i = 1 := lz_sl1 (by rw [h]; decide) (by rw [h]; decide)
theorem lz_not_in0 {v : Int32} {n : Nat} (h : v < 0) (hn : n < 2 ^ 31) : ¬ lz_in v n := by
  rintro ⟨j, hj, rfl⟩
  exact nI_pos (by omega) h
theorem i_vc_nodePart {k : Nat} {u : SX} {v : SY} (I : i_Rel k u v) (hk : k + 5 ≤ 2564) (v1 : Int32) (v2 : Int32) : wpX_nodePart (fun r => wpY_nodePart (fun r' => r' = r ∧ i_Rel (k + 5) u v) v v1 v2) u v1 v2 := by
  refine zz_el (P := fun u v => wpX_nodePart (fun r => wpY_nodePart (fun r' => r' = r ∧ i_Rel (k + 5) u v) v v1 v2) u v1 v2) ?_ I
  intro NL VL EL TL n m L K st fe pe kd ax ay s0 s1 eo ea eb pr cm ch an av wt f0 f1 p0 p1 wk ov os oe me tp lt cs mk yn yv yw h
  have R := zz_in (k := k + 5) (fe := fe) (pr := pr) (cm := cm) (ch := ch) (f0 := f0) (f1 := f1) (ov := ov) (os := os) (tp := tp) (lt := lt) (mk := mk) (yn := yn) (yv := yv) (yw := yw) h
  have hN : n ≤ 24 := Nat.le_trans h.1.2.2.2.2.1 h.1.1
  unfold wpX_nodePart wpY_nodePart
  refine xg_isNode (by omega) (lz_br (fun z => yg_isNode (by omega) (lz_br (fun _ => And.intro rfl R) (fun y => absurd y z))) (fun z => ?_))
  have zz := z
  obtain ⟨j, hj, rfl⟩ := z
  have w : vp_in (nI j) 24 := vp_in_nI (by omega) (by decide)
  have e1 : (nI j).toNatClampNeg = j := nI_clamp (by omega)
  have hs2 := lz_sl2 kd j
  rw [e1]
  by_cases q0 : v2 < 0
  · exact br_t q0 (yg_isNode (by omega) (lz_br (fun p => absurd zz p) (fun _ => br_t q0 (And.intro rfl R))))
  by_cases q4 : 4 < v2
  · have q4' : ¬ v2 ≤ 4 := Int32.not_le.mpr q4
    exact br_f q0 (br_t q4 (yg_isNode (by omega) (lz_br (fun p => absurd zz p) (fun _ => br_f q0 (br_f q4' (And.intro rfl R))))))
  have q4' : v2 ≤ 4 := Int32.not_lt.mp q4
  refine br_f q0 (br_f q4 ?_)
  obtain ⟨p, hp, rfl⟩ := nI_of2 (n := 4) (by decide) q0 q4'
  have hp5 : p = 0 ∨ p = 1 ∨ p = 2 ∨ p = 3 ∨ p = 4 := by omega
  rcases hp5 with rfl | rfl | rfl | rfl | rfl
  · refine br_t rfl (And.intro w (yg_isNode (by omega) (lz_br (fun p => absurd zz p) (fun _ => br_f q0 (br_t q4' (br_t rfl (And.intro w (And.intro rfl R))))))))
  · refine br_f (by decide) (br_t rfl (And.intro w (yg_isNode (by omega) (lz_br (fun p => absurd zz p) (fun _ => br_f q0 (br_t q4' (br_f (by decide) (br_t rfl (And.intro w (And.intro rfl R))))))))))
  · refine br_f (by decide) (br_f (by decide) (br_t rfl (And.intro w (yg_isNode (by omega) (lz_br (fun p => absurd zz p) (fun _ => br_f q0 (br_t q4' (br_f (by decide) (br_f (by decide) (br_t rfl (And.intro w (And.intro rfl R))))))))))))
  · refine br_f (by decide) (br_f (by decide) (br_f (by decide) (br_t rfl (And.intro w ?_))))
    by_cases h6 : kd j = 6
    · refine br_t h6 (yg_isNode (by omega) (lz_br (fun p => absurd zz p) (fun _ => br_f q0 (br_t q4' (br_f (by decide) (br_f (by decide) (br_f (by decide) (yg_slots (by omega) (br_t ?_ (And.intro rfl R))))))))))
      rw [lz_sl6 h6]; decide
    · have hs : 0 < lz_sl kd j := Nat.pos_of_ne_zero (fun q => h6 (lz_sl0.mp q))
      refine br_f h6 (And.intro w (yg_isNode (by omega) (lz_br (fun p => absurd zz p) (fun _ => br_f q0 (br_t q4' (br_f (by decide) (br_f (by decide) (br_f (by decide) (yg_slots (by omega) (br_f ?_ ?_))))))))))
      · rw [show nI 3 - 3 = 0 from by decide]; exact nI_nle hs (by omega)
      · rw [show nI 3 - 3 = nI 0 from by decide]
        exact yg_next (by omega) (by omega) (And.intro rfl R)
  · refine br_f (by decide) (br_f (by decide) (br_f (by decide) (br_f (by decide) (br_t rfl (And.intro w ?_)))))
    by_cases h5 : kd j = 5
    · refine br_t h5 (And.intro w (yg_isNode (by omega) (lz_br (fun p => absurd zz p) (fun _ => br_f q0 (br_t q4' (br_f (by decide) (br_f (by decide) (br_f (by decide) (yg_slots (by omega) (br_f ?_ ?_))))))))))
      · rw [lz_sl5 h5]; decide
      · rw [show nI 4 - 3 = nI 1 from by decide]
        exact yg_next (by omega) (by omega) (And.intro rfl R)
    · refine br_f h5 (yg_isNode (by omega) (lz_br (fun p => absurd zz p) (fun _ => br_f q0 (br_t q4' (br_f (by decide) (br_f (by decide) (br_f (by decide) (yg_slots (by omega) (br_t ?_ (And.intro rfl R))))))))))
      by_cases h6 : kd j = 6
      · rw [lz_sl6 h6]; decide
      · rw [lz_sl1 h6 h5]; decide
theorem i_vc_exprPart {k : Nat} {u : SX} {v : SY} (I : i_Rel k u v) (hk : k + 5 ≤ 2564) (v1 : Int32) (v2 : Int32) : wpX_exprPart (fun r => wpY_exprPart (fun r' => r' = r ∧ i_Rel (k + 5) u v) v v1 v2) u v1 v2 := by
  refine zz_el (P := fun u v => wpX_exprPart (fun r => wpY_exprPart (fun r' => r' = r ∧ i_Rel (k + 5) u v) v v1 v2) u v1 v2) ?_ I
  intro NL VL EL TL n m L K st fe pe kd ax ay s0 s1 eo ea eb pr cm ch an av wt f0 f1 p0 p1 wk ov os oe me tp lt cs mk yn yv yw h
  have R := zz_in (k := k + 5) (fe := fe) (pr := pr) (cm := cm) (ch := ch) (f0 := f0) (f1 := f1) (ov := ov) (os := os) (tp := tp) (lt := lt) (mk := mk) (yn := yn) (yv := yv) (yw := yw) h
  have hM : m ≤ 12 := Nat.le_trans h.1.2.2.2.2.2.1 h.1.2.2.1
  unfold wpX_exprPart wpY_exprPart
  refine xg_isExpr (by omega) (lz_br (fun z => yg_isExpr (by omega) (lz_br (fun _ => And.intro rfl R) (fun y => absurd y z))) (fun z => ?_))
  have zz := z
  obtain ⟨j, hj, rfl⟩ := z
  have w : vp_in (nI j) 12 := vp_in_nI (by omega) (by decide)
  by_cases q0 : v2 < 0
  · exact br_t q0 (yg_isExpr (by omega) (lz_br (fun p => absurd zz p) (fun _ => br_t q0 (And.intro rfl R))))
  by_cases q4 : 2 < v2
  · have q4' : ¬ v2 ≤ 2 := Int32.not_le.mpr q4
    exact br_f q0 (br_t q4 (yg_isExpr (by omega) (lz_br (fun p => absurd zz p) (fun _ => br_f q0 (br_f q4' (And.intro rfl R))))))
  have q4' : v2 ≤ 2 := Int32.not_lt.mp q4
  refine br_f q0 (br_f q4 ?_)
  obtain ⟨p, hp, rfl⟩ := nI_of2 (n := 2) (by decide) q0 q4'
  have hp5 : p = 0 ∨ p = 1 ∨ p = 2 := by omega
  rcases hp5 with rfl | rfl | rfl
  · exact br_t rfl (And.intro w (yg_isExpr (by omega) (lz_br (fun p => absurd zz p) (fun _ => br_f q0 (br_t q4' (br_t rfl (And.intro w (And.intro rfl R))))))))
  · exact br_f (by decide) (br_t rfl (And.intro w (yg_isExpr (by omega) (lz_br (fun p => absurd zz p) (fun _ => br_f q0 (br_t q4' (br_f (by decide) (br_t rfl (And.intro w (And.intro rfl R))))))))))
  · exact br_f (by decide) (br_f (by decide) (br_t rfl (And.intro w (yg_isExpr (by omega) (lz_br (fun p => absurd zz p) (fun _ => br_f q0 (br_t q4' (br_f (by decide) (br_f (by decide) (And.intro w (And.intro rfl R)))))))))))
section
variable {NL VL EL TL n m L K : Nat} {st fe pe : Int32} {kd ax ay s0 s1 eo ea eb pr cm ch an av wt f0 f1 p0 p1 wk ov os oe me tp lt cs mk yn yv yw : Nat → Int32}
/-- the reference's solve from a related state -/
theorem zz_solve {post : SY → Prop} {e : Nat} (h : lz_RR NL VL EL TL n m L K st pe kd ax ay s0 s1 eo ea eb an av wt p0 p1 wk oe me cs) (hst : ¬ st = 0) (he : e < m) (hp : ∀ mk' yn' yv' yw', lz_YS n kd ax ay s0 s1 ea eb e yn' yv' yw' → post (nI NL, nI VL, nI EL, nI TL, st, nI n, nI m, nI L, nI K, kd, ax, ay, s0, s1, eo, ea, eb, pr, ov, wk, os, mk', yn', yv', yw')) : wpY_solve post (nI NL, nI VL, nI EL, nI TL, st, nI n, nI m, nI L, nI K, kd, ax, ay, s0, s1, eo, ea, eb, pr, ov, wk, os, mk, yn, yv, yw) (nI e) := by
  obtain ⟨b, _, hW, _, hs, _⟩ := h
  obtain ⟨h0, hA, hR, _⟩ := hs hst
  exact yg_solve h0 (by omega) (lz_TG_of (by omega) hW hA) hR (by omega) hp
theorem zz_bit {x : Int32} {e : Nat} {P : Prop} {post : Int32 → Prop} (he : e < 12) (hb : lz_Z (fun _ => x) e 0 ↔ P) (hp : post (lz_b (¬ P))) : post (((x.toUInt32 >>> ((nI e).toUInt32 &&& Int32.toUInt32 31)).toInt32) &&& 1) := by
  rw [lz_bitOf x (by omega), lz_b_bit (P := ¬ P)]
  · exact hp
  · rw [← hb]; unfold lz_Z; rw [lz_bf, Classical.not_not]
end
section
variable {nl vl el tl st nt et fe pe vt oo mo : Int32} {kd ax ay s0 s1 eo ea eb pr cm ch an av wt f0 f1 p0 p1 wk ov mv os ms oe me tp lt cs : Nat → Int32}
theorem xg_bitOf {x : Int32} {e : Nat} {P : Prop} {post : Int32 → Prop} (he : e < 12) (hb : lz_Z (fun _ => x) e 0 ↔ P) (hp : post (lz_b (¬ P))) : wpX_bitOf post (nl, vl, el, tl, st, nt, et, fe, pe, vt, oo, mo, kd, ax, ay, s0, s1, eo, ea, eb, pr, cm, ch, an, av, wt, f0, f1, p0, p1, wk, ov, mv, os, ms, oe, me, tp, lt, cs) x (nI e) := zz_bit (post := post) he hb hp
end
theorem i_vc_anticipated {k : Nat} {u : SX} {v : SY} (I : i_Rel k u v) (hk : k + 5 ≤ 2564) (v1 : Int32) (v2 : Int32) : wpX_anticipated (fun r => wpY_anticipated (fun r' v' => r' = r ∧ i_Rel (k + 5) u v') v v1 v2) u v1 v2 := by
  refine zz_el (P := fun u v => wpX_anticipated (fun r => wpY_anticipated (fun r' v' => r' = r ∧ i_Rel (k + 5) u v') v v1 v2) u v1 v2) ?_ I
  intro NL VL EL TL n m L K st fe pe kd ax ay s0 s1 eo ea eb pr cm ch an av wt f0 f1 p0 p1 wk ov os oe me tp lt cs mk yn yv yw h
  have R := zz_in (k := k + 5) (fe := fe) (pr := pr) (cm := cm) (ch := ch) (f0 := f0) (f1 := f1) (ov := ov) (os := os) (tp := tp) (lt := lt) (mk := mk) (yn := yn) (yv := yv) (yw := yw) h
  have hN : n ≤ 24 := Nat.le_trans h.1.2.2.2.2.1 h.1.1
  have hM : m ≤ 12 := Nat.le_trans h.1.2.2.2.2.2.1 h.1.2.2.1
  refine br_c (fun z => br_t z (And.intro rfl R)) (fun hst => xg_isNode (by omega) (lz_br (fun z => br_f hst (yg_isNode (by omega) (lz_br (fun _ => And.intro rfl R) (fun y => absurd y z)))) (fun z => xg_isExpr (by omega) (lz_br (fun y => br_f hst (yg_isNode (by omega) (lz_br (fun p => absurd z p) (fun _ => yg_isExpr (by omega) (lz_br (fun _ => And.intro rfl R) (fun p => absurd p y)))))) (fun y => ?_)))))
  have zz := z
  have yy := y
  obtain ⟨i, hi, rfl⟩ := z
  obtain ⟨e, he, rfl⟩ := y
  have w : vp_in (nI i) 24 := vp_in_nI (by omega) (by decide)
  have e1 : (nI i).toNatClampNeg = i := nI_clamp (by omega)
  refine And.intro w ?_
  rw [e1]
  refine xg_bitOf (by omega) ((h.2.2.2.2.1 hst).2.2.2.1 e i he hi) ?_
  refine br_f hst (yg_isNode (by omega) (lz_br (fun p => absurd zz p) (fun _ => yg_isExpr (by omega) (lz_br (fun p => absurd yy p) (fun _ => zz_solve h hst he (fun mk' yn' yv' yw' hS => And.intro w ?_))))))
  rw [e1, hS.1 i hi]
  exact lz_br (fun p => And.intro (lz_b_f p).symm (zz_in h)) (fun p => And.intro (lz_b_t p).symm (zz_in h))
theorem i_vc_available {k : Nat} {u : SX} {v : SY} (I : i_Rel k u v) (hk : k + 5 ≤ 2564) (v1 : Int32) (v2 : Int32) : wpX_available (fun r => wpY_available (fun r' v' => r' = r ∧ i_Rel (k + 5) u v') v v1 v2) u v1 v2 := by
  refine zz_el (P := fun u v => wpX_available (fun r => wpY_available (fun r' v' => r' = r ∧ i_Rel (k + 5) u v') v v1 v2) u v1 v2) ?_ I
  intro NL VL EL TL n m L K st fe pe kd ax ay s0 s1 eo ea eb pr cm ch an av wt f0 f1 p0 p1 wk ov os oe me tp lt cs mk yn yv yw h
  have R := zz_in (k := k + 5) (fe := fe) (pr := pr) (cm := cm) (ch := ch) (f0 := f0) (f1 := f1) (ov := ov) (os := os) (tp := tp) (lt := lt) (mk := mk) (yn := yn) (yv := yv) (yw := yw) h
  have hN : n ≤ 24 := Nat.le_trans h.1.2.2.2.2.1 h.1.1
  have hM : m ≤ 12 := Nat.le_trans h.1.2.2.2.2.2.1 h.1.2.2.1
  refine br_c (fun z => br_t z (And.intro rfl R)) (fun hst => xg_isNode (by omega) (lz_br (fun z => br_f hst (yg_isNode (by omega) (lz_br (fun _ => And.intro rfl R) (fun y => absurd y z)))) (fun z => xg_isExpr (by omega) (lz_br (fun y => br_f hst (yg_isNode (by omega) (lz_br (fun p => absurd z p) (fun _ => yg_isExpr (by omega) (lz_br (fun _ => And.intro rfl R) (fun p => absurd p y)))))) (fun y => ?_)))))
  have zz := z
  have yy := y
  obtain ⟨i, hi, rfl⟩ := z
  obtain ⟨e, he, rfl⟩ := y
  have w : vp_in (nI i) 24 := vp_in_nI (by omega) (by decide)
  have e1 : (nI i).toNatClampNeg = i := nI_clamp (by omega)
  refine And.intro w ?_
  rw [e1]
  refine xg_bitOf (by omega) ((h.2.2.2.2.1 hst).2.2.2.2.1 e i he hi) ?_
  refine br_f hst (yg_isNode (by omega) (lz_br (fun p => absurd zz p) (fun _ => yg_isExpr (by omega) (lz_br (fun p => absurd yy p) (fun _ => zz_solve h hst he (fun mk' yn' yv' yw' hS => And.intro w ?_))))))
  rw [e1, hS.2.1 i hi]
  exact lz_br (fun p => And.intro (lz_b_f p).symm (zz_in h)) (fun p => And.intro (lz_b_t p).symm (zz_in h))
theorem i_vc_keeps {k : Nat} {u : SX} {v : SY} (I : i_Rel k u v) (hk : k + 5 ≤ 2564) (v1 : Int32) : wpX_keeps (fun r => wpY_keeps (fun r' v' => r' = r ∧ i_Rel (k + 5) u v') v v1) u v1 := by
  refine zz_el (P := fun u v => wpX_keeps (fun r => wpY_keeps (fun r' v' => r' = r ∧ i_Rel (k + 5) u v') v v1) u v1) ?_ I
  intro NL VL EL TL n m L K st fe pe kd ax ay s0 s1 eo ea eb pr cm ch an av wt f0 f1 p0 p1 wk ov os oe me tp lt cs mk yn yv yw h
  have R := zz_in (k := k + 5) (fe := fe) (pr := pr) (cm := cm) (ch := ch) (f0 := f0) (f1 := f1) (ov := ov) (os := os) (tp := tp) (lt := lt) (mk := mk) (yn := yn) (yv := yv) (yw := yw) h
  have hN : n ≤ 24 := Nat.le_trans h.1.2.2.2.2.1 h.1.1
  have hM : m ≤ 12 := Nat.le_trans h.1.2.2.2.2.2.1 h.1.2.2.1
  refine br_c (fun z => br_t z (And.intro rfl R)) (fun hst => xg_isNode (by omega) (lz_br (fun z => br_f hst (yg_isNode (by omega) (lz_br (fun _ => And.intro rfl R) (fun y => absurd y z)))) (fun z => ?_)))
  have zz := z
  obtain ⟨i, hi, rfl⟩ := z
  have w : vp_in (nI i) 24 := vp_in_nI (by omega) (by decide)
  have e1 : (nI i).toNatClampNeg = i := nI_clamp (by omega)
  refine And.intro w ?_
  rw [e1]
  by_cases h3 : kd i = 3
  · obtain ⟨e, he, ee⟩ := h.2.1.2.2.1 i hi h3
    refine br_t h3 (And.intro w (And.intro w ?_))
    rw [ee]
    refine xg_bitOf (by omega) ((h.2.2.2.2.1 hst).2.2.2.2.2.1 e i he hi) ?_
    refine br_f hst (yg_isNode (by omega) (lz_br (fun p => absurd zz p) (fun _ => And.intro w ?_)))
    rw [e1]
    refine br_t h3 (And.intro w ?_)
    rw [ee]
    refine zz_solve h hst he (fun mk' yn' yv' yw' hS => And.intro w ?_)
    rw [hS.2.2 i hi]
    exact lz_br (fun p => And.intro (lz_b_f p).symm (zz_in h)) (fun p => And.intro (lz_b_t p).symm (zz_in h))
  · refine br_f h3 (br_f hst (yg_isNode (by omega) (lz_br (fun p => absurd zz p) (fun _ => And.intro w ?_))))
    rw [e1]
    exact br_f h3 (And.intro rfl R)
end
section
/-! placed, evals, carried, seal, run -/
section
variable {nl vl el tl st nt et fe pe vt oo mo : Int32} {kd ax ay s0 s1 eo ea eb pr cm ch an av wt f0 f1 p0 p1 wk ov mv os ms oe me tp lt cs : Nat → Int32}
theorem xg_bitOf' {x : Int32} {e : Nat} {P : Prop} {post : Int32 → Prop} (he : e < 12) (hb : bt x e = true ↔ P) (hp : post (lz_b P)) : wpX_bitOf post (nl, vl, el, tl, st, nt, et, fe, pe, vt, oo, mo, kd, ax, ay, s0, s1, eo, ea, eb, pr, cm, ch, an, av, wt, f0, f1, p0, p1, wk, ov, mv, os, ms, oe, me, tp, lt, cs) x (nI e) := by
  unfold wpX_bitOf
  show post _
  rw [lz_bitOf x (by omega), lz_b_bit hb]
  exact hp
end
section
variable {nl vl el tl st nt et vt oo : Int32} {kd ax ay s0 s1 eo ea eb pr ov wk os mk yn yv yw : Nat → Int32}
variable {post : Int32 → SY → Prop} {n i t e s : Nat}
theorem yp_81 (hn : n ≤ 24) (hT : lz_TG n kd s0 s1) (he : e < 12) (hi : i < n) (ht : t < n) (hS : lz_YS n kd ax ay s0 s1 ea eb e yn yv yw) (h : post (lz_b (lz_xP n kd ax ay s0 s1 ea eb e i t)) (nl, vl, el, tl, st, nI n, et, vt, oo, kd, ax, ay, s0, s1, eo, ea, eb, pr, ov, wk, os, mk, yn, yv, yw)) : wY_placed_81 post (nI i) (nI e) (nI t) nl vl el tl st (nI n) et vt oo kd ax ay s0 s1 eo ea eb pr ov wk os mk yn yv yw := by
  unfold wY_placed_81
  refine yg_isPlaced hn hT he hi ht hS (lz_br (fun z => ?_) (fun z => ?_))
  · rw [lz_b_f z] at h; exact h
  · rw [lz_b_t z] at h; exact h
theorem yp_81e (h0 : 0 < n) (hn : n ≤ 24) (hS : lz_YS n kd ax ay s0 s1 ea eb e yn yv yw) (h : post (lz_b (lz_xP0 n kd ax ay s0 s1 ea eb e)) (nl, vl, el, tl, st, nI n, et, vt, oo, kd, ax, ay, s0, s1, eo, ea, eb, pr, ov, wk, os, mk, yn, yv, yw)) : wY_placed_81 post (-1) (nI e) 0 nl vl el tl st (nI n) et vt oo kd ax ay s0 s1 eo ea eb pr ov wk os mk yn yv yw := by
  unfold wY_placed_81
  refine yg_isPlaced0 hn h0 hS rfl (lz_br (fun z => ?_) (fun z => ?_))
  · rw [lz_b_f z] at h; exact h
  · rw [lz_b_t z] at h; exact h
theorem yp_30 {x1 x2 x3 : Int32} (hn : n ≤ 24) (h1 : ¬ lz_in x1 n → post (-1) (nl, vl, el, tl, st, nI n, et, vt, oo, kd, ax, ay, s0, s1, eo, ea, eb, pr, ov, wk, os, mk, yn, yv, yw)) (h2 : ∀ i, i < n → x1 = nI i → ¬ lz_in x2 (lz_sl kd i) → post (-1) (nl, vl, el, tl, st, nI n, et, vt, oo, kd, ax, ay, s0, s1, eo, ea, eb, pr, ov, wk, os, mk, yn, yv, yw))
    (h : ∀ i s, i < n → x1 = nI i → s < lz_sl kd i → x2 = nI s → wY_placed_61 post (nI i) (nI s) x3 0 nl vl el tl st (nI n) et vt oo kd ax ay s0 s1 eo ea eb pr ov wk os mk yn yv yw) : wY_placed_30 post x1 x2 x3 nl vl el tl st (nI n) et vt oo kd ax ay s0 s1 eo ea eb pr ov wk os mk yn yv yw := by
  unfold wY_placed_30 wY_placed_31
  refine br_t rfl (yg_isNode (by omega) (lz_br h1 (fun z => ?_)))
  obtain ⟨i, hi, rfl⟩ := z
  have hs2 := lz_sl2 kd i
  by_cases q : x2 < 0
  · exact br_t q (h2 i hi rfl (lz_not_in0 q (by omega)))
  obtain ⟨s, hs, rfl⟩ := nI_of q
  refine br_f q (yg_slots (by omega) ?_)
  by_cases p : s < lz_sl kd i
  · exact br_t (nI_lt p (by omega)) (h i s hi rfl p rfl)
  · refine br_f (nI_nlt (by omega) (by omega)) (h2 i hi rfl ?_)
    rintro ⟨s', a, b⟩
    have := (nI_eq (by omega) (by omega)).mp b
    omega
end
theorem lz_m1_in {n : Nat} (hn : n < 2 ^ 31) : ¬ lz_in (-1) n := lz_not_in0 (by decide) hn
theorem i_vc_placed {k : Nat} {u : SX} {v : SY} (I : i_Rel k u v) (hk : k + 5 ≤ 2564) (v1 : Int32) (v2 : Int32) (v3 : Int32) : wpX_placed (fun r => wpY_placed (fun r' v' => r' = r ∧ i_Rel (k + 5) u v') v v1 v2 v3) u v1 v2 v3 := by
  refine zz_el (P := fun u v => wpX_placed (fun r => wpY_placed (fun r' v' => r' = r ∧ i_Rel (k + 5) u v') v v1 v2 v3) u v1 v2 v3) ?_ I
  intro NL VL EL TL n m L K st fe pe kd ax ay s0 s1 eo ea eb pr cm ch an av wt f0 f1 p0 p1 wk ov os oe me tp lt cs mk yn yv yw h
  have R := zz_in (k := k + 5) (fe := fe) (pr := pr) (cm := cm) (ch := ch) (f0 := f0) (f1 := f1) (ov := ov) (os := os) (tp := tp) (lt := lt) (mk := mk) (yn := yn) (yv := yv) (yw := yw) h
  have hN : n ≤ 24 := Nat.le_trans h.1.2.2.2.2.1 h.1.1
  have hM : m ≤ 12 := Nat.le_trans h.1.2.2.2.2.2.1 h.1.2.2.1
  refine br_c (fun z => br_t z (And.intro rfl R)) (fun hst => xg_isExpr (by omega) (lz_br (fun z => br_f hst (yg_isExpr (by omega) (lz_br (fun _ => And.intro rfl R) (fun y => absurd y z)))) (fun z => ?_)))
  have zz := z
  obtain ⟨e, he, rfl⟩ := z
  obtain ⟨h0, hA, hR, hAN⟩ := h.2.2.2.2.1 hst
  have hT := lz_TG_of hN h.2.2.1 hA
  by_cases q1 : v1 = -1
  · subst q1
    refine br_t rfl ?_
    by_cases q2 : v2 = 0
    · refine br_t q2 (xg_bitOf' (by omega) (hAN.2.2.2.1 e he) ?_)
      refine br_f hst (yg_isExpr (by omega) (lz_br (fun p => absurd zz p) (fun _ => br_t rfl (br_t q2 ?_))))
      unfold wY_placed_31
      refine br_f (by decide) ?_
      unfold wY_placed_61
      exact zz_solve h hst he (fun mk' yn' yv' yw' hS => br_f (by decide) (yp_81e h0 hN hS (And.intro rfl (zz_in h))))
    · refine br_f q2 (br_f hst (yg_isExpr (by omega) (lz_br (fun p => absurd zz p) (fun _ => br_t rfl (br_f q2 (yp_30 hN (fun _ => And.intro rfl R) (fun _ _ _ _ => And.intro rfl R) (fun i s hi hx _ _ => absurd ⟨i, hi, hx⟩ (lz_m1_in (by omega)))))))))
  · refine br_f q1 (xg_isNode (by omega) (lz_br (fun y => ?_) (fun y => ?_)))
    · exact br_f hst (yg_isExpr (by omega) (lz_br (fun p => absurd zz p) (fun _ => br_f q1 (yp_30 hN (fun _ => And.intro rfl R) (fun _ _ _ _ => And.intro rfl R) (fun i s hi hx _ _ => absurd ⟨i, hi, hx⟩ y)))))
    · have yy := y
      obtain ⟨i, hi, rfl⟩ := y
      have w : vp_in (nI i) 24 := vp_in_nI (by omega) (by decide)
      have e1 : (nI i).toNatClampNeg = i := nI_clamp (by omega)
      have hs2 := lz_sl2 kd i
      have same : ∀ i', i' < n → nI i = nI i' → i' = i := fun i' a b => ((nI_eq (by omega) (by omega)).mp b).symm
      refine xg_hasSlot (by omega) (lz_br (fun y => ?_) (fun y => ?_))
      · exact br_f hst (yg_isExpr (by omega) (lz_br (fun p => absurd zz p) (fun _ => br_f q1 (yp_30 hN (fun _ => And.intro rfl R) (fun _ _ _ _ => And.intro rfl R) (fun i' s hi' hx hs hx2 => absurd ⟨s, by rw [← same i' hi' hx]; exact hs, hx2⟩ y)))))
      · obtain ⟨s, hs, rfl⟩ := y
        have key : wpY_placed (fun r' v' => r' = lz_b (lz_xP n kd ax ay s0 s1 ea eb e i (lz_nx s0 s1 i s)) ∧ i_Rel (k + 5) (nI NL, nI VL, nI EL, nI TL, st, nI n, nI m, fe, pe, nI L, nI K, nI K, kd, ax, ay, s0, s1, eo, ea, eb, pr, cm, ch, an, av, wt, f0, f1, p0, p1, wk, ov, ov, os, os, oe, me, tp, lt, cs) v') (nI NL, nI VL, nI EL, nI TL, st, nI n, nI m, nI L, nI K, kd, ax, ay, s0, s1, eo, ea, eb, pr, ov, wk, os, mk, yn, yv, yw) (nI i) (nI s) (nI e) := by
          refine br_f hst (yg_isExpr (by omega) (lz_br (fun p => absurd zz p) (fun _ => br_f q1 (yp_30 hN (fun p => absurd yy p) (fun i' hi' hx p => absurd ⟨s, by rw [same i' hi' hx]; exact hs, rfl⟩ p) (fun i' s' hi' hx hs' hx2 => ?_)))))
          have a := same i' hi' hx
          subst a
          have b : s' = s := ((nI_eq (by omega) (by omega)).mp hx2).symm
          subst b
          unfold wY_placed_61
          refine zz_solve h hst he (fun mk' yn' yv' yw' hS => br_t rfl (yg_next (by omega) (by omega) ?_))
          rw [(hT i' s' hi' hs').1]
          exact yp_81 hN hT (by omega) hi' (hT i' s' hi' hs').2 hS (And.intro rfl (zz_in h))
        rw [e1]
        by_cases c : s = 0
        · subst c
          refine br_t rfl (And.intro w ?_)
          unfold wX_placed_78
          exact xg_bitOf' (by omega) ((hAN.2.2.2.2 i e hi he).1 hs) key
        · have c1 : s = 1 := by omega
          subst c1
          refine br_f (by decide) (And.intro w ?_)
          unfold wX_placed_78
          exact xg_bitOf' (by omega) ((hAN.2.2.2.2 i e hi he).2 hs) key
theorem i_vc_evals {k : Nat} {u : SX} {v : SY} (I : i_Rel k u v) (hk : k + 5 ≤ 2564) (v1 : Int32) (v2 : Int32) : wpX_evals (fun r => wpY_evals (fun r' v' => r' = r ∧ i_Rel (k + 5) u v') v v1 v2) u v1 v2 := by
  refine zz_el (P := fun u v => wpX_evals (fun r => wpY_evals (fun r' v' => r' = r ∧ i_Rel (k + 5) u v') v v1 v2) u v1 v2) ?_ I
  intro NL VL EL TL n m L K st fe pe kd ax ay s0 s1 eo ea eb pr cm ch an av wt f0 f1 p0 p1 wk ov os oe me tp lt cs mk yn yv yw h
  have R := zz_in (k := k + 5) (fe := fe) (pr := pr) (cm := cm) (ch := ch) (f0 := f0) (f1 := f1) (ov := ov) (os := os) (tp := tp) (lt := lt) (mk := mk) (yn := yn) (yv := yv) (yw := yw) h
  have hN : n ≤ 24 := Nat.le_trans h.1.2.2.2.2.1 h.1.1
  have hM : m ≤ 12 := Nat.le_trans h.1.2.2.2.2.2.1 h.1.2.2.1
  have hL := h.1.2.2.2.2.2.2.1
  unfold wpX_evals wpY_evals
  refine xg_hasRun (lz_br (fun z => yg_ran (lz_br (fun _ => And.intro rfl R) (fun y => absurd y z))) (fun hr => xg_isRunChoice (lz_br (fun y => yg_ran (lz_br (fun q => absurd hr q) (fun _ => br_f (fun q => y (Or.inl q)) (br_f (fun q => y (Or.inr q)) (And.intro rfl R))))) (fun hc => xg_isExpr (by omega) (lz_br (fun y => ?_) (fun y => ?_))))))
  · refine yg_ran (lz_br (fun q => absurd hr q) (fun _ => ?_))
    have a : wY_evals_16 (fun r' v' => r' = -1 ∧ i_Rel (k + 5) (nI NL, nI VL, nI EL, nI TL, st, nI n, nI m, fe, pe, nI L, nI K, nI K, kd, ax, ay, s0, s1, eo, ea, eb, pr, cm, ch, an, av, wt, f0, f1, p0, p1, wk, ov, ov, os, os, oe, me, tp, lt, cs) v') v1 v2 (nI NL) (nI VL) (nI EL) (nI TL) st (nI n) (nI m) (nI L) (nI K) kd ax ay s0 s1 eo ea eb pr ov wk os mk yn yv yw := by
      unfold wY_evals_16
      exact yg_isExpr (by omega) (lz_br (fun _ => And.intro rfl R) (fun p => absurd p y))
    exact br_c (fun _ => a) (fun q => br_t (hc.elim (fun p => absurd p q) id) a)
  · have yy := y
    obtain ⟨e, he, rfl⟩ := y
    have hst : ¬ st = 0 := fun q => by rw [q] at hr; exact absurd hr (by decide)
    obtain ⟨h0, hA, hR, hAN⟩ := h.2.2.2.2.1 hst
    have hT := lz_TG_of hN h.2.2.1 hA
    obtain ⟨w, hw, hw0, hcnt⟩ := h.2.2.2.2.2 hr
    obtain ⟨c1, c2, c3⟩ := hcnt e he
    have we : vp_in (nI e) 12 := vp_in_nI (by omega) (by decide)
    have e1 : (nI e).toNatClampNeg = e := nI_clamp (by omega)
    rw [e1]
    by_cases q : v1 = 0
    · subst q
      refine br_t rfl (And.intro we (yg_ran (lz_br (fun q => absurd hr q) (fun _ => br_t rfl ?_))))
      unfold wY_evals_16
      refine yg_isExpr (by omega) (lz_br (fun p => absurd yy p) (fun _ => br_f (by decide) ?_))
      unfold wY_evals_41
      exact zz_solve h hst he (fun mk' yn' yv' yw' hS => Exists.intro (L + 1) (yq_51a hN hL hw (And.intro c1.symm (zz_in h)) L 0 (L + 1) (by omega) (by omega)))
    · have q1 : v1 = 1 := hc.elim (fun p => absurd p q) id
      subst q1
      refine br_f q ?_
      by_cases q2 : st = 2
      · refine br_t q2 (And.intro we (yg_ran (lz_br (fun q => absurd hr q) (fun _ => br_f q (br_t rfl ?_)))))
        unfold wY_evals_16
        refine yg_isExpr (by omega) (lz_br (fun p => absurd yy p) (fun _ => br_t rfl (br_f (by rw [q2]; decide) ?_)))
        unfold wY_evals_41
        exact zz_solve h hst he (fun mk' yn' yv' yw' hS => Exists.intro (L + 1) (yq_51b hN h0 hT (by omega) hL hw hw0 hS (And.intro c2.symm (zz_in h)) L 0 (L + 1) (by omega) (by omega)))
      · have q3 : st = 3 := hr.elim (fun p => absurd p q2) id
        refine br_f q2 (yg_ran (lz_br (fun q => absurd hr q) (fun _ => br_f q (br_t rfl ?_))))
        unfold wY_evals_16
        exact yg_isExpr (by omega) (lz_br (fun p => absurd yy p) (fun _ => br_t rfl (br_t q3 (And.intro rfl R))))
theorem i_vc_carried {k : Nat} {u : SX} {v : SY} (I : i_Rel k u v) (hk : k + 5 ≤ 2564) (v1 : Int32) : wpX_carried (fun r => wpY_carried (fun r' v' => r' = r ∧ i_Rel (k + 5) u v') v v1) u v1 := by
  refine zz_el (P := fun u v => wpX_carried (fun r => wpY_carried (fun r' v' => r' = r ∧ i_Rel (k + 5) u v') v v1) u v1) ?_ I
  intro NL VL EL TL n m L K st fe pe kd ax ay s0 s1 eo ea eb pr cm ch an av wt f0 f1 p0 p1 wk ov os oe me tp lt cs mk yn yv yw h
  have R := zz_in (k := k + 5) (fe := fe) (pr := pr) (cm := cm) (ch := ch) (f0 := f0) (f1 := f1) (ov := ov) (os := os) (tp := tp) (lt := lt) (mk := mk) (yn := yn) (yv := yv) (yw := yw) h
  have hN : n ≤ 24 := Nat.le_trans h.1.2.2.2.2.1 h.1.1
  have hM : m ≤ 12 := Nat.le_trans h.1.2.2.2.2.2.1 h.1.2.2.1
  have hL := h.1.2.2.2.2.2.2.1
  refine br_c (fun q2 => xg_isExpr (by omega) (lz_br (fun z => br_t q2 (yg_isExpr (by omega) (lz_br (fun _ => And.intro rfl R) (fun y => absurd y z)))) (fun z => ?_))) (fun q2 => br_f q2 (And.intro rfl R))
  have zz := z
  obtain ⟨e, he, rfl⟩ := z
  have hst : ¬ st = 0 := fun q => by rw [q] at q2; exact absurd q2 (by decide)
  obtain ⟨h0, hA, hR, hAN⟩ := h.2.2.2.2.1 hst
  have hT := lz_TG_of hN h.2.2.1 hA
  obtain ⟨w, hw, hw0, hcnt⟩ := h.2.2.2.2.2 (Or.inl q2)
  obtain ⟨c1, c2, c3⟩ := hcnt e he
  have e1 : (nI e).toNatClampNeg = e := nI_clamp (by omega)
  refine And.intro (vp_in_nI (by omega) (by decide)) (br_t q2 (yg_isExpr (by omega) (lz_br (fun p => absurd zz p) (fun _ => ?_))))
  rw [e1]
  exact zz_solve h hst he (fun mk' yn' yv' yw' hS => Exists.intro (L + 1) (yq_27 hN h0 hT (by omega) hL hw hw0 hS (And.intro c3.symm (zz_in h)) L 0 (L + 1) (by omega) (by omega)))
section
variable {nl vl el tl st nt et fe pe vt oo mo : Int32} {kd ax ay s0 s1 eo ea eb pr cm ch an av wt f0 f1 p0 p1 wk ov mv os ms oe me tp lt cs : Nat → Int32}
theorem xg_seal {post : Int32 → SX → Prop} {n m : Nat} (h0n : 0 < n) (hn : n ≤ 24) (hm : m ≤ 12) (hW : lz_WT n s0 s1) (hY : lz_WY n m kd ay)
    (k8 : ¬ lz_AT n kd s0 s1 → post (-8) (nl, vl, el, tl, 0, nI n, nI m, fe, pe, vt, oo, mo, kd, ax, ay, s0, s1, eo, ea, eb, pr, cm, ch, an, av, wt, f0, f1, p0, p1, wk, ov, mv, os, ms, oe, me, tp, lt, cs))
    (k10 : lz_AT n kd s0 s1 → ¬ lz_AR n kd s0 s1 → post (-10) (nl, vl, el, tl, 0, nI n, nI m, fe, pe, vt, oo, mo, kd, ax, ay, s0, s1, eo, ea, eb, pr, cm, ch, an, av, wt, f0, f1, p0, p1, wk, ov, mv, os, ms, oe, me, tp, lt, cs))
    (k11 : lz_AT n kd s0 s1 → lz_AR n kd s0 s1 → ¬ lz_AE n kd s0 s1 → post (-11) (nl, vl, el, tl, 0, nI n, nI m, fe, pe, vt, oo, mo, kd, ax, ay, s0, s1, eo, ea, eb, pr, cm, ch, an, av, wt, f0, f1, p0, p1, wk, ov, mv, os, ms, oe, me, tp, lt, cs))
    (k0 : lz_AT n kd s0 s1 → lz_AR n kd s0 s1 → lz_AE n kd s0 s1 → ∀ fe' pe' cm' ch' an' av' wt' f0' f1' p0' p1', lz_AN n m kd ax ay s0 s1 ea eb pe' an' av' wt' p0' p1' → post 0 (nl, vl, el, tl, 1, nI n, nI m, fe', pe', vt, oo, mo, kd, ax, ay, s0, s1, eo, ea, eb, pr, cm', ch', an', av', wt', f0', f1', p0', p1', wk, ov, mv, os, ms, oe, me, tp, lt, cs)) : wpX_seal post (nl, vl, el, tl, 0, nI n, nI m, fe, pe, vt, oo, mo, kd, ax, ay, s0, s1, eo, ea, eb, pr, cm, ch, an, av, wt, f0, f1, p0, p1, wk, ov, mv, os, ms, oe, me, tp, lt, cs) := by
  refine br_t rfl (br_f (nI_ne0 h0n (by omega)) (xg_allTargetsExist hn (fun hA => br_f (by decide) ?_) (fun hA => br_t rfl (k8 hA))))
  have hT := lz_TG_of hn hW hA
  refine xg_allReached h0n hn hT (fun hR => br_f (by decide) (xg_allReachExit h0n hn hT (fun hE => br_f (by decide) ?_) (fun hE => br_t rfl (k11 hA hR hE)))) (fun hR => br_t rfl (k10 hA hR))
  exact xg_analyse h0n hn hm hT hY (fun fe' pe' cm' ch' an' av' wt' f0' f1' p0' p1' hAN => k0 hA hR hE fe' pe' cm' ch' an' av' wt' f0' f1' p0' p1' hAN)
end
theorem i_vc_seal {k : Nat} {u : SX} {v : SY} (I : i_Rel k u v) (hk : k + 5 ≤ 2564) : wpX_seal (fun r u' => wpY_seal (fun r' v' => r' = r ∧ i_Rel (k + 5) u' v') v) u := by
  refine zz_el (P := fun u v => wpX_seal (fun r u' => wpY_seal (fun r' v' => r' = r ∧ i_Rel (k + 5) u' v') v) u) ?_ I
  intro NL VL EL TL n m L K st fe pe kd ax ay s0 s1 eo ea eb pr cm ch an av wt f0 f1 p0 p1 wk ov os oe me tp lt cs mk yn yv yw h
  have R := fun mk' => zz_in (k := k + 5) (fe := fe) (pr := pr) (cm := cm) (ch := ch) (f0 := f0) (f1 := f1) (ov := ov) (os := os) (tp := tp) (lt := lt) (mk := mk') (yn := yn) (yv := yv) (yw := yw) h
  have hN : n ≤ 24 := Nat.le_trans h.1.2.2.2.2.1 h.1.1
  have hM : m ≤ 12 := Nat.le_trans h.1.2.2.2.2.2.1 h.1.2.2.1
  by_cases hst : st = 0
  · subst hst
    by_cases hz : n = 0
    · subst hz
      exact br_t rfl (br_t rfl (br_t rfl (br_t rfl (And.intro rfl (R mk)))))
    · have h0 : 0 < n := Nat.pos_of_ne_zero hz
      have hC : ∀ i, i < n → ¬ lz_C kd ay (-1) i := by
        intro i hi z
        obtain ⟨e, he, ee⟩ := h.2.1.2.2.1 i hi z.1
        exact lz_m1_in (n := m) (by omega) ⟨e, he, z.2.symm.trans ee⟩
      refine xg_seal h0 hN hM h.2.2.1 h.2.1.2.2.1 (fun a => ?_) (fun a b => ?_) (fun a b c => ?_) (fun a b c fe' pe' cm' ch' an' av' wt' f0' f1' p0' p1' hAN => ?_)
      · exact yg_seal h0 hN h.2.2.1 hC (fun _ => And.intro rfl (R mk)) (fun p => absurd p a) (fun p => absurd p a) (fun p => absurd p a)
      · exact yg_seal h0 hN h.2.2.1 hC (fun p => absurd a p) (fun _ _ mk' => And.intro rfl (R mk')) (fun _ p => absurd p b) (fun _ p => absurd p b)
      · exact yg_seal h0 hN h.2.2.1 hC (fun p => absurd a p) (fun _ p => absurd b p) (fun _ _ _ mk' => And.intro rfl (R mk')) (fun _ _ p => absurd p c)
      · refine yg_seal h0 hN h.2.2.1 hC (fun p => absurd a p) (fun _ p => absurd b p) (fun _ _ p => absurd c p) (fun _ _ _ mk' => And.intro rfl (zz_in ?_))
        exact ⟨h.1, h.2.1, h.2.2.1, h.2.2.2.1, fun _ => ⟨h0, a, b, hAN⟩, fun z => absurd z (by decide)⟩
  · exact br_f hst (br_f hst (And.intro rfl (R mk)))
theorem i_vc_run {k : Nat} {u : SX} {v : SY} (I : i_Rel k u v) (hk : k + 5 ≤ 2564) (v1 : Int32) : wpX_run (fun r u' => wpY_run (fun r' v' => r' = r ∧ i_Rel (k + 5) u' v') v v1) u v1 := by
  refine zz_el (P := fun u v => wpX_run (fun r u' => wpY_run (fun r' v' => r' = r ∧ i_Rel (k + 5) u' v') v v1) u v1) ?_ I
  intro NL VL EL TL n m L K st fe pe kd ax ay s0 s1 eo ea eb pr cm ch an av wt f0 f1 p0 p1 wk ov os oe me tp lt cs mk yn yv yw h
  have R := zz_in (k := k + 5) (fe := fe) (pr := pr) (cm := cm) (ch := ch) (f0 := f0) (f1 := f1) (ov := ov) (os := os) (tp := tp) (lt := lt) (mk := mk) (yn := yn) (yv := yv) (yw := yw) h
  have hN : n ≤ 24 := Nat.le_trans h.1.2.2.2.2.1 h.1.1
  have hM : m ≤ 12 := Nat.le_trans h.1.2.2.2.2.2.1 h.1.2.2.1
  have hTL := h.1.2.2.2.1
  by_cases hst : st = 0
  · exact br_t hst (br_t hst (And.intro rfl R))
  by_cases q1 : v1 < 1
  · exact br_f hst (br_t q1 (br_f hst (br_t q1 (And.intro rfl R))))
  by_cases q2 : v1 ≤ nI TL
  · have q0 : ¬ v1 < 0 := by
      intro q
      apply q1
      rw [Int32.lt_iff_toInt_lt] at q ⊢
      rw [show (0 : Int32).toInt = 0 from by decide] at q
      rw [show (1 : Int32).toInt = 1 from by decide]
      omega
    obtain ⟨B, hB, rfl⟩ := nI_of q0
    have hB1 : 1 ≤ B := by
      refine Nat.pos_of_ne_zero (fun q => q1 ?_)
      rw [q]; decide
    have hBT : B ≤ TL := (nI_leI (by omega) (by omega)).mp q2
    obtain ⟨h0, hA, hR, hAN⟩ := h.2.2.2.2.1 hst
    have hT := lz_TG_of hN h.2.2.1 hA
    obtain ⟨L', s, hS⟩ := lz_Stop_ex (kd := kd) (ax := ax) (ay := ay) (s0 := s0) (s1 := s1) (eo := eo) (ea := ea) (eb := eb) (vv := lz_rs pr ov 8) (ww := os) B hB1
    have hS' := hS
    obtain ⟨hL1, hLB, hne, hend⟩ := hS'
    have hlt : ∀ j, j < L' → (lz_tr kd ax ay s0 s1 eo ea eb (lz_rs pr ov 8) os j).1 < n := fun j hj => lz_tr_lt h0 hT j (fun j' h' => hne j' (by omega))
    have hon := lz_tr_on (kd := kd) (ax := ax) (ay := ay) (s0 := s0) (s1 := s1) (eo := eo) (ea := ea) (eb := eb) (vv := lz_rs pr ov 8) (ww := os) L'
    refine xg_run hst h0 hN hM hT h.2.1 hAN hTL hB1 hBT hS rfl rfl (fun oe' me' tp' lt' cs' ho hU => ?_)
    refine yg_run hst h0 hN hM hT h.2.1 hTL hB1 hBT hS rfl rfl (And.intro rfl (zz_in ?_))
    refine ⟨⟨h.1.1, h.1.2.1, h.1.2.2.1, h.1.2.2.2.1, h.1.2.2.2.2.1, h.1.2.2.2.2.2.1, by omega, by omega⟩, h.2.1, h.2.2.1, h.2.2.2.1, fun _ => ⟨h0, hA, hR, hAN⟩, fun _ => ⟨fun t => (lz_tr kd ax ay s0 s1 eo ea eb (lz_rs pr ov 8) os t).1, fun j hj => ⟨lz_wk_lt hj, hlt j hj⟩, rfl, fun e he => ⟨ho e he, (hU e he).1, (hU e he).2.2⟩⟩⟩
  · exact br_f hst (br_f q1 (br_f q2 (br_f hst (br_f q1 (br_f q2 (And.intro rfl R))))))
end
section
/-! add, addEval, link -/
section
variable {NL VL EL TL n m L K : Nat} {st fe pe : Int32} {kd ax ay s0 s1 eo ea eb pr cm ch an av wt f0 f1 p0 p1 wk ov os oe me tp lt cs mk yn yv yw : Nat → Int32}
/-- a node is appended -/
theorem zz_app {q x y : Int32} (h : lz_RR NL VL EL TL n m L K st pe kd ax ay s0 s1 eo ea eb an av wt p0 p1 wk oe me cs) (h0 : st = 0) (hn : n < NL) (hx : ∃ j, j < 8 ∧ x = nI j) (hy2 : q = 2 → ∃ j, j < 8 ∧ y = nI j) (hy3 : q = 3 → ∃ e, e < m ∧ y = nI e) :
    lz_RR NL VL EL TL (n + 1) m L K st pe (upd kd n q) (upd ax n x) (upd ay n y) (upd s0 n (nI (n + 1))) (upd s1 n (nI (n + 1))) eo ea eb an av wt p0 p1 wk oe me cs := by
  obtain ⟨⟨b1, b2, b3, b4, b5, b6, b7, b8⟩, ⟨w1, w2, w3, w4⟩, hT, hu, _, _⟩ := h
  refine ⟨⟨b1, b2, b3, b4, by omega, b6, b7, b8⟩, ⟨fun i hi => ?_, fun i hi => ?_, fun i hi => ?_, w4⟩, fun i hi => ?_, hu, fun z => absurd h0 z, fun z => ?_⟩
  · by_cases p : i = n
    · subst p; rw [pk_us]; exact hx
    · rw [pk_un p]; exact w1 i (by omega)
  · by_cases p : i = n
    · subst p; rw [pk_us, pk_us]; exact hy2
    · rw [pk_un p, pk_un p]; exact w2 i (by omega)
  · by_cases p : i = n
    · subst p; rw [pk_us, pk_us]; exact hy3
    · rw [pk_un p, pk_un p]; exact w3 i (by omega)
  · by_cases p : i = n
    · subst p; rw [pk_us, pk_us]; exact ⟨⟨i + 1, by omega, rfl⟩, i + 1, by omega, rfl⟩
    · rw [pk_un p, pk_un p]; exact hT i (by omega)
  · rw [h0] at z; exact absurd z (by decide)
/-- an expression is added -/
theorem zz_exp {g1 g2 g3 : Int32} (h : lz_RR NL VL EL TL n m L K st pe kd ax ay s0 s1 eo ea eb an av wt p0 p1 wk oe me cs) (h0 : st = 0) (hm : m < EL) (h2 : ∃ j, j < 8 ∧ g2 = nI j) (h3 : ∃ j, j < 8 ∧ g3 = nI j) (hno : ∀ e, e < m → ¬ (eo e = g1 ∧ ea e = g2 ∧ eb e = g3)) :
    lz_RR NL VL EL TL n (m + 1) L K st pe kd ax ay s0 s1 (upd eo m g1) (upd ea m g2) (upd eb m g3) an av wt p0 p1 wk oe me cs := by
  obtain ⟨⟨b1, b2, b3, b4, b5, b6, b7, b8⟩, ⟨w1, w2, w3, w4⟩, hT, hu, _, _⟩ := h
  refine ⟨⟨b1, b2, b3, b4, b5, by omega, b7, b8⟩, ⟨w1, w2, fun i hi z => ?_, fun e he => ?_⟩, hT, fun e e' he he' a b c => ?_, fun z => absurd h0 z, fun z => ?_⟩
  · obtain ⟨e, a, b⟩ := w3 i hi z
    exact ⟨e, by omega, b⟩
  · by_cases p : e = m
    · subst p; rw [pk_us, pk_us]; exact ⟨h2, h3⟩
    · rw [pk_un p, pk_un p]; exact w4 e (by omega)
  · by_cases p : e = m
    · by_cases p' : e' = m
      · omega
      · subst p
        rw [pk_us, pk_un p'] at a b c
        exact absurd ⟨a.symm, b.symm, c.symm⟩ (hno e' (by omega))
    · by_cases p' : e' = m
      · subst p'
        rw [pk_us, pk_un p] at a b c
        exact absurd ⟨a, b, c⟩ (hno e (by omega))
      · rw [pk_un p, pk_un p'] at a b c
        exact hu e e' (by omega) (by omega) a b c
  · rw [h0] at z; exact absurd z (by decide)
theorem zz_ln0 {i t : Nat} (h : lz_RR NL VL EL TL n m L K st pe kd ax ay s0 s1 eo ea eb an av wt p0 p1 wk oe me cs) (h0 : st = 0) (ht : t < NL) : lz_RR NL VL EL TL n m L K st pe kd ax ay (upd s0 i (nI t)) s1 eo ea eb an av wt p0 p1 wk oe me cs := by
  obtain ⟨⟨b1, b2, b3, b4, b5, b6, b7, b8⟩, hw, hT, hu, _, _⟩ := h
  refine ⟨⟨b1, b2, b3, b4, b5, b6, b7, b8⟩, hw, fun j hj => ⟨?_, (hT j hj).2⟩, hu, fun z => absurd h0 z, fun z => ?_⟩
  · by_cases p : j = i
    · subst p; rw [pk_us]; exact ⟨t, by omega, rfl⟩
    · rw [pk_un p]; exact (hT j hj).1
  · rw [h0] at z; exact absurd z (by decide)
theorem zz_ln1 {i t : Nat} (h : lz_RR NL VL EL TL n m L K st pe kd ax ay s0 s1 eo ea eb an av wt p0 p1 wk oe me cs) (h0 : st = 0) (ht : t < NL) : lz_RR NL VL EL TL n m L K st pe kd ax ay s0 (upd s1 i (nI t)) eo ea eb an av wt p0 p1 wk oe me cs := by
  obtain ⟨⟨b1, b2, b3, b4, b5, b6, b7, b8⟩, hw, hT, hu, _, _⟩ := h
  refine ⟨⟨b1, b2, b3, b4, b5, b6, b7, b8⟩, hw, fun j hj => ⟨(hT j hj).1, ?_⟩, hu, fun z => absurd h0 z, fun z => ?_⟩
  · by_cases p : j = i
    · subst p; rw [pk_us]; exact ⟨t, by omega, rfl⟩
    · rw [pk_un p]; exact (hT j hj).2
  · rw [h0] at z; exact absurd z (by decide)
end
/-- the arguments of a node that add takes: the kind uses x, uses y -/
def lz_ux (q : Int32) : Prop := ¬ (q = 0 ∨ q = 6)
def lz_uy (q : Int32) : Prop := q = 1 ∨ q = 2
def lz_bad (q x y : Int32) (V : Nat) : Prop := (lz_ux q ∧ ¬ lz_in x V) ∨ (q = 2 ∧ ¬ lz_in y V)
section
variable {nl vl el tl st nt et fe pe vt oo mo : Int32} {kd ax ay s0 s1 eo ea eb pr cm ch an av wt f0 f1 p0 p1 wk ov mv os ms oe me tp lt cs : Nat → Int32}
variable {post : Int32 → SX → Prop} {n m V : Nat} {q x y z z0 : Int32}
theorem xm_app (hn : n < 24) (h : post (nI n) (nl, vl, el, tl, st, nI (n + 1), et, fe, pe, vt, oo, mo, upd kd n q, upd ax n x, upd ay n y, upd s0 n (nI (n + 1)), upd s1 n (nI (n + 1)), eo, ea, eb, pr, cm, ch, an, av, wt, f0, f1, p0, p1, wk, ov, mv, os, ms, oe, me, tp, lt, cs)) : wpX_appendNode post (nl, vl, el, tl, st, nI n, et, fe, pe, vt, oo, mo, kd, ax, ay, s0, s1, eo, ea, eb, pr, cm, ch, an, av, wt, f0, f1, p0, p1, wk, ov, mv, os, ms, oe, me, tp, lt, cs) q x y := by
  have e1 : (nI n).toNatClampNeg = n := nI_clamp (by omega)
  have w : vp_in (nI n) 24 := vp_in_nI (by omega) (by decide)
  refine And.intro w ?_
  rw [e1, nI_1 n]
  exact nm_e (And.intro w (nm_e (And.intro w (nm_e (And.intro w (nm_e (And.intro w (nm_e (nm_e h)))))))))
theorem xm_100 (hn : n < 24) (h : post (nI n) (nl, vl, el, tl, st, nI (n + 1), et, fe, pe, vt, oo, mo, upd kd n q, upd ax n x, upd ay n (lz_if (lz_uy q) y 0), upd s0 n (nI (n + 1)), upd s1 n (nI (n + 1)), eo, ea, eb, pr, cm, ch, an, av, wt, f0, f1, p0, p1, wk, ov, mv, os, ms, oe, me, tp, lt, cs)) : wX_add_100 post q y x nl vl el tl st (nI n) et fe pe vt oo mo kd ax ay s0 s1 eo ea eb pr cm ch an av wt f0 f1 p0 p1 wk ov mv os ms oe me tp lt cs := by
  unfold wX_add_100
  by_cases h1 : q = 1
  · rw [lz_if_t (P := lz_uy q) (Or.inl h1)] at h
    refine br_t h1 ?_
    unfold wX_add_112 wX_add_117
    exact xm_app hn h
  · by_cases h2 : q = 2
    · rw [lz_if_t (P := lz_uy q) (Or.inr h2)] at h
      refine br_f h1 (br_t h2 ?_)
      unfold wX_add_112 wX_add_117
      exact xm_app hn h
    · rw [lz_if_f (P := lz_uy q) (fun p => p.elim h1 h2)] at h
      refine br_f h1 (br_f h2 ?_)
      unfold wX_add_117
      exact xm_app hn h
theorem xm_74 (hn : n < 24) (hV : V < 2 ^ 31) (hz : z = lz_b (lz_ux q)) (h4 : q = 2 → ¬ lz_in y V → post (-4) (nl, nI V, el, tl, st, nI n, et, fe, pe, vt, oo, mo, kd, ax, ay, s0, s1, eo, ea, eb, pr, cm, ch, an, av, wt, f0, f1, p0, p1, wk, ov, mv, os, ms, oe, me, tp, lt, cs)) (h : (q = 2 → lz_in y V) → post (nI n) (nl, nI V, el, tl, st, nI (n + 1), et, fe, pe, vt, oo, mo, upd kd n q, upd ax n (lz_if (lz_ux q) x 0), upd ay n (lz_if (lz_uy q) y 0), upd s0 n (nI (n + 1)), upd s1 n (nI (n + 1)), eo, ea, eb, pr, cm, ch, an, av, wt, f0, f1, p0, p1, wk, ov, mv, os, ms, oe, me, tp, lt, cs)) : wX_add_74 post q x y z nl (nI V) el tl st (nI n) et fe pe vt oo mo kd ax ay s0 s1 eo ea eb pr cm ch an av wt f0 f1 p0 p1 wk ov mv os ms oe me tp lt cs := by
  have k90 : (q = 2 → lz_in y V) → wX_add_90 post q x y z nl (nI V) el tl st (nI n) et fe pe vt oo mo kd ax ay s0 s1 eo ea eb pr cm ch an av wt f0 f1 p0 p1 wk ov mv os ms oe me tp lt cs := by
    intro hy
    have h' := h hy
    unfold wX_add_90
    subst hz
    refine lz_br (fun p => ?_) (fun p => ?_)
    · rw [lz_if_f p] at h'; exact xm_100 hn h'
    · rw [lz_if_t p] at h'; exact xm_100 hn h'
  unfold wX_add_74
  exact br_c (fun p => xg_isVariable hV (lz_br (fun r => h4 p r) (fun r => k90 (fun _ => r)))) (fun p => k90 (fun r => absurd r p))
theorem xm_add (h0 : st = 0) (hq0 : ¬ q < 0) (hq6 : ¬ 6 < q) (hq3 : ¬ q = 3) {N : Nat} (hN : N ≤ 24) (hn : n < N) (hV : V < 2 ^ 31) (h4 : lz_bad q x y V → post (-4) (nI N, nI V, el, tl, st, nI n, et, fe, pe, vt, oo, mo, kd, ax, ay, s0, s1, eo, ea, eb, pr, cm, ch, an, av, wt, f0, f1, p0, p1, wk, ov, mv, os, ms, oe, me, tp, lt, cs))
    (h : ¬ lz_bad q x y V → post (nI n) (nI N, nI V, el, tl, st, nI (n + 1), et, fe, pe, vt, oo, mo, upd kd n q, upd ax n (lz_if (lz_ux q) x 0), upd ay n (lz_if (lz_uy q) y 0), upd s0 n (nI (n + 1)), upd s1 n (nI (n + 1)), eo, ea, eb, pr, cm, ch, an, av, wt, f0, f1, p0, p1, wk, ov, mv, os, ms, oe, me, tp, lt, cs)) : wpX_add post (nI N, nI V, el, tl, st, nI n, et, fe, pe, vt, oo, mo, kd, ax, ay, s0, s1, eo, ea, eb, pr, cm, ch, an, av, wt, f0, f1, p0, p1, wk, ov, mv, os, ms, oe, me, tp, lt, cs) q x y := by
  have k74 : ∀ z, z = lz_b (lz_ux q) → (lz_ux q → lz_in x V) → wX_add_74 post q x y z (nI N) (nI V) el tl st (nI n) et fe pe vt oo mo kd ax ay s0 s1 eo ea eb pr cm ch an av wt f0 f1 p0 p1 wk ov mv os ms oe me tp lt cs := fun z hz hx =>
    xm_74 (by omega) hV hz (fun a b => h4 (Or.inr ⟨a, b⟩)) (fun a => h (fun b => b.elim (fun c => c.2 (hx c.1)) (fun c => c.2 (a c.1))))
  have k55 : ¬ lz_ux q → wX_add_55 post q x y (nI N) (nI V) el tl st (nI n) et fe pe vt oo mo kd ax ay s0 s1 eo ea eb pr cm ch an av wt f0 f1 p0 p1 wk ov mv os ms oe me tp lt cs := by
    intro hu
    unfold wX_add_55 wX_add_56
    exact br_t rfl (k74 0 (lz_b_f hu).symm (fun p => absurd p hu))
  refine br_t h0 (br_f hq0 (br_f hq6 (br_f hq3 (br_t (nI_lt hn (by omega)) (br_c (fun p => k55 (fun r => r (Or.inl p))) (fun p => br_c (fun p6 => k55 (fun r => r (Or.inr p6))) (fun p6 => ?_)))))))
  have hu : lz_ux q := fun r => r.elim p p6
  unfold wX_add_56
  exact br_f (by decide) (xg_isVariable hV (lz_br (fun r => h4 (Or.inl ⟨hu, r⟩)) (fun r => k74 1 (lz_b_t hu).symm (fun _ => r))))
end
section
variable {nl vl el tl st nt et vt oo : Int32} {kd ax ay s0 s1 eo ea eb pr ov wk os mk yn yv yw : Nat → Int32}
variable {post : Int32 → SY → Prop} {n m V : Nat} {q x y z z0 : Int32}
theorem ym_app (hn : n < 24) (h : post (nI n) (nl, vl, el, tl, st, nI (n + 1), et, vt, oo, upd kd n q, upd ax n x, upd ay n y, upd s0 n (nI (n + 1)), upd s1 n (nI (n + 1)), eo, ea, eb, pr, ov, wk, os, mk, yn, yv, yw)) : wpY_append post (nl, vl, el, tl, st, nI n, et, vt, oo, kd, ax, ay, s0, s1, eo, ea, eb, pr, ov, wk, os, mk, yn, yv, yw) q x y := by
  have e1 : (nI n).toNatClampNeg = n := nI_clamp (by omega)
  have w : vp_in (nI n) 24 := vp_in_nI (by omega) (by decide)
  refine And.intro w ?_
  rw [e1, nI_1 n]
  refine nm_e (And.intro w (nm_e (And.intro w (nm_e (And.intro w (nm_e (And.intro w (nm_e (nm_e ?_)))))))))
  rw [nI_pred]
  exact h
theorem ym_119 (hn : n < 24) (hz : z = lz_b (lz_uy q)) (h : post (nI n) (nl, vl, el, tl, st, nI (n + 1), et, vt, oo, upd kd n q, upd ax n x, upd ay n (lz_if (lz_uy q) y 0), upd s0 n (nI (n + 1)), upd s1 n (nI (n + 1)), eo, ea, eb, pr, ov, wk, os, mk, yn, yv, yw)) : wY_add_119 post y z x q nl vl el tl st (nI n) et vt oo kd ax ay s0 s1 eo ea eb pr ov wk os mk yn yv yw := by
  subst hz
  unfold wY_add_119 wY_add_129
  refine lz_br (fun p => ?_) (fun p => ?_)
  · rw [lz_if_f p] at h; exact ym_app hn h
  · rw [lz_if_t p] at h; exact ym_app hn h
theorem ym_91 (hn : n < 24) (hV : V < 2 ^ 31) (hz : z = lz_b (lz_ux q)) (hz0 : z0 = lz_b (lz_uy q)) (h4 : q = 2 → ¬ lz_in y V → post (-4) (nl, nI V, el, tl, st, nI n, et, vt, oo, kd, ax, ay, s0, s1, eo, ea, eb, pr, ov, wk, os, mk, yn, yv, yw)) (h : (q = 2 → lz_in y V) → post (nI n) (nl, nI V, el, tl, st, nI (n + 1), et, vt, oo, upd kd n q, upd ax n (lz_if (lz_ux q) x 0), upd ay n (lz_if (lz_uy q) y 0), upd s0 n (nI (n + 1)), upd s1 n (nI (n + 1)), eo, ea, eb, pr, ov, wk, os, mk, yn, yv, yw)) : wY_add_91 post q x y z z0 nl (nI V) el tl st (nI n) et vt oo kd ax ay s0 s1 eo ea eb pr ov wk os mk yn yv yw := by
  have k107 : (q = 2 → lz_in y V) → wY_add_107 post q x y z z0 nl (nI V) el tl st (nI n) et vt oo kd ax ay s0 s1 eo ea eb pr ov wk os mk yn yv yw := by
    intro hy
    have h' := h hy
    unfold wY_add_107
    subst hz
    refine lz_br (fun p => ?_) (fun p => ?_)
    · rw [lz_if_f p] at h'; exact ym_119 hn hz0 h'
    · rw [lz_if_t p] at h'; exact ym_119 hn hz0 h'
  unfold wY_add_91
  exact br_c (fun p => yg_isVar hV (lz_br (fun r => h4 p r) (fun r => k107 (fun _ => r)))) (fun p => k107 (fun r => absurd r p))
theorem ym_56 (hn : n < 24) (hV : V < 2 ^ 31) (hz : z = lz_b (lz_ux q)) (h4 : lz_bad q x y V → post (-4) (nl, nI V, el, tl, st, nI n, et, vt, oo, kd, ax, ay, s0, s1, eo, ea, eb, pr, ov, wk, os, mk, yn, yv, yw)) (h : ¬ lz_bad q x y V → post (nI n) (nl, nI V, el, tl, st, nI (n + 1), et, vt, oo, upd kd n q, upd ax n (lz_if (lz_ux q) x 0), upd ay n (lz_if (lz_uy q) y 0), upd s0 n (nI (n + 1)), upd s1 n (nI (n + 1)), eo, ea, eb, pr, ov, wk, os, mk, yn, yv, yw)) : wY_add_56 post q x y z nl (nI V) el tl st (nI n) et vt oo kd ax ay s0 s1 eo ea eb pr ov wk os mk yn yv yw := by
  have k91 : ∀ z0, z0 = lz_b (lz_uy q) → (lz_ux q → lz_in x V) → wY_add_91 post q x y z z0 nl (nI V) el tl st (nI n) et vt oo kd ax ay s0 s1 eo ea eb pr ov wk os mk yn yv yw := fun z0 hz0 hx =>
    ym_91 hn hV hz hz0 (fun a b => h4 (Or.inr ⟨a, b⟩)) (fun a => h (fun b => b.elim (fun c => c.2 (hx c.1)) (fun c => c.2 (a c.1))))
  have k73 : ∀ z0, z0 = lz_b (lz_uy q) → wY_add_73 post q x y z z0 nl (nI V) el tl st (nI n) et vt oo kd ax ay s0 s1 eo ea eb pr ov wk os mk yn yv yw := by
    intro z0 hz0
    unfold wY_add_73
    by_cases hu : lz_ux q
    · refine br_f (by rw [hz, lz_b_t hu]; decide) (yg_isVar hV (lz_br (fun r => h4 (Or.inl ⟨hu, r⟩)) (fun r => k91 z0 hz0 (fun _ => r))))
    · exact br_t (by rw [hz, lz_b_f hu]) (k91 z0 hz0 (fun p => absurd p hu))
  unfold wY_add_56
  refine br_c (fun p => ?_) (fun p1 => br_c (fun p => ?_) (fun p2 => ?_))
  · unfold wY_add_68; exact k73 1 (lz_b_t (Or.inl p)).symm
  · unfold wY_add_68; exact k73 1 (lz_b_t (Or.inr p)).symm
  · exact k73 0 (lz_b_f (fun r => r.elim p1 p2)).symm
theorem ym_add (h0 : st = 0) (hq0 : ¬ q < 0) (hq6 : ¬ 6 < q) (hq3 : ¬ q = 3) {N : Nat} (hN : N ≤ 24) (hn : n < N) (hV : V < 2 ^ 31) (h4 : lz_bad q x y V → post (-4) (nI N, nI V, el, tl, st, nI n, et, vt, oo, kd, ax, ay, s0, s1, eo, ea, eb, pr, ov, wk, os, mk, yn, yv, yw))
    (h : ¬ lz_bad q x y V → post (nI n) (nI N, nI V, el, tl, st, nI (n + 1), et, vt, oo, upd kd n q, upd ax n (lz_if (lz_ux q) x 0), upd ay n (lz_if (lz_uy q) y 0), upd s0 n (nI (n + 1)), upd s1 n (nI (n + 1)), eo, ea, eb, pr, ov, wk, os, mk, yn, yv, yw)) : wpY_add post (nI N, nI V, el, tl, st, nI n, et, vt, oo, kd, ax, ay, s0, s1, eo, ea, eb, pr, ov, wk, os, mk, yn, yv, yw) q x y := by
  have k55 : ¬ lz_ux q → wY_add_55 post q x y (nI N) (nI V) el tl st (nI n) et vt oo kd ax ay s0 s1 eo ea eb pr ov wk os mk yn yv yw := by
    intro hu
    unfold wY_add_55
    exact ym_56 (by omega) hV (lz_b_f hu).symm h4 h
  refine br_t h0 (br_f hq0 (br_f hq6 (br_f hq3 (br_t (nI_lt hn (by omega)) (br_c (fun p => k55 (fun r => r (Or.inl p))) (fun p => br_c (fun p6 => k55 (fun r => r (Or.inr p6))) (fun p6 => ?_)))))))
  exact ym_56 (by omega) hV (lz_b_t (fun r => r.elim p p6)).symm h4 h
end
theorem lz_in8 {v : Int32} {V : Nat} (hV : V ≤ 8) (h : lz_in v V) : ∃ j, j < 8 ∧ v = nI j := by
  obtain ⟨j, a, b⟩ := h
  exact ⟨j, by omega, b⟩
theorem i_vc_add {k : Nat} {u : SX} {v : SY} (I : i_Rel k u v) (hk : k + 5 ≤ 2564) (v1 : Int32) (v2 : Int32) (v3 : Int32) : wpX_add (fun r u' => wpY_add (fun r' v' => r' = r ∧ i_Rel (k + 5) u' v') v v1 v2 v3) u v1 v2 v3 := by
  refine zz_el (P := fun u v => wpX_add (fun r u' => wpY_add (fun r' v' => r' = r ∧ i_Rel (k + 5) u' v') v v1 v2 v3) u v1 v2 v3) ?_ I
  intro NL VL EL TL n m L K st fe pe kd ax ay s0 s1 eo ea eb pr cm ch an av wt f0 f1 p0 p1 wk ov os oe me tp lt cs mk yn yv yw h
  have R := zz_in (k := k + 5) (fe := fe) (pr := pr) (cm := cm) (ch := ch) (f0 := f0) (f1 := f1) (ov := ov) (os := os) (tp := tp) (lt := lt) (mk := mk) (yn := yn) (yv := yv) (yw := yw) h
  have hNL := h.1.1
  have hV := h.1.2.1
  have hnN := h.1.2.2.2.2.1
  by_cases h0 : st = 0
  · by_cases q0 : v1 < 0
    · exact br_t h0 (br_t q0 (br_t h0 (br_t q0 (And.intro rfl R))))
    by_cases q6 : 6 < v1
    · exact br_t h0 (br_f q0 (br_t q6 (br_t h0 (br_f q0 (br_t q6 (And.intro rfl R))))))
    by_cases q3 : v1 = 3
    · exact br_t h0 (br_f q0 (br_f q6 (br_t q3 (br_t h0 (br_f q0 (br_f q6 (br_t q3 (And.intro rfl R))))))))
    by_cases hn : n < NL
    · refine xm_add h0 q0 q6 q3 hNL hn (by omega) (fun a => ym_add h0 q0 q6 q3 hNL hn (by omega) (fun _ => And.intro rfl R) (fun b => absurd a b)) (fun a => ym_add h0 q0 q6 q3 hNL hn (by omega) (fun b => absurd b a) (fun _ => And.intro rfl (zz_in (zz_app h h0 hn ?_ (fun p => ?_) (fun p => absurd p q3)))))
      · by_cases hu : lz_ux v1
        · rw [lz_if_t hu]; exact lz_in8 hV (Classical.byContradiction fun p => a (Or.inl ⟨hu, p⟩))
        · rw [lz_if_f hu]; exact ⟨0, by omega, rfl⟩
      · rw [lz_if_t (P := lz_uy v1) (Or.inr p)]; exact lz_in8 hV (Classical.byContradiction fun r => a (Or.inr ⟨p, r⟩))
    · have hf : ¬ nI n < nI NL := nI_nlt (by omega) (by omega)
      exact br_t h0 (br_f q0 (br_f q6 (br_f q3 (br_f hf (br_t h0 (br_f q0 (br_f q6 (br_f q3 (br_f hf (And.intro rfl R))))))))))
  · exact br_f h0 (br_f h0 (And.intro rfl R))
end
section
/-! addEval and link -/
section
variable {nl vl el tl st nt et fe pe vt oo mo : Int32} {kd ax ay s0 s1 eo ea eb pr cm ch an av wt f0 f1 p0 p1 wk ov mv os ms oe me tp lt cs : Nat → Int32}
variable {post : Int32 → Prop} {n m : Nat} {g1 g2 g3 : Int32}
theorem xm_find3 (hm : m ≤ 12) (h1 : ∀ e, e < m → (eo e = g1 ∧ ea e = g2 ∧ eb e = g3) → post (nI e)) (h0 : (∀ e, e < m → ¬ (eo e = g1 ∧ ea e = g2 ∧ eb e = g3)) → post (nI m)) :
    ∀ (d e fuel : Nat), e + d = m → d < fuel → (∀ e', e' < e → ¬ (eo e' = g1 ∧ ea e' = g2 ∧ eb e' = g3)) → wX_findExpr_3 post g1 g2 g3 nl vl el tl st nt (nI m) fe pe vt oo mo kd ax ay s0 s1 eo ea eb pr cm ch an av wt f0 f1 p0 p1 wk ov mv os ms oe me tp lt cs fuel (nI e) := by
  intro d
  induction d with
  | zero =>
    intro e fuel he hf hD
    obtain ⟨f, rfl⟩ : ∃ f, fuel = f + 1 := ⟨fuel - 1, by omega⟩
    exact br_t (nI_le (by omega) (by omega)) (h0 (fun e' a => hD e' (by omega)))
  | succ d ih =>
    intro e fuel he hf hD
    obtain ⟨f, rfl⟩ : ∃ f, fuel = f + 1 := ⟨fuel - 1, by omega⟩
    have e1 : (nI e).toNatClampNeg = e := nI_clamp (by omega)
    have w : vp_in (nI e) 12 := vp_in_nI (by omega) (by decide)
    have no : ¬ (eo e = g1 ∧ ea e = g2 ∧ eb e = g3) → wX_findExpr_3 post g1 g2 g3 nl vl el tl st nt (nI m) fe pe vt oo mo kd ax ay s0 s1 eo ea eb pr cm ch an av wt f0 f1 p0 p1 wk ov mv os ms oe me tp lt cs f (nI (e + 1)) := by
      intro z
      refine ih (e + 1) f (by omega) (by omega) (fun e' h' => ?_)
      by_cases q : e' = e
      · subst q; exact z
      · exact hD e' (by omega)
    refine br_f (nI_ge (by omega) (by omega)) (And.intro w ?_)
    rw [e1]
    exact br_c (fun a => And.intro w (br_c (fun b => And.intro w (br_c (fun c => h1 e (by omega) ⟨a, b, c⟩) (fun c => nm_r (nI_1 e) (no (fun z => c z.2.2))))) (fun b => nm_r (nI_1 e) (no (fun z => b z.2.1))))) (fun a => nm_r (nI_1 e) (no (fun z => a z.1)))
theorem xg_findExpr (hm : m ≤ 12) (h1 : ∀ e, e < m → (eo e = g1 ∧ ea e = g2 ∧ eb e = g3) → post (nI e)) (h0 : (∀ e, e < m → ¬ (eo e = g1 ∧ ea e = g2 ∧ eb e = g3)) → post (nI m)) : wpX_findExpr post (nl, vl, el, tl, st, nt, nI m, fe, pe, vt, oo, mo, kd, ax, ay, s0, s1, eo, ea, eb, pr, cm, ch, an, av, wt, f0, f1, p0, p1, wk, ov, mv, os, ms, oe, me, tp, lt, cs) g1 g2 g3 :=
  Exists.intro (m + 1) (xm_find3 hm h1 h0 m 0 (m + 1) (by omega) (by omega) (fun e h => absurd h (by omega)))
end
section
variable {nl vl el tl st nt et fe pe vt oo mo : Int32} {kd ax ay s0 s1 eo ea eb pr cm ch an av wt f0 f1 p0 p1 wk ov mv os ms oe me tp lt cs : Nat → Int32}
variable {post : Int32 → SX → Prop} {n m N V E : Nat} {g0 g1 g2 g3 : Int32}
theorem xm_addEval (h0 : st = 0) (hq0 : ¬ g1 < 0) (hq5 : g1 ≤ 5) (hN : N ≤ 24) (hn : n < N) (hV : V < 2 ^ 31) (hE : E ≤ 12) (hmE : m ≤ E)
    (h4 : ¬ (lz_in g0 V ∧ lz_in g2 V ∧ lz_in g3 V) → post (-4) (nI N, nI V, nI E, tl, st, nI n, nI m, fe, pe, vt, oo, mo, kd, ax, ay, s0, s1, eo, ea, eb, pr, cm, ch, an, av, wt, f0, f1, p0, p1, wk, ov, mv, os, ms, oe, me, tp, lt, cs))
    (h5 : lz_in g0 V ∧ lz_in g2 V ∧ lz_in g3 V → (∀ e, e < m → ¬ (eo e = g1 ∧ ea e = g2 ∧ eb e = g3)) → ¬ m < E → post (-5) (nI N, nI V, nI E, tl, st, nI n, nI m, fe, pe, vt, oo, mo, kd, ax, ay, s0, s1, eo, ea, eb, pr, cm, ch, an, av, wt, f0, f1, p0, p1, wk, ov, mv, os, ms, oe, me, tp, lt, cs))
    (k0 : lz_in g0 V ∧ lz_in g2 V ∧ lz_in g3 V → (∀ e, e < m → ¬ (eo e = g1 ∧ ea e = g2 ∧ eb e = g3)) → m < E → post (nI n) (nI N, nI V, nI E, tl, st, nI (n + 1), nI (m + 1), fe, pe, vt, oo, mo, upd kd n 3, upd ax n g0, upd ay n (nI m), upd s0 n (nI (n + 1)), upd s1 n (nI (n + 1)), upd eo m g1, upd ea m g2, upd eb m g3, pr, cm, ch, an, av, wt, f0, f1, p0, p1, wk, ov, mv, os, ms, oe, me, tp, lt, cs))
    (k1 : lz_in g0 V ∧ lz_in g2 V ∧ lz_in g3 V → ∀ e, e < m → (eo e = g1 ∧ ea e = g2 ∧ eb e = g3) → post (nI n) (nI N, nI V, nI E, tl, st, nI (n + 1), nI m, fe, pe, vt, oo, mo, upd kd n 3, upd ax n g0, upd ay n (nI e), upd s0 n (nI (n + 1)), upd s1 n (nI (n + 1)), eo, ea, eb, pr, cm, ch, an, av, wt, f0, f1, p0, p1, wk, ov, mv, os, ms, oe, me, tp, lt, cs)) :
    wpX_addEval post (nI N, nI V, nI E, tl, st, nI n, nI m, fe, pe, vt, oo, mo, kd, ax, ay, s0, s1, eo, ea, eb, pr, cm, ch, an, av, wt, f0, f1, p0, p1, wk, ov, mv, os, ms, oe, me, tp, lt, cs) g0 g1 g2 g3 := by
  refine br_t h0 (br_f hq0 (br_t hq5 (br_t (nI_lt hn (by omega)) (xg_isVariable hV (lz_br (fun z => h4 (fun p => z p.1)) (fun z0 => xg_isVariable hV (lz_br (fun z => h4 (fun p => z p.2.1)) (fun z2 => xg_isVariable hV (lz_br (fun z => h4 (fun p => z p.2.2)) (fun z3 => ?_))))))))))
  refine xg_findExpr (by omega) (fun e he hM => br_f (fun q => by have := (nI_eq (by omega) (by omega)).mp q; omega) ?_) (fun hM => br_t rfl ?_)
  · unfold wX_addEval_131
    exact xm_app (by omega) (k1 ⟨z0, z2, z3⟩ e he hM)
  · by_cases hm : m < E
    · have e1 : (nI m).toNatClampNeg = m := nI_clamp (by omega)
      have w : vp_in (nI m) 12 := vp_in_nI (by omega) (by decide)
      refine br_t (nI_lt hm (by omega)) (And.intro w ?_)
      rw [e1]
      refine nm_e (And.intro w (nm_e (And.intro w (nm_e (nm_r (nI_1 m) ?_)))))
      unfold wX_addEval_131
      exact xm_app (by omega) (k0 ⟨z0, z2, z3⟩ hM hm)
    · exact br_f (nI_nlt (by omega) (by omega)) (h5 ⟨z0, z2, z3⟩ hM hm)
end
section
variable {nl vl el tl st nt et vt oo : Int32} {kd ax ay s0 s1 eo ea eb pr ov wk os mk yn yv yw : Nat → Int32}
variable {post : Int32 → SY → Prop} {n m N V E : Nat} {g0 g1 g2 g3 : Int32}
theorem ym_72 (hN : N ≤ 24) (hn : n < N) (hE : E ≤ 12) (hmE : m ≤ E) (hu : ∀ e e', e < m → e' < m → eo e = eo e' → ea e = ea e' → eb e = eb e' → e = e')
    (h5 : (∀ e, e < m → ¬ (eo e = g1 ∧ ea e = g2 ∧ eb e = g3)) → ¬ m < E → post (-5) (nI N, vl, nI E, tl, st, nI n, nI m, vt, oo, kd, ax, ay, s0, s1, eo, ea, eb, pr, ov, wk, os, mk, yn, yv, yw))
    (k0 : (∀ e, e < m → ¬ (eo e = g1 ∧ ea e = g2 ∧ eb e = g3)) → m < E → post (nI n) (nI N, vl, nI E, tl, st, nI (n + 1), nI (m + 1), vt, oo, upd kd n 3, upd ax n g0, upd ay n (nI m), upd s0 n (nI (n + 1)), upd s1 n (nI (n + 1)), upd eo m g1, upd ea m g2, upd eb m g3, pr, ov, wk, os, mk, yn, yv, yw))
    (k1 : ∀ e, e < m → (eo e = g1 ∧ ea e = g2 ∧ eb e = g3) → post (nI n) (nI N, vl, nI E, tl, st, nI (n + 1), nI m, vt, oo, upd kd n 3, upd ax n g0, upd ay n (nI e), upd s0 n (nI (n + 1)), upd s1 n (nI (n + 1)), eo, ea, eb, pr, ov, wk, os, mk, yn, yv, yw)) :
    ∀ (d j fuel r : Nat), j + d = m → d < fuel → ((r = m ∧ ∀ e, e < j → ¬ (eo e = g1 ∧ ea e = g2 ∧ eb e = g3)) ∨ (r < j ∧ (eo r = g1 ∧ ea r = g2 ∧ eb r = g3))) → wY_addEval_72 post g0 g1 g2 g3 (nI N) vl (nI E) tl st (nI n) (nI m) vt oo kd ax ay s0 s1 eo ea eb pr ov wk os mk yn yv yw fuel (nI r) (nI j) := by
  intro d
  induction d with
  | zero =>
    intro j fuel r hj hf hr
    obtain ⟨f, rfl⟩ : ∃ f, fuel = f + 1 := ⟨fuel - 1, by omega⟩
    refine br_t (nI_le (by omega) (by omega)) ?_
    rcases hr with ⟨rfl, hD⟩ | ⟨hr, hM⟩
    · have hM : ∀ e, e < r → ¬ (eo e = g1 ∧ ea e = g2 ∧ eb e = g3) := fun e he => hD e (by omega)
      by_cases hm : r < E
      · have e1 : (nI r).toNatClampNeg = r := nI_clamp (by omega)
        have w : vp_in (nI r) 12 := vp_in_nI (by omega) (by decide)
        refine br_t (nI_lt hm (by omega)) (br_t rfl (And.intro w ?_))
        rw [e1]
        refine nm_e (And.intro w (nm_e (And.intro w (nm_e (nm_r (nI_1 r) ?_)))))
        unfold wY_addEval_181
        exact ym_app (by omega) (k0 hM hm)
      · exact br_f (nI_nlt (by omega) (by omega)) (h5 hM hm)
    · refine br_t (nI_lt (by omega) (by omega)) (br_f (fun q => by have := (nI_eq (by omega) (by omega)).mp q; omega) ?_)
      unfold wY_addEval_181
      exact ym_app (by omega) (k1 r (by omega) hM)
  | succ d ih =>
    intro j fuel r hj hf hr
    obtain ⟨f, rfl⟩ : ∃ f, fuel = f + 1 := ⟨fuel - 1, by omega⟩
    have e1 : (nI j).toNatClampNeg = j := nI_clamp (by omega)
    have w : vp_in (nI j) 12 := vp_in_nI (by omega) (by decide)
    have no : ¬ (eo j = g1 ∧ ea j = g2 ∧ eb j = g3) → wY_addEval_72 post g0 g1 g2 g3 (nI N) vl (nI E) tl st (nI n) (nI m) vt oo kd ax ay s0 s1 eo ea eb pr ov wk os mk yn yv yw f (nI r) (nI (j + 1)) := by
      intro z
      refine ih (j + 1) f r (by omega) (by omega) (hr.imp (fun p => ⟨p.1, fun e he => ?_⟩) (fun p => ⟨by omega, p.2⟩))
      by_cases q : e = j
      · subst q; exact z
      · exact p.2 e (by omega)
    have yes : (eo j = g1 ∧ ea j = g2 ∧ eb j = g3) → wY_addEval_72 post g0 g1 g2 g3 (nI N) vl (nI E) tl st (nI n) (nI m) vt oo kd ax ay s0 s1 eo ea eb pr ov wk os mk yn yv yw f (nI j) (nI (j + 1)) := fun z => ih (j + 1) f j (by omega) (by omega) (Or.inr ⟨by omega, z⟩)
    refine br_f (nI_ge (by omega) (by omega)) (And.intro w ?_)
    rw [e1]
    exact br_c (fun a => And.intro w (br_c (fun b => And.intro w (br_c (fun c => nm_r (nI_1 j) (yes ⟨a, b, c⟩)) (fun c => nm_r (nI_1 j) (no (fun z => c z.2.2))))) (fun b => nm_r (nI_1 j) (no (fun z => b z.2.1))))) (fun a => nm_r (nI_1 j) (no (fun z => a z.1)))
theorem ym_addEval (h0 : st = 0) (hq0 : ¬ g1 < 0) (hq5 : g1 ≤ 5) (hN : N ≤ 24) (hn : n < N) (hV : V < 2 ^ 31) (hE : E ≤ 12) (hmE : m ≤ E) (hu : ∀ e e', e < m → e' < m → eo e = eo e' → ea e = ea e' → eb e = eb e' → e = e')
    (h4 : ¬ (lz_in g0 V ∧ lz_in g2 V ∧ lz_in g3 V) → post (-4) (nI N, nI V, nI E, tl, st, nI n, nI m, vt, oo, kd, ax, ay, s0, s1, eo, ea, eb, pr, ov, wk, os, mk, yn, yv, yw))
    (h5 : lz_in g0 V ∧ lz_in g2 V ∧ lz_in g3 V → (∀ e, e < m → ¬ (eo e = g1 ∧ ea e = g2 ∧ eb e = g3)) → ¬ m < E → post (-5) (nI N, nI V, nI E, tl, st, nI n, nI m, vt, oo, kd, ax, ay, s0, s1, eo, ea, eb, pr, ov, wk, os, mk, yn, yv, yw))
    (k0 : lz_in g0 V ∧ lz_in g2 V ∧ lz_in g3 V → (∀ e, e < m → ¬ (eo e = g1 ∧ ea e = g2 ∧ eb e = g3)) → m < E → post (nI n) (nI N, nI V, nI E, tl, st, nI (n + 1), nI (m + 1), vt, oo, upd kd n 3, upd ax n g0, upd ay n (nI m), upd s0 n (nI (n + 1)), upd s1 n (nI (n + 1)), upd eo m g1, upd ea m g2, upd eb m g3, pr, ov, wk, os, mk, yn, yv, yw))
    (k1 : lz_in g0 V ∧ lz_in g2 V ∧ lz_in g3 V → ∀ e, e < m → (eo e = g1 ∧ ea e = g2 ∧ eb e = g3) → post (nI n) (nI N, nI V, nI E, tl, st, nI (n + 1), nI m, vt, oo, upd kd n 3, upd ax n g0, upd ay n (nI e), upd s0 n (nI (n + 1)), upd s1 n (nI (n + 1)), eo, ea, eb, pr, ov, wk, os, mk, yn, yv, yw)) :
    wpY_addEval post (nI N, nI V, nI E, tl, st, nI n, nI m, vt, oo, kd, ax, ay, s0, s1, eo, ea, eb, pr, ov, wk, os, mk, yn, yv, yw) g0 g1 g2 g3 := by
  refine br_t h0 (br_f hq0 (br_t hq5 (br_t (nI_lt hn (by omega)) (yg_isVar hV (lz_br (fun z => h4 (fun p => z p.1)) (fun z0 => yg_isVar hV (lz_br (fun z => h4 (fun p => z p.2.1)) (fun z2 => yg_isVar hV (lz_br (fun z => h4 (fun p => z p.2.2)) (fun z3 => ?_))))))))))
  exact Exists.intro (m + 1) (ym_72 hN hn hE hmE hu (h5 ⟨z0, z2, z3⟩) (k0 ⟨z0, z2, z3⟩) (k1 ⟨z0, z2, z3⟩) m 0 (m + 1) m (by omega) (by omega) (Or.inl ⟨rfl, fun e h => absurd h (by omega)⟩))
end
theorem i_vc_addEval {k : Nat} {u : SX} {v : SY} (I : i_Rel k u v) (hk : k + 5 ≤ 2564) (v1 : Int32) (v2 : Int32) (v3 : Int32) (v4 : Int32) : wpX_addEval (fun r u' => wpY_addEval (fun r' v' => r' = r ∧ i_Rel (k + 5) u' v') v v1 v2 v3 v4) u v1 v2 v3 v4 := by
  refine zz_el (P := fun u v => wpX_addEval (fun r u' => wpY_addEval (fun r' v' => r' = r ∧ i_Rel (k + 5) u' v') v v1 v2 v3 v4) u v1 v2 v3 v4) ?_ I
  intro NL VL EL TL n m L K st fe pe kd ax ay s0 s1 eo ea eb pr cm ch an av wt f0 f1 p0 p1 wk ov os oe me tp lt cs mk yn yv yw h
  have R := zz_in (k := k + 5) (fe := fe) (pr := pr) (cm := cm) (ch := ch) (f0 := f0) (f1 := f1) (ov := ov) (os := os) (tp := tp) (lt := lt) (mk := mk) (yn := yn) (yv := yv) (yw := yw) h
  have hNL := h.1.1
  have hV := h.1.2.1
  have hE := h.1.2.2.1
  have hnN := h.1.2.2.2.2.1
  have hmE := h.1.2.2.2.2.2.1
  have hu := h.2.2.2.1
  by_cases h0 : st = 0
  · by_cases q0 : v2 < 0
    · exact br_t h0 (br_t q0 (br_t h0 (br_t q0 (And.intro rfl R))))
    by_cases q5 : v2 ≤ 5
    · by_cases hn : n < NL
      · refine xm_addEval h0 q0 q5 hNL hn (by omega) hE hmE (fun a => ?_) (fun a b c => ?_) (fun a b c => ?_) (fun a e he b => ?_)
        · exact ym_addEval h0 q0 q5 hNL hn (by omega) hE hmE hu (fun _ => And.intro rfl R) (fun p => absurd p a) (fun p => absurd p a) (fun p => absurd p a)
        · exact ym_addEval h0 q0 q5 hNL hn (by omega) hE hmE hu (fun p => absurd a p) (fun _ _ _ => And.intro rfl R) (fun _ _ p => absurd p c) (fun _ e' he' p => absurd p (b e' he'))
        · refine ym_addEval h0 q0 q5 hNL hn (by omega) hE hmE hu (fun p => absurd a p) (fun _ _ p => absurd c p) (fun _ _ _ => And.intro rfl (zz_in (zz_app (zz_exp h h0 c (lz_in8 hV a.2.1) (lz_in8 hV a.2.2) b) h0 hn (lz_in8 hV a.1) (fun p => absurd p (by decide)) (fun _ => ⟨m, by omega, rfl⟩)))) (fun _ e' he' p => absurd p (b e' he'))
        · refine ym_addEval h0 q0 q5 hNL hn (by omega) hE hmE hu (fun p => absurd a p) (fun _ p => absurd b (p e he)) (fun _ p => absurd b (p e he)) (fun _ e' he' p => ?_)
          have q : e' = e := hu e' e he' he (p.1.trans b.1.symm) (p.2.1.trans b.2.1.symm) (p.2.2.trans b.2.2.symm)
          subst q
          exact And.intro rfl (zz_in (zz_app h h0 hn (lz_in8 hV a.1) (fun p => absurd p (by decide)) (fun _ => ⟨e', he, rfl⟩)))
      · have hf : ¬ nI n < nI NL := nI_nlt (by omega) (by omega)
        exact br_t h0 (br_f q0 (br_t q5 (br_f hf (br_t h0 (br_f q0 (br_t q5 (br_f hf (And.intro rfl R))))))))
    · exact br_t h0 (br_f q0 (br_f q5 (br_t h0 (br_f q0 (br_f q5 (And.intro rfl R))))))
  · exact br_f h0 (br_f h0 (And.intro rfl R))
section
variable {nl vl el tl st nt et vt oo : Int32} {kd ax ay s0 s1 eo ea eb pr ov wk os mk yn yv yw : Nat → Int32}
theorem ym_link {post : Int32 → SY → Prop} {n N : Nat} {g0 g1 g2 : Int32} (h0 : st = 0) (hn : n ≤ 24) (hN : N ≤ 24) (k6 : ¬ lz_in g0 n → post (-6) (nI N, vl, el, tl, st, nI n, et, vt, oo, kd, ax, ay, s0, s1, eo, ea, eb, pr, ov, wk, os, mk, yn, yv, yw)) (k7 : ∀ i, i < n → g0 = nI i → ¬ lz_in g1 (lz_sl kd i) → post (-7) (nI N, vl, el, tl, st, nI n, et, vt, oo, kd, ax, ay, s0, s1, eo, ea, eb, pr, ov, wk, os, mk, yn, yv, yw))
    (k8 : ∀ i, i < n → g0 = nI i → lz_in g1 (lz_sl kd i) → ¬ lz_in g2 N → post (-8) (nI N, vl, el, tl, st, nI n, et, vt, oo, kd, ax, ay, s0, s1, eo, ea, eb, pr, ov, wk, os, mk, yn, yv, yw))
    (k0 : ∀ i, i < n → g0 = nI i → lz_in g1 (lz_sl kd i) → lz_in g2 N → g1 = 0 → post 0 (nI N, vl, el, tl, st, nI n, et, vt, oo, kd, ax, ay, upd s0 i g2, s1, eo, ea, eb, pr, ov, wk, os, mk, yn, yv, yw)) (k1 : ∀ i, i < n → g0 = nI i → lz_in g1 (lz_sl kd i) → lz_in g2 N → ¬ g1 = 0 → post 0 (nI N, vl, el, tl, st, nI n, et, vt, oo, kd, ax, ay, s0, upd s1 i g2, eo, ea, eb, pr, ov, wk, os, mk, yn, yv, yw)) : wpY_link post (nI N, vl, el, tl, st, nI n, et, vt, oo, kd, ax, ay, s0, s1, eo, ea, eb, pr, ov, wk, os, mk, yn, yv, yw) g0 g1 g2 := by
  refine br_t h0 (yg_isNode (by omega) (lz_br k6 (fun z => ?_)))
  obtain ⟨i, hi, rfl⟩ := z
  have hs2 := lz_sl2 kd i
  have e1 : (nI i).toNatClampNeg = i := nI_clamp (by omega)
  have w : vp_in (nI i) 24 := vp_in_nI (by omega) (by decide)
  by_cases q : g1 < 0
  · exact br_t q (k7 i hi rfl (lz_not_in0 q (by omega)))
  refine br_f q (yg_slots (by omega) ?_)
  by_cases p : lz_in g1 (lz_sl kd i)
  · have pp := p
    obtain ⟨s, hs, rfl⟩ := p
    refine br_t (nI_lt hs (by omega)) ?_
    by_cases r : g2 < 0
    · exact br_t r (k8 i hi rfl pp (lz_not_in0 r (by omega)))
    obtain ⟨t, ht, rfl⟩ := nI_of r
    by_cases tt : t < N
    · refine br_f r (br_t (nI_lt tt (by omega)) ?_)
      rw [e1]
      exact br_c (fun y => And.intro w (nm_e (k0 i hi rfl pp ⟨t, tt, rfl⟩ y))) (fun y => And.intro w (nm_e (k1 i hi rfl pp ⟨t, tt, rfl⟩ y)))
    · refine br_f r (br_f (nI_nlt (by omega) (by omega)) (k8 i hi rfl pp ?_))
      rintro ⟨t', a, b⟩
      have := (nI_eq (by omega) (by omega)).mp b
      omega
  · refine br_f ?_ (k7 i hi rfl p)
    obtain ⟨s, hs, rfl⟩ := nI_of q
    exact fun y => p ⟨s, (nI_ltI (by omega) (by omega)).mp y, rfl⟩
end
section
variable {nl vl el tl st nt et fe pe vt oo mo : Int32} {kd ax ay s0 s1 eo ea eb pr cm ch an av wt f0 f1 p0 p1 wk ov mv os ms oe me tp lt cs : Nat → Int32}
theorem xm_link {post : Int32 → SX → Prop} {n N : Nat} {g0 g1 g2 : Int32} (h0 : st = 0) (hn : n ≤ 24) (hN : N ≤ 24) (k6 : ¬ lz_in g0 n → post (-6) (nI N, vl, el, tl, st, nI n, et, fe, pe, vt, oo, mo, kd, ax, ay, s0, s1, eo, ea, eb, pr, cm, ch, an, av, wt, f0, f1, p0, p1, wk, ov, mv, os, ms, oe, me, tp, lt, cs)) (k7 : ∀ i, i < n → g0 = nI i → ¬ lz_in g1 (lz_sl kd i) → post (-7) (nI N, vl, el, tl, st, nI n, et, fe, pe, vt, oo, mo, kd, ax, ay, s0, s1, eo, ea, eb, pr, cm, ch, an, av, wt, f0, f1, p0, p1, wk, ov, mv, os, ms, oe, me, tp, lt, cs))
    (k8 : ∀ i, i < n → g0 = nI i → lz_in g1 (lz_sl kd i) → ¬ lz_in g2 N → post (-8) (nI N, vl, el, tl, st, nI n, et, fe, pe, vt, oo, mo, kd, ax, ay, s0, s1, eo, ea, eb, pr, cm, ch, an, av, wt, f0, f1, p0, p1, wk, ov, mv, os, ms, oe, me, tp, lt, cs))
    (k0 : ∀ i, i < n → g0 = nI i → lz_in g1 (lz_sl kd i) → lz_in g2 N → g1 = 0 → post 0 (nI N, vl, el, tl, st, nI n, et, fe, pe, vt, oo, mo, kd, ax, ay, upd s0 i g2, s1, eo, ea, eb, pr, cm, ch, an, av, wt, f0, f1, p0, p1, wk, ov, mv, os, ms, oe, me, tp, lt, cs)) (k1 : ∀ i, i < n → g0 = nI i → lz_in g1 (lz_sl kd i) → lz_in g2 N → ¬ g1 = 0 → post 0 (nI N, vl, el, tl, st, nI n, et, fe, pe, vt, oo, mo, kd, ax, ay, s0, upd s1 i g2, eo, ea, eb, pr, cm, ch, an, av, wt, f0, f1, p0, p1, wk, ov, mv, os, ms, oe, me, tp, lt, cs)) : wpX_link post (nI N, vl, el, tl, st, nI n, et, fe, pe, vt, oo, mo, kd, ax, ay, s0, s1, eo, ea, eb, pr, cm, ch, an, av, wt, f0, f1, p0, p1, wk, ov, mv, os, ms, oe, me, tp, lt, cs) g0 g1 g2 := by
  refine br_t h0 (xg_isNode (by omega) (lz_br k6 (fun z => ?_)))
  obtain ⟨i, hi, rfl⟩ := z
  have hs2 := lz_sl2 kd i
  have e1 : (nI i).toNatClampNeg = i := nI_clamp (by omega)
  have w : vp_in (nI i) 24 := vp_in_nI (by omega) (by decide)
  refine xg_hasSlot (by omega) (lz_br (fun p => k7 i hi rfl p) (fun p => ?_))
  by_cases r : g2 < 0
  · exact br_t r (k8 i hi rfl p (lz_not_in0 r (by omega)))
  obtain ⟨t, ht, rfl⟩ := nI_of r
  by_cases tt : t < N
  · refine br_f r (br_t (nI_lt tt (by omega)) ?_)
    rw [e1]
    exact br_c (fun y => And.intro w (nm_e (k0 i hi rfl p ⟨t, tt, rfl⟩ y))) (fun y => And.intro w (nm_e (k1 i hi rfl p ⟨t, tt, rfl⟩ y)))
  · refine br_f r (br_f (nI_nlt (by omega) (by omega)) (k8 i hi rfl p ?_))
    rintro ⟨t', a, b⟩
    have := (nI_eq (by omega) (by omega)).mp b
    omega
end
theorem i_vc_link {k : Nat} {u : SX} {v : SY} (I : i_Rel k u v) (hk : k + 5 ≤ 2564) (v1 : Int32) (v2 : Int32) (v3 : Int32) : wpX_link (fun r u' => wpY_link (fun r' v' => r' = r ∧ i_Rel (k + 5) u' v') v v1 v2 v3) u v1 v2 v3 := by
  refine zz_el (P := fun u v => wpX_link (fun r u' => wpY_link (fun r' v' => r' = r ∧ i_Rel (k + 5) u' v') v v1 v2 v3) u v1 v2 v3) ?_ I
  intro NL VL EL TL n m L K st fe pe kd ax ay s0 s1 eo ea eb pr cm ch an av wt f0 f1 p0 p1 wk ov os oe me tp lt cs mk yn yv yw h
  have R := zz_in (k := k + 5) (fe := fe) (pr := pr) (cm := cm) (ch := ch) (f0 := f0) (f1 := f1) (ov := ov) (os := os) (tp := tp) (lt := lt) (mk := mk) (yn := yn) (yv := yv) (yw := yw) h
  have hNL := h.1.1
  have hN : n ≤ 24 := Nat.le_trans h.1.2.2.2.2.1 h.1.1
  have un : ∀ i i', i < n → i' < n → v1 = nI i → v1 = nI i' → i' = i := fun i i' a b c d => (nI_eq (by omega) (by omega)).mp (d.symm.trans c)
  by_cases h0 : st = 0
  · refine xm_link h0 hN hNL (fun a => ?_) (fun i hi a b => ?_) (fun i hi a b c => ?_) (fun i hi a b c d => ?_) (fun i hi a b c d => ?_)
    · exact ym_link h0 hN hNL (fun _ => And.intro rfl R) (fun i hi p => absurd ⟨i, hi, p⟩ a) (fun i hi p => absurd ⟨i, hi, p⟩ a) (fun i hi p => absurd ⟨i, hi, p⟩ a) (fun i hi p => absurd ⟨i, hi, p⟩ a)
    · exact ym_link h0 hN hNL (fun p => absurd ⟨i, hi, a⟩ p) (fun _ _ _ _ => And.intro rfl R) (fun i' hi' p q => absurd (un i i' hi hi' a p ▸ q) b) (fun i' hi' p q => absurd (un i i' hi hi' a p ▸ q) b) (fun i' hi' p q => absurd (un i i' hi hi' a p ▸ q) b)
    · exact ym_link h0 hN hNL (fun p => absurd ⟨i, hi, a⟩ p) (fun i' hi' p q => absurd (by rw [un i i' hi hi' a p]; exact b) q) (fun _ _ _ _ _ => And.intro rfl R) (fun _ _ _ _ p => absurd p c) (fun _ _ _ _ p => absurd p c)
    · refine ym_link h0 hN hNL (fun p => absurd ⟨i, hi, a⟩ p) (fun i' hi' p q => absurd (by rw [un i i' hi hi' a p]; exact b) q) (fun _ _ _ _ p => absurd c p) (fun i' hi' p _ _ _ => ?_) (fun _ _ _ _ _ p => absurd d p)
      have q := un i i' hi hi' a p
      subst q
      obtain ⟨t, ht, rfl⟩ := c
      exact And.intro rfl (zz_in (zz_ln0 h h0 ht))
    · refine ym_link h0 hN hNL (fun p => absurd ⟨i, hi, a⟩ p) (fun i' hi' p q => absurd (by rw [un i i' hi hi' a p]; exact b) q) (fun _ _ _ _ p => absurd c p) (fun _ _ _ _ _ p => absurd p d) (fun i' hi' p _ _ _ => ?_)
      have q := un i i' hi hi' a p
      subst q
      obtain ⟨t, ht, rfl⟩ := c
      exact And.intro rfl (zz_in (zz_ln1 h h0 ht))
  · exact br_f h0 (br_f h0 (And.intro rfl R))
end
