section
/-! pure rows to paste: stores, nI and lN arithmetic, masks, shifts, narrowing, branches by naturals (pk_le, pk_lt, pk_eq), loops (lp1 .. lp16: the measure of the state; rp1 ..: recursion), negatives. Take what you need -/
theorem pk_us {f : Nat → Int32} {k : Nat} {x : Int32} : upd f k x k = x := if_pos rfl
theorem pk_un {f : Nat → Int32} {k j : Nat} {x : Int32} (h : j ≠ k) : upd f k x j = f j := if_neg h
theorem pk_uLs {f : Nat → Int64} {k : Nat} {x : Int64} : vp_updL f k x k = x := if_pos rfl
theorem pk_uLn {f : Nat → Int64} {k j : Nat} {x : Int64} (h : j ≠ k) : vp_updL f k x j = f j := if_neg h
theorem pk_sub {a b : Nat} (h : b ≤ a) : nI a - nI b = nI (a - b) := by
  obtain ⟨c, rfl⟩ : ∃ c, a = c + b := ⟨a - b, by omega⟩
  rw [← nI_add, Int32.add_sub_cancel, Nat.add_sub_cancel]
theorem pk_m1 (n : Nat) : nI (n + 1) + (-1) = nI n := by
  rw [← nI_1, Int32.add_assoc, show (1 : Int32) + (-1) = 0 from rfl, Int32.add_zero]
theorem pk_mul (a b : Nat) : nI a * nI b = nI (a * b) := (Int32.ofNat_mul a b).symm
theorem pk_div {a d : Nat} (ha : a < 2 ^ 31) (h0 : 0 < d) (hd : d < 2 ^ 31) : nI a / nI d = nI (a / d) := by
  apply Int32.toInt_inj.mp
  rw [lg_idiv_nonneg (by rw [nI_toInt ha]; omega) (by rw [nI_toInt hd]; omega), nI_toInt ha, nI_toInt hd, nI_toInt (Nat.lt_of_le_of_lt (Nat.div_le_self a d) ha)]
  first | rfl | exact (Int.natCast_ediv _ _).symm
theorem pk_rem {a d : Nat} (ha : a < 2 ^ 31) (h0 : 0 < d) (hd : d < 2 ^ 31) : nI a - nI a / nI d * nI d = nI (a % d) := by
  rw [pk_div ha h0 hd, pk_mul, pk_sub (Nat.div_mul_le_self a d)]
  exact congrArg nI (by have := Nat.div_add_mod' a d; omega)
theorem pk_sub_toInt {a b : Nat} (ha : a < 2 ^ 30) (hb : b < 2 ^ 30) : (nI a - nI b).toInt = (a : Int) - b := by
  rw [Int32.toInt_sub, nI_toInt (by omega), nI_toInt (by omega)]
  exact Int.bmod_eq_of_le (by omega) (by omega)
theorem pk_sneg {a b : Nat} (hb : b < 2 ^ 30) (h : a < b) : nI a - nI b < 0 := by
  rw [Int32.lt_iff_toInt_lt, pk_sub_toInt (by omega) hb, show (0 : Int32).toInt = 0 from by decide]
  omega
theorem pk_ix (x : Int32) {n : Nat} (hn : n < 2 ^ 31) : x < 0 ∨ nI n ≤ x ∨ ∃ j : Nat, j < n ∧ x = nI j := by
  by_cases h : x < 0
  · exact Or.inl h
  · obtain ⟨j, hj, rfl⟩ := nI_of h
    by_cases h2 : j < n
    · exact Or.inr (Or.inr ⟨j, h2, rfl⟩)
    · exact Or.inr (Or.inl (nI_le (by omega) hj))
theorem pk_le {x y : Int32} {A B : Prop} (a b : Nat) (f : a ≤ b → A) (g : b < a → B) (hx : x = nI a := by rfl) (hy : y = nI b := by rfl) (ha : a < 2 ^ 31 := by omega) (hb : b < 2 ^ 31 := by omega) : (x ≤ y → A) ∧ (¬ x ≤ y → B) := by
  subst hx hy
  rw [nI_leI ha hb]
  exact ⟨f, fun z => g (by omega)⟩
theorem pk_lt {x y : Int32} {A B : Prop} (a b : Nat) (f : a < b → A) (g : b ≤ a → B) (hx : x = nI a := by rfl) (hy : y = nI b := by rfl) (ha : a < 2 ^ 31 := by omega) (hb : b < 2 ^ 31 := by omega) : (x < y → A) ∧ (¬ x < y → B) := by
  subst hx hy
  rw [nI_ltI ha hb]
  exact ⟨f, fun z => g (by omega)⟩
theorem pk_eq {x y : Int32} {A B : Prop} (a b : Nat) (f : a = b → A) (g : a ≠ b → B) (hx : x = nI a := by rfl) (hy : y = nI b := by rfl) (ha : a < 2 ^ 31 := by omega) (hb : b < 2 ^ 31 := by omega) : (x = y → A) ∧ (¬ x = y → B) := by
  subst hx hy
  rw [nI_eq ha hb]
  exact ⟨f, g⟩
theorem pk_in {x : Int32} (n N : Nat) (h : n < N) (hx : x = nI n := by rfl) (hN : N < 2 ^ 31 := by omega) : vp_in x N := by
  subst hx
  exact vp_in_nI h hN
theorem pk_cl {x : Int32} (n : Nat) (hx : x = nI n := by rfl) (h : n < 2 ^ 31 := by omega) : x.toNatClampNeg = n := by
  subst hx
  exact nI_clamp h
theorem pk_tn {n : Nat} (h : n < 2 ^ 32) : (nI n).toBitVec.toNat = n := Nat.mod_eq_of_lt h
theorem pk_and (x : Int32) {m : Int32} (k : Nat) (hm : m.toBitVec.toNat = 2 ^ k - 1) : x &&& m = nI (x.toBitVec.toNat % 2 ^ k) := by
  apply Int32.toBitVec_inj.mp
  apply BitVec.eq_of_toNat_eq
  rw [Int32.toBitVec_and, BitVec.toNat_and, hm, Nat.and_two_pow_sub_one_eq_mod]
  show _ = (BitVec.ofNat 32 _).toNat
  rw [BitVec.toNat_ofNat]
  exact (Nat.mod_eq_of_lt (Nat.lt_of_le_of_lt (Nat.mod_le _ _) x.toBitVec.isLt)).symm
theorem pk_andN {n : Nat} (h : n < 2 ^ 32) {m : Int32} (k : Nat) (hm : m.toBitVec.toNat = 2 ^ k - 1) : nI n &&& m = nI (n % 2 ^ k) := by
  rw [pk_and _ k hm, pk_tn h]
theorem pk_andE (x : Int32) {m : Int32} (k : Nat) (hm : m.toBitVec.toNat = 2 ^ k - 1) : ∃ j : Nat, j < 2 ^ k ∧ x &&& m = nI j := ⟨_, Nat.mod_lt _ (Nat.two_pow_pos k), pk_and x k hm⟩
theorem pk_andIn (x : Int32) {m : Int32} (k : Nat) (hm : m.toBitVec.toNat = 2 ^ k - 1) (hk : k ≤ 30) : vp_in (x &&& m) (2 ^ k) := by
  obtain ⟨j, hj, e⟩ := pk_andE x k hm
  rw [e]
  exact vp_in_nI hj (Nat.lt_of_le_of_lt (Nat.pow_le_pow_right (by decide) hk) (by decide))
theorem pk_shl (a s : Int32) (k : Nat) (hs : (s.toBitVec.smod 32).toNat = k) : (a <<< s).toBitVec.toNat = a.toBitVec.toNat * 2 ^ k % 2 ^ 32 := by
  show (a.toBitVec <<< (s.toBitVec.smod 32).toNat).toNat = _
  rw [hs, BitVec.toNat_shiftLeft, Nat.shiftLeft_eq]
theorem pk_shlN {n : Nat} (s : Int32) (k : Nat) (hs : (s.toBitVec.smod 32).toNat = k) (h : n * 2 ^ k < 2 ^ 32) : nI n <<< s = nI (n * 2 ^ k) := by
  apply Int32.toBitVec_inj.mp
  apply BitVec.eq_of_toNat_eq
  have hn : n < 2 ^ 32 := Nat.lt_of_le_of_lt (Nat.le_mul_of_pos_right n (Nat.two_pow_pos k)) h
  rw [pk_shl _ _ k hs, pk_tn hn, pk_tn h, Nat.mod_eq_of_lt h]
theorem pk_shr (a s : Int32) (k : Nat) (hs : (s.toBitVec.smod 32).toNat = k) : (a >>> s).toInt = a.toInt >>> k := by
  show (a.toBitVec.sshiftRight (s.toBitVec.smod 32).toNat).toInt = _
  rw [hs, BitVec.toInt_sshiftRight]
  rfl
theorem pk_shrN {n : Nat} (h : n < 2 ^ 31) (s : Int32) (k : Nat) (hs : (s.toBitVec.smod 32).toNat = k) : nI n >>> s = nI (n / 2 ^ k) := by
  apply Int32.toInt_inj.mp
  have h2 : n / 2 ^ k ≤ n := Nat.div_le_self _ _
  rw [pk_shr _ _ k hs, nI_toInt h, nI_toInt (by omega), Int.shiftRight_eq_div_pow]
  rfl
theorem pk_ushr (x s : Int32) (k : Nat) (hs : ((s.toUInt32 &&& Int32.toUInt32 31).toBitVec % 32).toNat = k) : (x.toUInt32 >>> (s.toUInt32 &&& Int32.toUInt32 31)).toInt32.toBitVec.toNat = x.toBitVec.toNat / 2 ^ k := by
  have e : (x.toUInt32 >>> (s.toUInt32 &&& Int32.toUInt32 31)).toInt32.toBitVec = x.toBitVec >>> k := by
    rw [← hs]
    exact UInt32.toBitVec_shiftRight _ _
  rw [e, BitVec.toNat_ushiftRight, Nat.shiftRight_eq_div_pow]
theorem pk_ushrN {n : Nat} (hn : n < 2 ^ 32) (s : Int32) (k : Nat) (hs : ((s.toUInt32 &&& Int32.toUInt32 31).toBitVec % 32).toNat = k) : ((nI n).toUInt32 >>> (s.toUInt32 &&& Int32.toUInt32 31)).toInt32 = nI (n / 2 ^ k) := by
  apply Int32.toBitVec_inj.mp
  apply BitVec.eq_of_toNat_eq
  rw [pk_ushr _ s k hs, pk_tn hn, pk_tn (Nat.lt_of_le_of_lt (Nat.div_le_self _ _) hn)]
/-! ===== Int32 by its bits: bt x i ===== -/
def bt (x : Int32) (i : Nat) : Bool := x.toBitVec.getLsbD i
theorem b_ext {x y : Int32} (h : ∀ i, i < 32 → bt x i = bt y i) : x = y := Int32.toBitVec_inj.mp (BitVec.eq_of_getLsbD_eq (fun i hi => h i hi))
theorem b_or (x y : Int32) (i : Nat) : bt (x ||| y) i = (bt x i || bt y i) := by unfold bt; rw [Int32.toBitVec_or, BitVec.getLsbD_or]
theorem b_and (x y : Int32) (i : Nat) : bt (x &&& y) i = (bt x i && bt y i) := by unfold bt; rw [Int32.toBitVec_and, BitVec.getLsbD_and]
theorem b_xor (x y : Int32) (i : Nat) : bt (x ^^^ y) i = (bt x i ^^ bt y i) := by unfold bt; rw [Int32.toBitVec_xor, BitVec.getLsbD_xor]
theorem b_big {x : Int32} {i : Nat} (h : 32 ≤ i) : bt x i = false := BitVec.getLsbD_of_ge _ _ h
theorem b_255 (i : Nat) : bt 255 i = decide (i < 8) := by
  rcases Nat.lt_or_ge i 32 with h | h
  · exact (by decide +kernel : ∀ i, i < 32 → bt 255 i = decide (i < 8)) i h
  · rw [b_big h, decide_eq_false (by omega)]
theorem b_65535 (i : Nat) : bt 65535 i = decide (i < 16) := by
  rcases Nat.lt_or_ge i 32 with h | h
  · exact (by decide +kernel : ∀ i, i < 32 → bt 65535 i = decide (i < 16)) i h
  · rw [b_big h, decide_eq_false (by omega)]
theorem b_m1 : ∀ i, i < 32 → bt (-1) i = true := by decide +kernel
theorem b_0 (i : Nat) : bt 0 i = false := BitVec.getLsbD_zero
theorem s_l : ∀ n, n < 32 → ((nI n &&& 31).toBitVec.smod 32).toNat = n := by decide +kernel
theorem s_u : ∀ n, n < 32 → (((nI n).toUInt32 &&& Int32.toUInt32 31).toBitVec % 32).toNat = n := by decide +kernel
theorem b_shl (n : Nat) (hn : n < 32) (x : Int32) {i : Nat} (hi : i < 32) : bt (x <<< (nI n &&& 31)) i = (decide (n ≤ i) && bt x (i - n)) := by
  unfold bt
  rw [Int32.toBitVec_shiftLeft]
  show (x.toBitVec <<< ((nI n &&& 31).toBitVec.smod 32).toNat).getLsbD i = _
  rw [s_l n hn, BitVec.getLsbD_shiftLeft]
  rcases Nat.lt_or_ge i n with h | h
  · simp [h, Nat.not_le.mpr h]
  · simp [hi, h, Nat.not_lt.mpr h]
theorem b_ushr (n : Nat) (hn : n < 32) (x : Int32) (i : Nat) : bt ((x.toUInt32 >>> ((nI n).toUInt32 &&& Int32.toUInt32 31)).toInt32) i = bt x (n + i) := by
  show (x.toUInt32 >>> ((nI n).toUInt32 &&& Int32.toUInt32 31)).toBitVec.getLsbD i = x.toUInt32.toBitVec.getLsbD (n + i)
  rw [UInt32.toBitVec_shiftRight]
  show (x.toUInt32.toBitVec >>> (((nI n).toUInt32 &&& Int32.toUInt32 31).toBitVec % 32).toNat).getLsbD i = _
  rw [s_u n hn, BitVec.getLsbD_ushiftRight]
theorem b_sshr (n : Nat) (hn : n < 32) (x : Int32) {i : Nat} (hi : i < 32) : bt (x >>> (nI n &&& 31)) i = if n + i < 32 then bt x (n + i) else bt x 31 := by
  unfold bt
  rw [Int32.toBitVec_shiftRight]
  show (x.toBitVec.sshiftRight ((nI n &&& 31).toBitVec.smod 32).toNat).getLsbD i = _
  rw [s_l n hn, BitVec.getLsbD_sshiftRight, BitVec.msb_eq_getLsbD_last]
  simp [hi]
theorem b_shl8 (x : Int32) {i : Nat} (hi : i < 32) : bt (x <<< ((8 : Int32) &&& 31)) i = (decide (8 ≤ i) && bt x (i - 8)) := b_shl 8 (by omega) x hi
theorem b_shl16 (x : Int32) {i : Nat} (hi : i < 32) : bt (x <<< ((16 : Int32) &&& 31)) i = (decide (16 ≤ i) && bt x (i - 16)) := b_shl 16 (by omega) x hi
theorem b_shl24 (x : Int32) {i : Nat} (hi : i < 32) : bt (x <<< ((24 : Int32) &&& 31)) i = (decide (24 ≤ i) && bt x (i - 24)) := b_shl 24 (by omega) x hi
theorem b_sshr8 (x : Int32) {i : Nat} (hi : i < 32) : bt (x >>> ((8 : Int32) &&& 31)) i = if 8 + i < 32 then bt x (8 + i) else bt x 31 := b_sshr 8 (by omega) x hi
theorem nx_and (a b : Nat) : nI a &&& nI b = nI (a &&& b) := by
  apply Int32.toBitVec_inj.1
  show BitVec.ofNat 32 a &&& BitVec.ofNat 32 b = BitVec.ofNat 32 (a &&& b)
  apply BitVec.eq_of_getLsbD_eq
  intro i hi
  simp [hi]
theorem ts_nf {x : Bool} (h : ¬ x = false) : x = true := by cases x <;> first | rfl | exact absurd rfl h
theorem ts_nt {x : Bool} (h : ¬ x = true) : x = false := by cases x <;> first | rfl | exact absurd rfl h
theorem ts_bit {w : Int64} {s : UInt64} {j : Nat} (hj : j < 64) (hs : s.toNat = j) : ((w.toUInt64 >>> s).toInt64 &&& 1) = 0 ↔ w.toBitVec.getLsbD j = false := by
  have e : (w.toUInt64 >>> s).toInt64.toBitVec = w.toBitVec >>> j := by
    apply BitVec.eq_of_toNat_eq
    show (w.toUInt64 >>> s).toNat = _
    rw [UInt64.toNat_shiftRight, hs, Nat.mod_eq_of_lt hj, BitVec.toNat_ushiftRight]
    rfl
  rw [← Int64.toBitVec_inj, Int64.toBitVec_and, e]
  show w.toBitVec >>> j &&& 1#64 = 0#64 ↔ _
  constructor
  · intro h
    have t := congrArg (fun x => x.getLsbD 0) h
    simpa using t
  · intro h
    apply BitVec.eq_of_getLsbD_eq
    intro i hi
    cases i with
    | zero => simp [h]
    | succ i => simp
theorem wb_tb (n : Nat) : (lN n).toBitVec = BitVec.ofNat 64 n := rfl
theorem wb_inj {a b : Int64} (h : a.toBitVec = b.toBitVec) : a = b := Int64.toBitVec_inj.mp h
theorem wb_tn {n : Nat} (h : n < 2 ^ 64) : (lN n).toBitVec.toNat = n := by rw [wb_tb, BitVec.toNat_ofNat, Nat.mod_eq_of_lt h]
theorem wb_of (x : Int64) : ∃ n, n < 2 ^ 64 ∧ x = lN n := ⟨x.toBitVec.toNat, x.toBitVec.isLt, wb_inj (by rw [wb_tb]; simp)⟩
theorem wb_of32 (x : Int32) : ∃ n, n < 2 ^ 32 ∧ x = nI n := ⟨x.toBitVec.toNat, x.toBitVec.isLt, Int32.toBitVec_inj.mp (by show _ = BitVec.ofNat 32 _; simp)⟩
theorem wb_c : ∀ k, k < 64 → ((nI k).toInt64 &&& 63) = lN k := by decide +kernel
theorem wb_cu : ∀ k, k < 64 → ((nI k).toInt64.toUInt64 &&& Int64.toUInt64 63) = UInt64.ofNat k := by decide +kernel
theorem wb_sm : ∀ k, k < 64 → (BitVec.ofNat 64 k).smod 64 = BitVec.ofNat 64 k := by decide +kernel
theorem wb_pw {a b : Nat} (h : a ≤ b) : 2 ^ b = 2 ^ a * 2 ^ (b - a) := by rw [← Nat.pow_add]; congr 1; omega
theorem wb_lt2 {a b : Nat} (h : a < b) : 2 ^ a < 2 ^ b := Nat.pow_lt_pow_right (by decide) h
theorem wb_mod (n : Nat) : lN n = lN (n % 2 ^ 64) := wb_inj (by rw [wb_tb, wb_tb]; apply BitVec.eq_of_toNat_eq; rw [BitVec.toNat_ofNat, BitVec.toNat_ofNat, Nat.mod_mod])
theorem wb_shr {n k : Nat} (hn : n < 2 ^ 64) (hk : k < 64) : ((lN n).toUInt64 >>> ((nI k).toInt64.toUInt64 &&& Int64.toUInt64 63)).toInt64 = lN (n / 2 ^ k) := by
  rw [wb_cu k hk]
  apply wb_inj
  apply BitVec.eq_of_toNat_eq
  show ((lN n).toUInt64 >>> UInt64.ofNat k).toNat = (BitVec.ofNat 64 _).toNat
  have h1 : (UInt64.ofNat k).toNat = k := by
    show (BitVec.ofNat 64 k).toNat = k
    rw [BitVec.toNat_ofNat, Nat.mod_eq_of_lt (by omega)]
  have h2 : (lN n).toUInt64.toNat = n := wb_tn hn
  rw [UInt64.toNat_shiftRight, h1, h2, Nat.mod_eq_of_lt hk, Nat.shiftRight_eq_div_pow, BitVec.toNat_ofNat, Nat.mod_eq_of_lt (Nat.lt_of_le_of_lt (Nat.div_le_self _ _) hn)]
theorem wb_shl (n : Nat) {k : Nat} (hk : k < 64) : lN n <<< ((nI k).toInt64 &&& 63) = lN (n * 2 ^ k) := by
  rw [wb_c k hk]
  apply wb_inj
  rw [Int64.toBitVec_shiftLeft, wb_tb, wb_tb, wb_tb, wb_sm k hk]
  apply BitVec.eq_of_toNat_eq
  rw [BitVec.shiftLeft_eq', BitVec.toNat_shiftLeft, BitVec.toNat_ofNat, BitVec.toNat_ofNat, BitVec.toNat_ofNat, Nat.mod_eq_of_lt (show k < 2 ^ 64 by omega), Nat.shiftLeft_eq, Nat.mul_mod, Nat.mod_mod, ← Nat.mul_mod]
noncomputable def b01 (P : Prop) : Nat := @ite Nat P (Classical.propDecidable P) 1 0
theorem b01_t {P : Prop} (h : P) : b01 P = 1 := by unfold b01; rw [if_pos h]
theorem b01_f {P : Prop} (h : ¬ P) : b01 P = 0 := by unfold b01; rw [if_neg h]
theorem b01_le (P : Prop) : b01 P ≤ 1 := by
  rcases Classical.em P with h | h
  · rw [b01_t h]; omega
  · rw [b01_f h]; omega
theorem b01_mono {P Q : Prop} (h : P → Q) : b01 P ≤ b01 Q := by
  rcases Classical.em P with hp | hp
  · rw [b01_t hp, b01_t (h hp)]; omega
  · rw [b01_f hp]; omega
noncomputable def cn (P : Nat → Prop) : Nat → Nat
  | 0 => 0
  | k + 1 => cn P k + b01 (P k)
theorem cn_mono {P Q : Nat → Prop} : ∀ {N : Nat}, (∀ k, k < N → P k → Q k) → cn P N ≤ cn Q N
  | 0, _ => Nat.le_refl _
  | N + 1, h => by
    have a := cn_mono (P := P) (Q := Q) (N := N) (fun k hk => h k (by omega))
    have b := b01_mono (h N (by omega))
    simp only [cn]; omega
theorem cn_lt {P Q : Nat → Prop} {a : Nat} (hp : ¬ P a) (hq : Q a) : ∀ {N : Nat}, (∀ k, k < N → P k → Q k) → a < N → cn P N < cn Q N
  | 0, _, h => by omega
  | N + 1, h, ha => by
    simp only [cn]
    rcases Nat.lt_or_ge a N with z | z
    · have x := cn_lt hp hq (N := N) (fun k hk => h k (by omega)) z
      have b := b01_mono (h N (by omega))
      omega
    · have e : a = N := by omega
      subst e
      have x := cn_mono (P := P) (Q := Q) (N := a) (fun k hk => h k (by omega))
      rw [b01_t hq, b01_f hp]; omega
theorem cn_le (P : Nat → Prop) : ∀ N, cn P N ≤ N
  | 0 => Nat.le_refl _
  | N + 1 => by have := cn_le P N; have := b01_le (P N); simp only [cn]; omega
theorem cn_eq {P Q : Nat → Prop} {N : Nat} (h : ∀ k, k < N → (P k ↔ Q k)) : cn P N = cn Q N :=
  Nat.le_antisymm (cn_mono fun k hk => (h k hk).mp) (cn_mono fun k hk => (h k hk).mpr)
theorem cn_add {P : Nat → Prop} {a : Nat} (hp : ¬ P a) : ∀ {N : Nat}, a < N → cn (fun k => P k ∨ k = a) N = cn P N + 1
  | 0, h => by omega
  | N + 1, h => by
    simp only [cn]
    rcases Nat.lt_or_ge a N with z | z
    · rw [cn_add hp z]
      have : b01 (P N ∨ N = a) = b01 (P N) := Nat.le_antisymm (b01_mono fun q => q.elim id (fun e => by omega)) (b01_mono Or.inl)
      omega
    · have e : a = N := by omega
      subst e
      rw [cn_eq (P := fun k => P k ∨ k = a) (Q := P) (fun k hk => ⟨fun q => q.elim id (fun e => by omega), Or.inl⟩), b01_t (Or.inr rfl), b01_f hp]
end
section
/-! the meta word: its parts, and the words that the class writes -/
def tm_tg (x : Int32) : Int32 := x &&& 1
def tm_bs (x : Int32) : Int32 := ((x.toUInt32 >>> ((1 : Int32).toUInt32 &&& Int32.toUInt32 31)).toInt32) &&& 63
def tm_ln (x : Int32) : Int32 := ((x.toUInt32 >>> ((7 : Int32).toUInt32 &&& Int32.toUInt32 31)).toInt32) &&& 63
def tm_pm (x : Int32) : Int32 := ((x.toUInt32 >>> ((13 : Int32).toUInt32 &&& Int32.toUInt32 31)).toInt32) &&& 255
def tm_ot (x : Int32) : Int32 := (((x.toUInt32 >>> ((21 : Int32).toUInt32 &&& Int32.toUInt32 31)).toInt32) &&& 63) - 1
def tm_pk (q b l p t : Nat) : Nat := 2 ^ 1 * (2 ^ 6 * (2 ^ 6 * (2 ^ 8 * t + p) + l) + b) + q
theorem tm_pk_lt {q b l p t : Nat} (hq : q < 2) (hb : b < 64) (hl : l < 64) (hp : p < 256) (ht : t < 64) : tm_pk q b l p t < 2 ^ 27 := by
  unfold tm_pk; omega
theorem tm_pk_lt32 {q b l p t : Nat} (hq : q < 2) (hb : b < 64) (hl : l < 64) (hp : p < 256) (ht : t < 64) : tm_pk q b l p t < 2 ^ 32 :=
  Nat.lt_trans (tm_pk_lt hq hb hl hp ht) (by decide)
theorem tm_dlt {n k : Nat} (h : n < 2 ^ 32) : n / 2 ^ k < 2 ^ 32 := Nat.lt_of_le_of_lt (Nat.div_le_self _ _) h
theorem tm_tg_pk {q b l p t : Nat} (hq : q < 2) (hb : b < 64) (hl : l < 64) (hp : p < 256) (ht : t < 64) : tm_tg (nI (tm_pk q b l p t)) = nI q := by
  unfold tm_tg
  rw [pk_andN (tm_pk_lt32 hq hb hl hp ht) 1 (by decide)]
  exact congrArg nI (by unfold tm_pk; omega)
theorem tm_bs_pk {q b l p t : Nat} (hq : q < 2) (hb : b < 64) (hl : l < 64) (hp : p < 256) (ht : t < 64) : tm_bs (nI (tm_pk q b l p t)) = nI b := by
  unfold tm_bs
  have h := tm_pk_lt32 hq hb hl hp ht
  rw [pk_ushrN h 1 1 (by decide), pk_andN (tm_dlt h) 6 (by decide)]
  exact congrArg nI (by unfold tm_pk; omega)
theorem tm_ln_pk {q b l p t : Nat} (hq : q < 2) (hb : b < 64) (hl : l < 64) (hp : p < 256) (ht : t < 64) : tm_ln (nI (tm_pk q b l p t)) = nI l := by
  unfold tm_ln
  have h := tm_pk_lt32 hq hb hl hp ht
  rw [pk_ushrN h 7 7 (by decide), pk_andN (tm_dlt h) 6 (by decide)]
  exact congrArg nI (by unfold tm_pk; omega)
theorem tm_pm_pk {q b l p t : Nat} (hq : q < 2) (hb : b < 64) (hl : l < 64) (hp : p < 256) (ht : t < 64) : tm_pm (nI (tm_pk q b l p t)) = nI p := by
  unfold tm_pm
  have h := tm_pk_lt32 hq hb hl hp ht
  rw [pk_ushrN h 13 13 (by decide), pk_andN (tm_dlt h) 8 (by decide)]
  exact congrArg nI (by unfold tm_pk; omega)
theorem tm_ot_pk {q b l p t : Nat} (hq : q < 2) (hb : b < 64) (hl : l < 64) (hp : p < 256) (ht : t < 64) : tm_ot (nI (tm_pk q b l p t)) = nI t - 1 := by
  unfold tm_ot
  have h := tm_pk_lt32 hq hb hl hp ht
  rw [pk_ushrN h 21 21 (by decide), pk_andN (tm_dlt h) 6 (by decide)]
  exact congrArg (fun z => nI z - 1) (by unfold tm_pk; omega)
theorem tm_bn (n : Nat) {i : Nat} (hi : i < 32) : bt (nI n) i = n.testBit i := by
  unfold bt
  show (BitVec.ofNat 32 n).getLsbD i = _
  rw [BitVec.getLsbD_ofNat, decide_eq_true hi, Bool.true_and]
theorem tm_tz {x k j : Nat} (hx : x < 2 ^ k) (hj : k ≤ j) : x.testBit j = false :=
  Nat.testBit_lt_two_pow (Nat.lt_of_lt_of_le hx (Nat.pow_le_pow_right (by decide) hj))
theorem tm_bp {q b l p : Nat} (t : Nat) (hq : q < 2) (hb : b < 64) (hl : l < 64) (hp : p < 256) (i : Nat) : (tm_pk q b l p t).testBit i = if i < 1 then q.testBit i else if i - 1 < 6 then b.testBit (i - 1) else if i - 1 - 6 < 6 then l.testBit (i - 1 - 6) else if i - 1 - 6 - 6 < 8 then p.testBit (i - 1 - 6 - 6) else t.testBit (i - 1 - 6 - 6 - 8) := by
  unfold tm_pk
  rw [Nat.testBit_two_pow_mul_add _ (show q < 2 ^ 1 from hq), Nat.testBit_two_pow_mul_add _ (show b < 2 ^ 6 from hb), Nat.testBit_two_pow_mul_add _ (show l < 2 ^ 6 from hl), Nat.testBit_two_pow_mul_add _ (show p < 2 ^ 8 from hp)]
/-- the bits of a packed word, by where they lie -/
theorem tm_b0 {q b l p : Nat} (t : Nat) (hq : q < 2) (hb : b < 64) (hl : l < 64) (hp : p < 256) {i : Nat} (h : i < 1) : bt (nI (tm_pk q b l p t)) i = q.testBit i := by
  rw [tm_bn _ (by omega), tm_bp t hq hb hl hp, if_pos h]
theorem tm_b1 {q b l p : Nat} (t : Nat) (hq : q < 2) (hb : b < 64) (hl : l < 64) (hp : p < 256) {i : Nat} (h : 1 ≤ i) (h2 : i < 7) : bt (nI (tm_pk q b l p t)) i = b.testBit (i - 1) := by
  rw [tm_bn _ (by omega), tm_bp t hq hb hl hp, if_neg (by omega), if_pos (by omega)]
theorem tm_b7 {q b l p : Nat} (t : Nat) (hq : q < 2) (hb : b < 64) (hl : l < 64) (hp : p < 256) {i : Nat} (h : 7 ≤ i) (h2 : i < 13) : bt (nI (tm_pk q b l p t)) i = l.testBit (i - 7) := by
  rw [tm_bn _ (by omega), tm_bp t hq hb hl hp, if_neg (by omega), if_neg (by omega), if_pos (by omega), show i - 1 - 6 = i - 7 by omega]
theorem tm_b13 {q b l p : Nat} (t : Nat) (hq : q < 2) (hb : b < 64) (hl : l < 64) (hp : p < 256) {i : Nat} (h : 13 ≤ i) (h2 : i < 21) : bt (nI (tm_pk q b l p t)) i = p.testBit (i - 13) := by
  rw [tm_bn _ (by omega), tm_bp t hq hb hl hp, if_neg (by omega), if_neg (by omega), if_neg (by omega), if_pos (by omega), show i - 1 - 6 - 6 = i - 13 by omega]
theorem tm_b21 {q b l p : Nat} (t : Nat) (hq : q < 2) (hb : b < 64) (hl : l < 64) (hp : p < 256) {i : Nat} (h : 21 ≤ i) (h2 : i < 32) : bt (nI (tm_pk q b l p t)) i = t.testBit (i - 21) := by
  rw [tm_bn _ (by omega), tm_bp t hq hb hl hp, if_neg (by omega), if_neg (by omega), if_neg (by omega), if_neg (by omega), show i - 1 - 6 - 6 - 8 = i - 21 by omega]
theorem tm_sh {x : Nat} (n : Nat) (hn : n < 32) {i : Nat} (hi : i < 32) : bt (nI x <<< (nI n &&& 31)) i = (decide (n ≤ i) && x.testBit (i - n)) := by
  rw [b_shl n hn _ hi, tm_bn _ (by omega)]
theorem tm_shT {x : Nat} (n : Nat) (hn : n < 32) {i : Nat} (hi : i < 32) (h : n ≤ i) : bt (nI x <<< (nI n &&& 31)) i = x.testBit (i - n) := by
  rw [tm_sh n hn hi, decide_eq_true h, Bool.true_and]
theorem tm_shF {x : Nat} (n : Nat) (hn : n < 32) {i : Nat} (hi : i < 32) (h : ¬ n ≤ i) : bt (nI x <<< (nI n &&& 31)) i = false := by
  rw [tm_sh n hn hi, decide_eq_false h, Bool.false_and]
theorem tm_shZ {x k : Nat} (n : Nat) (hn : n < 32) {i : Nat} (hi : i < 32) (hx : x < 2 ^ k) (h : k + n ≤ i) : bt (nI x <<< (nI n &&& 31)) i = false := by
  rw [tm_sh n hn hi, tm_tz hx (by omega), Bool.and_false]
theorem tm_mr : ∀ i, i < 32 → bt (-8191) i = decide (i < 1 ∨ 13 ≤ i) := by decide +kernel
theorem tm_mp : ∀ i, i < 32 → bt (-2088961) i = decide (i < 13 ∨ 21 ≤ i) := by decide +kernel
theorem tm_mt : ∀ i, i < 32 → bt (-132120577) i = decide (i < 21 ∨ 27 ≤ i) := by decide +kernel
theorem tm_oa {x k a b : Int32} {i : Nat} (h : bt k i = true) (ha : bt a i = false) (hb : bt b i = false) : bt (((x &&& k) ||| a) ||| b) i = bt x i := by
  rw [b_or, b_or, b_and, h, ha, hb, Bool.and_true, Bool.or_false, Bool.or_false]
theorem tm_ob {x k a b : Int32} {i : Nat} (h : bt k i = false) (hb : bt b i = false) : bt (((x &&& k) ||| a) ||| b) i = bt a i := by
  rw [b_or, b_or, b_and, h, hb, Bool.and_false, Bool.or_false, Bool.false_or]
theorem tm_oc {x k a b : Int32} {i : Nat} (h : bt k i = false) (ha : bt a i = false) : bt (((x &&& k) ||| a) ||| b) i = bt b i := by
  rw [b_or, b_or, b_and, h, ha, Bool.and_false, Bool.false_or, Bool.false_or]
theorem tm_od {x k a : Int32} {i : Nat} (h : bt k i = true) (ha : bt a i = false) : bt ((x &&& k) ||| a) i = bt x i := by
  rw [b_or, b_and, h, ha, Bool.and_true, Bool.or_false]
theorem tm_oe {x k a : Int32} {i : Nat} (h : bt k i = false) : bt ((x &&& k) ||| a) i = bt a i := by
  rw [b_or, b_and, h, Bool.and_false, Bool.false_or]
/-- withRange -/
theorem tm_wr {q b l p t b' l' : Nat} (hq : q < 2) (hb : b < 64) (hl : l < 64) (hp : p < 256) (hb' : b' < 64) (hl' : l' < 64) : ((nI (tm_pk q b l p t) &&& (-8191)) ||| (nI b' <<< ((1 : Int32) &&& 31))) ||| (nI l' <<< ((7 : Int32) &&& 31)) = nI (tm_pk q b' l' p t) := by
  show ((nI (tm_pk q b l p t) &&& (-8191)) ||| (nI b' <<< (nI 1 &&& 31))) ||| (nI l' <<< (nI 7 &&& 31)) = _
  apply b_ext
  intro i hi
  have hm := tm_mr i hi
  rcases Nat.lt_or_ge i 1 with h | h
  · rw [tm_b0 t hq hb' hl' hp h, tm_oa (hm.trans (decide_eq_true (Or.inl h))) (tm_shF 1 (by decide) hi (by omega)) (tm_shF 7 (by decide) hi (by omega)), tm_b0 t hq hb hl hp h]
  rcases Nat.lt_or_ge i 7 with h2 | h2
  · rw [tm_b1 t hq hb' hl' hp h h2, tm_ob (hm.trans (decide_eq_false (by omega))) (tm_shF 7 (by decide) hi (by omega))]
    exact tm_shT 1 (by decide) hi h
  rcases Nat.lt_or_ge i 13 with h3 | h3
  · rw [tm_b7 t hq hb' hl' hp h2 h3, tm_oc (hm.trans (decide_eq_false (by omega))) (tm_shZ (k := 6) 1 (by decide) hi hb' (by omega))]
    exact tm_shT 7 (by decide) hi h2
  have hk := tm_oa (x := nI (tm_pk q b l p t)) (hm.trans (decide_eq_true (Or.inr h3))) (tm_shZ (k := 6) 1 (by decide) hi hb' (by omega)) (tm_shZ (k := 6) 7 (by decide) hi hl' (by omega))
  refine Eq.trans hk ?_
  rcases Nat.lt_or_ge i 21 with h4 | h4
  · rw [tm_b13 t hq hb' hl' hp h3 h4, tm_b13 t hq hb hl hp h3 h4]
  · rw [tm_b21 t hq hb' hl' hp h4 hi, tm_b21 t hq hb hl hp h4 hi]
/-- withPermsMasked -/
theorem tm_wp {q b l p t p' : Nat} (hq : q < 2) (hb : b < 64) (hl : l < 64) (hp : p < 256) (hp' : p' < 256) : (nI (tm_pk q b l p t) &&& (-2088961)) ||| (nI p' <<< ((13 : Int32) &&& 31)) = nI (tm_pk q b l p' t) := by
  apply b_ext
  intro i hi
  have hm := tm_mp i hi
  rcases Nat.lt_or_ge i 13 with h | h
  · have hk := tm_od (x := nI (tm_pk q b l p t)) (hm.trans (decide_eq_true (Or.inl h))) (tm_shF (x := p') 13 (by decide) hi (by omega))
    refine Eq.trans hk ?_
    rcases Nat.lt_or_ge i 1 with h1 | h1
    · rw [tm_b0 t hq hb hl hp h1, tm_b0 t hq hb hl hp' h1]
    rcases Nat.lt_or_ge i 7 with h2 | h2
    · rw [tm_b1 t hq hb hl hp h1 h2, tm_b1 t hq hb hl hp' h1 h2]
    · rw [tm_b7 t hq hb hl hp h2 h, tm_b7 t hq hb hl hp' h2 h]
  rcases Nat.lt_or_ge i 21 with h4 | h4
  · rw [tm_b13 t hq hb hl hp' h h4, tm_oe (hm.trans (decide_eq_false (by omega)))]
    exact tm_shT 13 (by decide) hi h
  · have hk := tm_od (x := nI (tm_pk q b l p t)) (hm.trans (decide_eq_true (Or.inr h4))) (tm_shZ (k := 8) 13 (by decide) hi hp' (by omega))
    refine Eq.trans hk ?_
    rw [tm_b21 t hq hb hl hp h4 hi, tm_b21 t hq hb hl hp' h4 hi]
/-- withType -/
theorem tm_wt {q b l p t t' : Nat} (hq : q < 2) (hb : b < 64) (hl : l < 64) (hp : p < 256) (ht : t < 64) (ht' : t' < 64) : (nI (tm_pk q b l p t) &&& (-132120577)) ||| (nI t' <<< ((21 : Int32) &&& 31)) = nI (tm_pk q b l p t') := by
  apply b_ext
  intro i hi
  have hm := tm_mt i hi
  rcases Nat.lt_or_ge i 21 with h | h
  · have hk := tm_od (x := nI (tm_pk q b l p t)) (hm.trans (decide_eq_true (Or.inl h))) (tm_shF (x := t') 21 (by decide) hi (by omega))
    refine Eq.trans hk ?_
    rcases Nat.lt_or_ge i 1 with h1 | h1
    · rw [tm_b0 t hq hb hl hp h1, tm_b0 t' hq hb hl hp h1]
    rcases Nat.lt_or_ge i 7 with h2 | h2
    · rw [tm_b1 t hq hb hl hp h1 h2, tm_b1 t' hq hb hl hp h1 h2]
    rcases Nat.lt_or_ge i 13 with h3 | h3
    · rw [tm_b7 t hq hb hl hp h2 h3, tm_b7 t' hq hb hl hp h2 h3]
    · rw [tm_b13 t hq hb hl hp h3 h, tm_b13 t' hq hb hl hp h3 h]
  rcases Nat.lt_or_ge i 27 with h4 | h4
  · rw [tm_b21 t' hq hb hl hp h hi, tm_oe (hm.trans (decide_eq_false (by omega)))]
    exact tm_shT 21 (by decide) hi h
  · have hk := tm_od (x := nI (tm_pk q b l p t)) (hm.trans (decide_eq_true (Or.inr h4))) (tm_shZ (k := 6) 21 (by decide) hi ht' (by omega))
    refine Eq.trans hk ?_
    rw [tm_b21 t hq hb hl hp h hi, tm_b21 t' hq hb hl hp h hi, tm_tz (k := 6) ht (by omega), tm_tz (k := 6) ht' (by omega)]
theorem tm_am {p : Nat} (hp : p < 256) (y : Int32) : ∃ p', p' < 256 ∧ nI p &&& y = nI p' := by
  refine ⟨(nI p &&& y).toBitVec.toNat, ?_, ?_⟩
  · rw [Int32.toBitVec_and, BitVec.toNat_and, pk_tn (by omega)]
    exact Nat.lt_of_le_of_lt Nat.and_le_left hp
  · apply Int32.toBitVec_inj.1
    show _ = BitVec.ofNat 32 _
    simp
theorem tm_w255 : ∀ m, m < 33 → ((1 : Int32) ||| (nI m <<< ((7 : Int32) &&& 31))) ||| 2088960 = nI (tm_pk 1 0 m 255 0) := by decide +kernel
theorem tm_w17 : ∀ m, m < 33 → ((1 : Int32) ||| (nI m <<< ((7 : Int32) &&& 31))) ||| 139264 = nI (tm_pk 1 0 m 17 0) := by decide +kernel
/-- span -/
theorem tm_span {b l : Nat} (h0 : 0 < l) (h : b + l ≤ 32) {i : Nat} (hi : i < 32) : bt ((((-1 : Int32).toUInt32 >>> ((32 - nI l).toUInt32 &&& Int32.toUInt32 31)).toInt32) <<< (nI b &&& 31)) i = decide (b ≤ i ∧ i < b + l) := by
  have e : (32 : Int32) - nI l = nI (32 - l) := pk_sub (a := 32) (by omega)
  rw [e, b_shl b (by omega) _ hi, b_ushr (32 - l) (by omega)]
  rcases Nat.lt_or_ge i b with h1 | h1
  · rw [decide_eq_false (by omega), decide_eq_false (by omega), Bool.false_and]
  rcases Nat.lt_or_ge i (b + l) with h2 | h2
  · rw [decide_eq_true h1, decide_eq_true (And.intro h1 h2), b_m1 _ (by omega), Bool.true_and]
  · rw [decide_eq_true h1, decide_eq_false (by omega), b_big (by omega), Bool.true_and]
end
section
/-! single bits of ints and longs -/
theorem tm_az {y c : Int32} {k : Nat} (hk : k < 32) (hc : ∀ i, i < 32 → bt c i = decide (i = k)) : y &&& c = 0 ↔ bt y k = false := by
  constructor
  · intro h
    have t := congrArg (fun z => bt z k) h
    simp only [b_and, hc k hk, b_0, decide_true, Bool.and_true] at t
    exact t
  · intro h
    apply b_ext
    intro i hi
    rw [b_and, hc i hi, b_0]
    by_cases e : i = k
    · subst e; rw [h, Bool.false_and]
    · rw [decide_eq_false e, Bool.and_false]
theorem tm_ac {y c : Int32} {k : Nat} (hk : k < 32) (hc : ∀ i, i < 32 → bt c i = decide (i = k)) : y &&& c = c ↔ bt y k = true := by
  constructor
  · intro h
    have t := congrArg (fun z => bt z k) h
    simp only [b_and, hc k hk, decide_true, Bool.and_true] at t
    exact t
  · intro h
    apply b_ext
    intro i hi
    rw [b_and, hc i hi]
    by_cases e : i = k
    · subst e; rw [h, Bool.true_and]
    · rw [decide_eq_false e, Bool.and_false]
theorem tm_c1 : ∀ i, i < 32 → bt 1 i = decide (i = 0) := by decide +kernel
theorem tm_c4 : ∀ i, i < 32 → bt 4 i = decide (i = 2) := by decide +kernel
theorem tm_c16 : ∀ i, i < 32 → bt 16 i = decide (i = 4) := by decide +kernel
theorem tm_c32 : ∀ i, i < 32 → bt 32 i = decide (i = 5) := by decide +kernel
theorem tm_c64 : ∀ i, i < 32 → bt 64 i = decide (i = 6) := by decide +kernel
theorem tm_c128 : ∀ i, i < 32 → bt 128 i = decide (i = 7) := by decide +kernel
theorem tm_c144 : ∀ i, i < 32 → bt 144 i = decide (i = 7 ∨ i = 4) := by decide +kernel
theorem tm_nT {x : Bool} : ¬ x = false ↔ x = true := by cases x <;> simp
theorem tm_nF {x : Bool} : ¬ x = true ↔ x = false := by cases x <;> simp
theorem tm_z4 {y : Int32} : y &&& 4 = 0 ↔ bt y 2 = false := tm_az (by decide) tm_c4
theorem tm_z16 {y : Int32} : y &&& 16 = 0 ↔ bt y 4 = false := tm_az (by decide) tm_c16
theorem tm_z32 {y : Int32} : y &&& 32 = 0 ↔ bt y 5 = false := tm_az (by decide) tm_c32
theorem tm_z64 {y : Int32} : y &&& 64 = 0 ↔ bt y 6 = false := tm_az (by decide) tm_c64
theorem tm_z128 {y : Int32} : y &&& 128 = 0 ↔ bt y 7 = false := tm_az (by decide) tm_c128
theorem tm_q16 {y : Int32} : y &&& 16 = 16 ↔ bt y 4 = true := tm_ac (by decide) tm_c16
theorem tm_q128 {y : Int32} : y &&& 128 = 128 ↔ bt y 7 = true := tm_ac (by decide) tm_c128
theorem tm_q144 {y : Int32} : y &&& 144 = 144 ↔ bt y 7 = true ∧ bt y 4 = true := by
  constructor
  · intro h
    have t := fun k => congrArg (fun z => bt z k) h
    have t7 := t 7
    have t4 := t 4
    simp only [b_and, tm_c144 7 (by decide), tm_c144 4 (by decide)] at t7 t4
    exact ⟨by simpa using t7, by simpa using t4⟩
  · intro h
    apply b_ext
    intro i hi
    rw [b_and, tm_c144 i hi]
    by_cases e : i = 7 ∨ i = 4
    · rcases e with e | e
      · subst e; rw [h.1]; rfl
      · subst e; rw [h.2]; rfl
    · rw [decide_eq_false e, Bool.and_false]
/-- the bit n of y, as the code asks for it -/
theorem tm_bz {y : Int32} {n : Nat} (hn : n < 32) : ((y.toUInt32 >>> ((nI n).toUInt32 &&& Int32.toUInt32 31)).toInt32 &&& 1) = 0 ↔ bt y n = false := by
  rw [tm_az (k := 0) (by decide) tm_c1, b_ushr n hn, Nat.add_zero]
theorem tm_bv {y : Int32} {n : Nat} (hn : n < 32) : ((y.toUInt32 >>> ((nI n).toUInt32 &&& Int32.toUInt32 31)).toInt32 &&& 1) = nI (b01 (bt y n = true)) := by
  obtain ⟨j, hj, e⟩ := pk_andE ((y.toUInt32 >>> ((nI n).toUInt32 &&& Int32.toUInt32 31)).toInt32) (m := 1) 1 (by decide)
  have hz := tm_bz (y := y) hn
  rw [e] at hz ⊢
  by_cases h : bt y n = true
  · rw [b01_t h]
    have : j ≠ 0 := by
      intro z
      subst z
      have := hz.mp nI_0
      rw [h] at this
      exact absurd this (by decide)
    exact congrArg nI (by omega)
  · rw [b01_f h]
    have h2 : nI j = nI 0 := (hz.mpr (tm_nF.mp h)).trans nI_0.symm
    exact h2
theorem tm_i1 : ∀ l, l < 32 → ∀ i, i < 32 → bt ((1 : Int32) <<< (nI l &&& 31)) i = decide (i = l) := by decide +kernel
def tm_bl (x : Int64) (j : Nat) : Bool := x.toBitVec.getLsbD j
theorem tm_l1 {s j : Nat} (hs : s < 64) (hj : j < 64) : tm_bl ((1 : Int64) <<< ((nI s).toInt64 &&& 63)) j = decide (j = s) := by
  have e : (1 : Int64) <<< ((nI s).toInt64 &&& 63) = lN (1 * 2 ^ s) := wb_shl 1 hs
  unfold tm_bl
  rw [e, wb_tb, BitVec.getLsbD_ofNat, decide_eq_true hj, Bool.true_and, Nat.one_mul, Nat.testBit_two_pow]
  exact decide_eq_decide.mpr ⟨Eq.symm, Eq.symm⟩
theorem tm_lor (x y : Int64) (j : Nat) : tm_bl (x ||| y) j = (tm_bl x j || tm_bl y j) := by unfold tm_bl; rw [Int64.toBitVec_or, BitVec.getLsbD_or]
theorem tm_land (x y : Int64) (j : Nat) : tm_bl (x &&& y) j = (tm_bl x j && tm_bl y j) := by unfold tm_bl; rw [Int64.toBitVec_and, BitVec.getLsbD_and]
theorem tm_lxor (x y : Int64) (j : Nat) : tm_bl (x ^^^ y) j = (tm_bl x j ^^ tm_bl y j) := by unfold tm_bl; rw [Int64.toBitVec_xor, BitVec.getLsbD_xor]
theorem tm_l0 (j : Nat) : tm_bl 0 j = false := BitVec.getLsbD_zero
theorem tm_lm1 : ∀ j, j < 64 → tm_bl (-1) j = true := by decide +kernel
theorem tm_lext {x y : Int64} (h : ∀ j, j < 64 → tm_bl x j = tm_bl y j) : x = y := Int64.toBitVec_inj.mp (BitVec.eq_of_getLsbD_eq (fun i hi => h i hi))
theorem tm_lz {x : Int64} : x = 0 ↔ ∀ j, j < 64 → tm_bl x j = false :=
  ⟨fun h j _ => by rw [h, tm_l0], fun h => tm_lext fun j hj => by rw [h j hj, tm_l0]⟩
theorem tm_lb {x : Int64} {s : Nat} (hs : s < 64) : x &&& ((1 : Int64) <<< ((nI s).toInt64 &&& 63)) = 0 ↔ tm_bl x s = false := by
  rw [tm_lz]
  constructor
  · intro h
    have t := h s hs
    rw [tm_land, tm_l1 hs hs, decide_eq_true rfl, Bool.and_true] at t
    exact t
  · intro h j hj
    rw [tm_land, tm_l1 hs hj]
    by_cases e : j = s
    · subst e; rw [h, Bool.false_and]
    · rw [decide_eq_false e, Bool.and_false]
theorem tm_ls {x : Int64} {s : Nat} (hs : s < 64) : ((x.toUInt64 >>> ((nI s).toInt64.toUInt64 &&& Int64.toUInt64 63)).toInt64 &&& 1) = 0 ↔ tm_bl x s = false := by
  rw [wb_cu s hs]
  exact ts_bit hs (by
    show (BitVec.ofNat 64 s).toNat = s
    rw [BitVec.toNat_ofNat, Nat.mod_eq_of_lt (by omega)])
end
section
/-! what a word holds; the rows of the two machines -/
def tm_WF (m : Nat) (x : Int32) : Prop := ∃ q b l p t : Nat, q ≤ 1 ∧ b + l ≤ m ∧ p < 256 ∧ t ≤ m ∧ (q = 0 → b = 0 ∧ l = 0 ∧ p = 0 ∧ t = 0) ∧ x = nI (tm_pk q b l p t)
theorem tm_wf {m : Nat} {x : Int32} (hm : m ≤ 32) (h : tm_WF m x) : ∃ q b l p t : Nat, q ≤ 1 ∧ b + l ≤ m ∧ p < 256 ∧ t ≤ m ∧ (q = 0 → b = 0 ∧ l = 0 ∧ p = 0 ∧ t = 0) ∧ x = nI (tm_pk q b l p t) ∧ tm_tg x = nI q ∧ tm_bs x = nI b ∧ tm_ln x = nI l ∧ tm_pm x = nI p ∧ tm_ot x = nI t - 1 := by
  obtain ⟨q, b, l, p, t, hq, hb, hp, ht, h0, rfl⟩ := h
  have q2 : q < 2 := by omega
  have b2 : b < 64 := by omega
  have l2 : l < 64 := by omega
  have t2 : t < 64 := by omega
  exact ⟨q, b, l, p, t, hq, hb, hp, ht, h0, rfl, tm_tg_pk q2 b2 l2 hp t2, tm_bs_pk q2 b2 l2 hp t2, tm_ln_pk q2 b2 l2 hp t2, tm_pm_pk q2 b2 l2 hp t2, tm_ot_pk q2 b2 l2 hp t2⟩
theorem tm_wf0 (m : Nat) : tm_WF m 0 := ⟨0, 0, 0, 0, 0, by omega, by omega, by omega, by omega, fun _ => ⟨rfl, rfl, rfl, rfl⟩, by decide +kernel⟩
theorem tm_tg0 : tm_tg 0 = 0 := by decide +kernel
theorem tm_bs0 : tm_bs 0 = 0 := by decide +kernel
theorem tm_ln0 : tm_ln 0 = 0 := by decide +kernel
theorem tm_pm0 : tm_pm 0 = 0 := by decide +kernel
theorem tm_ot0 : tm_ot 0 = -1 := by decide +kernel
theorem tm_nm1 : nI 0 - 1 = -1 := by decide +kernel
theorem tm_ot' {m : Nat} {x : Int32} (hm : m ≤ 32) (h : tm_WF m x) : tm_ot x = -1 ∨ ∃ o, o < m ∧ tm_ot x = nI o := by
  obtain ⟨q, b, l, p, t, hq, hb, hp, ht, h0, hx, e1, e2, e3, e4, e5⟩ := tm_wf hm h
  rw [e5]
  cases t with
  | zero => exact Or.inl tm_nm1
  | succ t => exact Or.inr ⟨t, by omega, nI_pred t⟩
theorem tm_m1lt : (-1 : Int32) < 0 := by decide
theorem tm_otlt {m : Nat} {x : Int32} (hm : m ≤ 32) (h : tm_WF m x) : tm_ot x < 0 ↔ tm_ot x = -1 := by
  rcases tm_ot' hm h with e | ⟨o, ho, e⟩
  · rw [e]; exact ⟨fun _ => rfl, fun _ => tm_m1lt⟩
  · rw [e]
    have hn : ¬ nI o < 0 := nI_pos (by omega)
    exact ⟨fun z => absurd z hn, fun z => by rw [z] at hn; exact absurd tm_m1lt hn⟩
theorem tm_tg01 {m : Nat} {x : Int32} (hm : m ≤ 32) (h : tm_WF m x) : tm_tg x = 0 ∧ x = 0 ∨ tm_tg x = 1 := by
  obtain ⟨q, b, l, p, t, hq, hb, hp, ht, h0, hx, e1, e2, e3, e4, e5⟩ := tm_wf hm h
  by_cases z : q = 0
  · obtain ⟨rfl, rfl, rfl, rfl⟩ := h0 z
    subst z
    exact Or.inl ⟨e1, hx⟩
  · have : q = 1 := by omega
    subst this
    exact Or.inr e1
/-- a write of a range, of masked permissions, of a type -/
theorem tm_wfr {m : Nat} {x : Int32} (hm : m ≤ 32) (h : tm_WF m x) (hg : tm_tg x ≠ 0) {b l : Nat} (hb : b + l ≤ m) : ∃ y, ((x &&& (-8191)) ||| (nI b <<< ((1 : Int32) &&& 31))) ||| (nI l <<< ((7 : Int32) &&& 31)) = y ∧ tm_WF m y ∧ tm_tg y = tm_tg x ∧ tm_bs y = nI b ∧ tm_ln y = nI l ∧ tm_pm y = tm_pm x ∧ tm_ot y = tm_ot x := by
  obtain ⟨q, b0, l0, p, t, hq, hb0, hp, ht, h0, rfl, e1, e2, e3, e4, e5⟩ := tm_wf hm h
  have hq1 : q ≠ 0 := fun z => hg (by rw [e1, z]; rfl)
  have q2 : q < 2 := by omega
  refine ⟨_, tm_wr q2 (by omega) (by omega) hp (by omega) (by omega), ⟨q, b, l, p, t, hq, hb, hp, ht, fun z => absurd z hq1, rfl⟩, ?_, ?_, ?_, ?_, ?_⟩
  · rw [e1]; exact tm_tg_pk q2 (by omega) (by omega) hp (by omega)
  · exact tm_bs_pk q2 (by omega) (by omega) hp (by omega)
  · exact tm_ln_pk q2 (by omega) (by omega) hp (by omega)
  · rw [e4]; exact tm_pm_pk q2 (by omega) (by omega) hp (by omega)
  · rw [e5]; exact tm_ot_pk q2 (by omega) (by omega) hp (by omega)
theorem tm_wfp {m : Nat} {x : Int32} (hm : m ≤ 32) (h : tm_WF m x) (hg : tm_tg x ≠ 0) (k : Int32) : ∃ y, (x &&& (-2088961)) ||| ((tm_pm x &&& k) <<< ((13 : Int32) &&& 31)) = y ∧ tm_WF m y ∧ tm_tg y = tm_tg x ∧ tm_bs y = tm_bs x ∧ tm_ln y = tm_ln x ∧ tm_pm y = tm_pm x &&& k ∧ tm_ot y = tm_ot x := by
  obtain ⟨q, b, l, p, t, hq, hb, hp, ht, h0, rfl, e1, e2, e3, e4, e5⟩ := tm_wf hm h
  have hq1 : q ≠ 0 := fun z => hg (by rw [e1, z]; rfl)
  have q2 : q < 2 := by omega
  obtain ⟨p', hp', ep⟩ := tm_am hp k
  rw [e4, ep]
  refine ⟨_, tm_wp q2 (by omega) (by omega) hp hp', ⟨q, b, l, p', t, hq, hb, hp', ht, fun z => absurd z hq1, rfl⟩, ?_, ?_, ?_, ?_, ?_⟩
  · rw [e1]; exact tm_tg_pk q2 (by omega) (by omega) hp' (by omega)
  · rw [e2]; exact tm_bs_pk q2 (by omega) (by omega) hp' (by omega)
  · rw [e3]; exact tm_ln_pk q2 (by omega) (by omega) hp' (by omega)
  · exact tm_pm_pk q2 (by omega) (by omega) hp' (by omega)
  · rw [e5]; exact tm_ot_pk q2 (by omega) (by omega) hp' (by omega)
theorem tm_wft {m : Nat} {x : Int32} (hm : m ≤ 32) (h : tm_WF m x) (hg : tm_tg x ≠ 0) {t' : Nat} (ht' : t' ≤ m) : ∃ y, (x &&& (-132120577)) ||| (nI t' <<< ((21 : Int32) &&& 31)) = y ∧ tm_WF m y ∧ tm_tg y = tm_tg x ∧ tm_bs y = tm_bs x ∧ tm_ln y = tm_ln x ∧ tm_pm y = tm_pm x ∧ tm_ot y = nI t' - 1 := by
  obtain ⟨q, b, l, p, t, hq, hb, hp, ht, h0, rfl, e1, e2, e3, e4, e5⟩ := tm_wf hm h
  have hq1 : q ≠ 0 := fun z => hg (by rw [e1, z]; rfl)
  have q2 : q < 2 := by omega
  refine ⟨_, tm_wt q2 (by omega) (by omega) hp (by omega) (by omega), ⟨q, b, l, p, t', hq, hb, hp, ht', fun z => absurd z hq1, rfl⟩, ?_, ?_, ?_, ?_, ?_⟩
  · rw [e1]; exact tm_tg_pk q2 (by omega) (by omega) hp (by omega)
  · rw [e2]; exact tm_bs_pk q2 (by omega) (by omega) hp (by omega)
  · rw [e3]; exact tm_ln_pk q2 (by omega) (by omega) hp (by omega)
  · rw [e4]; exact tm_pm_pk q2 (by omega) (by omega) hp (by omega)
  · exact tm_ot_pk q2 (by omega) (by omega) hp (by omega)
/-- one row: X's meta and value, Y's six -/
def tm_RW (m : Nat) (x v tg bs ln pm ot vl : Int32) : Prop := tm_WF m x ∧ tg = tm_tg x ∧ bs = tm_bs x ∧ ln = tm_ln x ∧ pm = tm_pm x ∧ ot = tm_ot x ∧ vl = v
theorem tm_rw0 (m : Nat) (v : Int32) : tm_RW m 0 v 0 0 0 0 (-1) v := ⟨tm_wf0 m, tm_tg0.symm, tm_bs0.symm, tm_ln0.symm, tm_pm0.symm, tm_ot0.symm, rfl⟩
def tm_sl (i : Nat) : Nat := if i < 9 then 32 + i else i - 9
def tm_rw (s : Nat) : Nat := if s < 32 then 9 + s else s - 32
theorem tm_sl_lo {i : Nat} (h : i < 9) : tm_sl i = 32 + i := if_pos h
theorem tm_sl_hi (a : Nat) : tm_sl (9 + a) = a := by unfold tm_sl; rw [if_neg (by omega)]; omega
theorem tm_sl_lt {i : Nat} (h : i < 41) : tm_sl i < 41 := by unfold tm_sl; split <;> omega
theorem tm_rw_lt {s : Nat} (h : s < 41) : tm_rw s < 41 := by unfold tm_rw; split <;> omega
theorem tm_sr {s : Nat} (h : s < 41) : tm_sl (tm_rw s) = s := by unfold tm_rw tm_sl; split <;> split <;> omega
theorem tm_rs {i : Nat} (h : i < 41) : tm_rw (tm_sl i) = i := by unfold tm_rw tm_sl; split <;> split <;> omega
theorem tm_sl_inj {i j : Nat} (hi : i < 41) (hj : j < 41) (h : tm_sl i = tm_sl j) : i = j := by rw [← tm_rs hi, ← tm_rs hj, h]
def tm_RL (m : Nat) (M V TG BS LN PM OT VY : Nat → Int32) : Prop := (∀ i, i < 41 → tm_RW m (M (tm_sl i)) (V (tm_sl i)) (TG i) (BS i) (LN i) (PM i) (OT i) (VY i)) ∧ (∀ s, m ≤ s → s < 32 → M s = 0)
section
variable {m : Nat} {M V TG BS LN PM OT VY : Nat → Int32}
theorem tm_rlw (h : tm_RL m M V TG BS LN PM OT VY) {s : Nat} (hs : s < 41) : tm_WF m (M s) := by
  have := (h.1 (tm_rw s) (tm_rw_lt hs)).1
  rwa [tm_sr hs] at this
/-- row j < 41, not of the tail, is written on both sides -/
theorem tm_rlu (h : tm_RL m M V TG BS LN PM OT VY) {j : Nat} (hj : j < 41) (hm : tm_sl j < m ∨ 32 ≤ tm_sl j) {x v tg bs ln pm ot vl : Int32} (hr : tm_RW m x v tg bs ln pm ot vl) : tm_RL m (upd M (tm_sl j) x) (upd V (tm_sl j) v) (upd TG j tg) (upd BS j bs) (upd LN j ln) (upd PM j pm) (upd OT j ot) (upd VY j vl) := by
  refine ⟨fun i hi => ?_, fun s h1 h2 => ?_⟩
  · by_cases e : i = j
    · subst e
      rw [pk_us, pk_us, pk_us, pk_us, pk_us, pk_us, pk_us, pk_us]
      exact hr
    · have e2 : tm_sl i ≠ tm_sl j := fun z => e (tm_sl_inj hi hj z)
      rw [pk_un e2, pk_un e2, pk_un e, pk_un e, pk_un e, pk_un e, pk_un e, pk_un e]
      exact h.1 i hi
  · rw [pk_un (by omega)]
    exact h.2 s h1 h2
/-- a value alone is written -/
theorem tm_rlv (h : tm_RL m M V TG BS LN PM OT VY) {j : Nat} (hj : j < 41) (v : Int32) : tm_RL m M (upd V (tm_sl j) v) TG BS LN PM OT (upd VY j v) := by
  refine ⟨fun i hi => ?_, h.2⟩
  by_cases e : i = j
  · subst e
    rw [pk_us, pk_us]
    obtain ⟨h1, h2, h3, h4, h5, h6, _⟩ := h.1 i hi
    exact ⟨h1, h2, h3, h4, h5, h6, rfl⟩
  · have e2 : tm_sl i ≠ tm_sl j := fun z => e (tm_sl_inj hi hj z)
    rw [pk_un e2, pk_un e]
    exact h.1 i hi
end
theorem tm_uu (f : Nat → Int32) (j : Nat) (x y : Int32) : upd (upd f j x) j y = upd f j y := by
  funext k
  by_cases h : k = j
  · subst h; rw [pk_us, pk_us]
  · rw [pk_un h, pk_un h, pk_un h]
theorem tm_uc (f : Nat → Int32) {i j : Nat} (h : i ≠ j) (x y : Int32) : upd (upd f i x) j y = upd (upd f j y) i x := by
  funext k
  by_cases h1 : k = i
  · subst h1; rw [pk_un h, pk_us, pk_us]
  · by_cases h2 : k = j
    · subst h2; rw [pk_us, pk_un h1, pk_us]
    · rw [pk_un h2, pk_un h1, pk_un h1, pk_un h2]
theorem tm_ue (f : Nat → Int32) (j : Nat) : upd f j (f j) = f := by
  funext i
  by_cases e : i = j
  · subst e; exact pk_us
  · exact pk_un e
end
section
/-! the authority: the least closed pair of sets of slots (held, opened) over the metas M -/
def tm_In (x : Int32) (a : Nat) : Prop := ¬ nI a < tm_bs x ∧ ¬ tm_bs x + tm_ln x ≤ nI a
def tm_P (x : Int32) (p : Nat) : Prop := bt (tm_pm x) p = true
def tm_Au (M : Nat → Int32) (O : Nat → Prop) (a p : Nat) : Prop := ∃ s, s < 41 ∧ O s ∧ tm_In (M s) a ∧ tm_P (M s) p
def tm_Pt (M : Nat → Int32) (H : Nat → Prop) (s o : Nat) : Prop := ∃ j, j < 41 ∧ H j ∧ tm_ot (M j) = nI o ∧ tm_P (M j) 7 ∧ (tm_P (M j) 4 ↔ ¬ tm_P (M s) 4)
def tm_Op (M : Nat → Int32) (kd : Nat) (H O : Nat → Prop) (s : Nat) : Prop := ∀ o, o < 32 → tm_ot (M s) = nI o → tm_Au M O o 6 ∨ (kd = 1 ∧ tm_P (M s) 7 ∧ (tm_Au M O o 5 ∨ tm_Pt M H s o))
def tm_Hc (M : Nat → Int32) (H O : Nat → Prop) : Prop := ∀ s, s < 41 → tm_tg (M s) ≠ 0 → 32 ≤ s ∨ tm_Au M O s 2 → H s
def tm_Cl (M : Nat → Int32) (kd : Nat) (H O : Nat → Prop) : Prop := tm_Hc M H O ∧ (∀ s, s < 41 → H s → tm_Op M kd H O s → O s)
def tm_Sb (M : Nat → Int32) (kd : Nat) (H O : Nat → Prop) : Prop := ∀ H' O' : Nat → Prop, tm_Cl M kd H' O' → (∀ s, s < 41 → H s → H' s) ∧ (∀ s, s < 41 → O s → O' s)
def tm_An (M : Nat → Int32) (kd a p : Nat) : Prop := ∀ H O : Nat → Prop, tm_Cl M kd H O → tm_Au M O a p
section
variable {M : Nat → Int32} {kd : Nat} {H H' O O' : Nat → Prop}
theorem tm_aum {a p : Nat} (h : ∀ s, s < 41 → O s → O' s) (z : tm_Au M O a p) : tm_Au M O' a p :=
  z.elim fun s e => ⟨s, e.1, h s e.1 e.2.1, e.2.2⟩
theorem tm_ptm {s o : Nat} (h : ∀ s, s < 41 → H s → H' s) (z : tm_Pt M H s o) : tm_Pt M H' s o :=
  z.elim fun s e => ⟨s, e.1, h s e.1 e.2.1, e.2.2⟩
theorem tm_opm {s : Nat} (hH : ∀ s, s < 41 → H s → H' s) (hO : ∀ s, s < 41 → O s → O' s) (z : tm_Op M kd H O s) : tm_Op M kd H' O' s :=
  fun o ho e => (z o ho e).imp (tm_aum hO) (fun w => ⟨w.1, w.2.1, w.2.2.imp (tm_aum hO) (tm_ptm hH)⟩)
theorem tm_an {a p : Nat} (hc : tm_Cl M kd H O) (hs : tm_Sb M kd H O) : tm_An M kd a p ↔ tm_Au M O a p :=
  ⟨fun h => h H O hc, fun h _ _ c => tm_aum (hs _ _ c).2 h⟩
theorem tm_sb0 (hH : ∀ s, s < 41 → ¬ H s) (hO : ∀ s, s < 41 → ¬ O s) : tm_Sb M kd H O := fun _ _ _ => ⟨fun s hs h => absurd h (hH s hs), fun s hs h => absurd h (hO s hs)⟩
theorem tm_sbh (h : tm_Sb M kd H O) (hh : ∀ s, s < 41 → H' s → H s ∨ (tm_tg (M s) ≠ 0 ∧ (32 ≤ s ∨ tm_Au M O s 2))) : tm_Sb M kd H' O := by
  intro H2 O2 c
  obtain ⟨a, b⟩ := h H2 O2 c
  refine ⟨fun s hs z => ?_, b⟩
  rcases hh s hs z with e | ⟨e1, e2⟩
  · exact a s hs e
  · exact c.1 s hs e1 (e2.imp id (tm_aum b))
theorem tm_sbo (h : tm_Sb M kd H O) (hh : ∀ s, s < 41 → O' s → O s ∨ (H s ∧ tm_Op M kd H O s)) : tm_Sb M kd H O' := by
  intro H2 O2 c
  obtain ⟨a, b⟩ := h H2 O2 c
  refine ⟨a, fun s hs z => ?_⟩
  rcases hh s hs z with e | ⟨e1, e2⟩
  · exact b s hs e
  · exact c.2 s hs (a s hs e1) (tm_opm a b e2)
theorem tm_in_iff {x : Int32} {b l a : Nat} (eb : tm_bs x = nI b) (el : tm_ln x = nI l) (hb : b + l ≤ 32) (ha : a < 2 ^ 31) : tm_In x a ↔ b ≤ a ∧ a < b + l := by
  unfold tm_In
  rw [eb, el, nI_add, nI_ltI ha (by omega), nI_leI (by omega) ha]
  omega
theorem tm_in_lt {m a : Nat} {x : Int32} (hm : m ≤ 32) (h : tm_WF m x) (ha : a < 2 ^ 31) (z : tm_In x a) : a < m := by
  obtain ⟨q, b, l, p, t, hq, hb, hp, ht, h0, rfl, e1, e2, e3, e4, e5⟩ := tm_wf hm h
  have := (tm_in_iff e2 e3 (by omega) ha).mp z
  omega
theorem tm_au_lt {m a p : Nat} (hm : m ≤ 32) (hw : ∀ s, s < 41 → tm_WF m (M s)) (ha : a < 2 ^ 31) (z : tm_Au M O a p) : a < m :=
  z.elim fun s e => tm_in_lt hm (hw s e.1) ha e.2.2.1
theorem tm_an_lt {m a p : Nat} (hm : m ≤ 32) (hw : ∀ s, s < 41 → tm_WF m (M s)) (ha : a < 2 ^ 31) (z : tm_An M kd a p) : a < m :=
  tm_au_lt hm hw ha (z (fun _ => True) (fun _ => True) ⟨fun _ _ _ _ => trivial, fun _ _ _ _ => trivial⟩)
end
/-- what the masks of the kind kd hold once they are made -/
def tm_Rv (M : Nat → Int32) (kd : Nat) (R : Nat → Int32) : Prop := ∀ p, p < 8 → ∀ a, a < 32 → (bt (R (8 * kd + p)) a = true ↔ tm_An M kd a p)
/-- the relation -/
def tm_R (m : Nat) (wd st ca iv : Int32) (M V R F : Nat → Int32) (ym ys yw yi : Int32) (TG BS LN PM OT VY : Nat → Int32) : Prop :=
  16 ≤ m ∧ m ≤ 32 ∧ wd = nI m ∧ ym = nI m ∧ st = ys ∧ ca = yw ∧ iv = yi ∧ tm_RL m M V TG BS LN PM OT VY ∧ ∀ kd, kd < 2 → F kd = 0 ∨ tm_Rv M kd R
def tm_Rel (u : SX) (v : SY) : Prop := match u with
  | (rg, pq, wd, st, ca, iv, op, rd, rs, rt, im, he, wa, ct, dt, M, V, R, F) => match v with
    | (ym, ys, yw, yi, TG, BS, LN, PM, OT, VY, HE, OP, AU) => ∃ m : Nat, tm_R m wd st ca iv M V R F ym ys yw yi TG BS LN PM OT VY
theorem tm_el {P : SX → SY → Prop} {u : SX} {v : SY} (h : ∀ (rg pq wd st ca iv op rd rs rt im : Int32) (he wa : Int64) (ct dt : Int32) (M V R F : Nat → Int32) (ym ys yw yi : Int32) (TG BS LN PM OT VY HE OP AU : Nat → Int32) (m : Nat), tm_R m wd st ca iv M V R F ym ys yw yi TG BS LN PM OT VY → P (rg, pq, wd, st, ca, iv, op, rd, rs, rt, im, he, wa, ct, dt, M, V, R, F) (ym, ys, yw, yi, TG, BS, LN, PM, OT, VY, HE, OP, AU)) (I : tm_Rel u v) : P u v := by
  obtain ⟨rg, pq, wd, st, ca, iv, op, rd, rs, rt, im, he, wa, ct, dt, M, V, R, F⟩ := u
  obtain ⟨ym, ys, yw, yi, TG, BS, LN, PM, OT, VY, HE, OP, AU⟩ := v
  obtain ⟨m, hm⟩ := I
  exact h _ _ _ _ _ _ _ _ _ _ _ _ _ _ _ _ _ _ _ _ _ _ _ _ _ _ _ _ _ _ _ _ m hm
def i_Rel (_ : Nat) (u : SX) (v : SY) : Prop := tm_Rel u v
theorem i_up {k : Nat} {u : SX} {v : SY} (h : i_Rel k u v) : i_Rel (k + 5) u v := h
end
section
/-! readers: what they answer, by one function for both sides -/
theorem tm_if {α : Type} {post : α → Prop} {c A B : Prop} [Decidable c] {a b : α} (h : post (if c then a else b)) (ha : post a → A) (hb : post b → B) : (c → A) ∧ (¬ c → B) :=
  ⟨fun z => ha (by rwa [if_pos z] at h), fun z => hb (by rwa [if_neg z] at h)⟩
theorem tm_d10 : ¬ (1 : Int32) = 0 := by decide
def tm_vN (tg ot pm p : Int32) : Int32 := if tg = 0 then 4 else if ot = -1 then (if pm &&& p = p then 0 else 6) else 5
def tm_vI (bs ln x : Int32) : Int32 := if x < bs then 0 else if bs + ln ≤ x then 0 else 1
def tm_vA (tg ot pm bs ln p x : Int32) : Int32 := if tm_vN tg ot pm p = 0 then (if tm_vI bs ln x = 0 then 7 else 0) else tm_vN tg ot pm p
def tm_vB (tg ot pm bs ln vl n : Int32) : Int32 := if tm_vN tg ot pm 0 = 0 then (if n < 0 then 7 else if vl < bs then 7 else if bs + ln < vl then 7 else if (bs + ln) - vl < n then 7 else 0) else tm_vN tg ot pm 0
def tm_vS (g1 o1 g2 : Int32) (a : Int32) : Int32 := if g1 = 0 then 4 else if g2 = 0 then 4 else if o1 = -1 then a else 5
def tm_vU (g1 o1 g2 v2 : Int32) (a : Int32) : Int32 := if g1 = 0 then 4 else if g2 = 0 then 4 else if o1 = -1 then 5 else if a = 0 then (if v2 = o1 then 0 else 8) else a
def tm_vK (g1 o1 p1 g2 o2 p2 : Int32) : Int32 := if g1 = 0 then 4 else if g2 = 0 then 4 else if o1 = -1 then 5 else if o2 = -1 then 5 else if o1 = o2 then (if p1 &&& 128 = 0 then 6 else if p1 &&& 16 = 0 then 6 else if p2 &&& 128 = 0 then 6 else if p2 &&& 16 = 0 then 0 else 6) else 8
def tm_vF (g b l p o v f : Int32) : Int32 := if f = 0 then g else if f = 1 then b else if f = 2 then l else if f = 3 then p else if f = 4 then o else if f = 5 then v else -999
theorem tm_vN_p (tg ot pm p : Int32) : tm_vN tg ot pm p = if tm_vN tg ot pm 0 = 0 then (if pm &&& p = p then 0 else 6) else tm_vN tg ot pm 0 := by
  unfold tm_vN
  by_cases h1 : tg = 0
  · rw [if_pos h1, if_pos h1, if_neg (by decide)]
  · rw [if_neg h1, if_neg h1]
    by_cases h2 : ot = -1
    · rw [if_pos h2, if_pos h2, if_pos Int32.and_zero, if_pos rfl]
    · rw [if_neg h2, if_neg h2, if_neg (by decide)]
theorem tm_vA_t {tg : Int32} (hg : tg ≠ 0) (ot pm bs ln p x : Int32) : tm_vA tg ot pm bs ln p x = if ot = -1 then (if pm &&& p = p then (if tm_vI bs ln x = 0 then 7 else 0) else 6) else 5 := by
  unfold tm_vA tm_vN
  rw [if_neg hg]
  by_cases h2 : ot = -1
  · rw [if_pos h2, if_pos h2]
    by_cases h3 : pm &&& p = p
    · rw [if_pos h3, if_pos h3, if_pos rfl]
    · rw [if_neg h3, if_neg h3, if_neg (by decide)]
  · rw [if_neg h2, if_neg h2, if_neg (by decide)]
theorem tm_both (a b : Int32) : (a &&& b) &&& 1 = 0 ↔ tm_tg a = 0 ∨ tm_tg b = 0 := by
  unfold tm_tg
  rw [tm_az (by decide) tm_c1, tm_az (by decide) tm_c1, tm_az (by decide) tm_c1, b_and]
  cases bt a 0 <;> cases bt b 0 <;> simp
section
variable {rg pq wd st ca iv op rd rs rt im : Int32} {he wa : Int64} {ct dt : Int32} {M V R F : Nat → Int32}
/-! X -/
theorem tx_inBounds {post : Int32 → Prop} {x y : Int32} (h : post (tm_vI (tm_bs x) (tm_ln x) y)) : wpX_inBounds post (rg, pq, wd, st, ca, iv, op, rd, rs, rt, im, he, wa, ct, dt, M, V, R, F) x y := by
  unfold tm_vI at h
  exact tm_if h id (fun h => tm_if h id id)
theorem tx_checkOpen {post : Int32 → Prop} (hr : vp_in rs 41) (hw : tm_ot (M rs.toNatClampNeg) < 0 ↔ tm_ot (M rs.toNatClampNeg) = -1) (h : post (tm_vN (tm_tg (M rs.toNatClampNeg)) (tm_ot (M rs.toNatClampNeg)) (tm_pm (M rs.toNatClampNeg)) 0)) : wpX_checkOpen post (rg, pq, wd, st, ca, iv, op, rd, rs, rt, im, he, wa, ct, dt, M, V, R, F) := by
  unfold tm_vN at h
  refine And.intro hr (tm_if h (fun h => br_t rfl h) (fun h => br_f tm_d10 (And.intro hr ?_)))
  refine br_c (fun z => br_t rfl ?_) (fun z => br_f tm_d10 ?_)
  · rw [if_pos (hw.mp z), if_pos Int32.and_zero] at h; exact h
  · rw [if_neg (fun e => z (hw.mpr e))] at h; exact h
theorem tx_checkOpenWith {post : Int32 → Prop} {p : Int32} (hr : vp_in rs 41) (hw : tm_ot (M rs.toNatClampNeg) < 0 ↔ tm_ot (M rs.toNatClampNeg) = -1) (h : post (tm_vN (tm_tg (M rs.toNatClampNeg)) (tm_ot (M rs.toNatClampNeg)) (tm_pm (M rs.toNatClampNeg)) p)) : wpX_checkOpenWith post (rg, pq, wd, st, ca, iv, op, rd, rs, rt, im, he, wa, ct, dt, M, V, R, F) p := by
  unfold wpX_checkOpenWith
  refine tx_checkOpen hr hw ?_
  rw [tm_vN_p] at h
  exact tm_if h (fun h => And.intro hr (tm_if h (fun h => br_f tm_d10 h) (fun h => br_t rfl h))) id
theorem tx_checkJump {post : Int32 → Prop} (hr : vp_in rs 41) (hw : tm_ot (M rs.toNatClampNeg) < 0 ↔ tm_ot (M rs.toNatClampNeg) = -1) (h : post (tm_vN (tm_tg (M rs.toNatClampNeg)) (tm_ot (M rs.toNatClampNeg)) (tm_pm (M rs.toNatClampNeg)) 16)) : wpX_checkJump post (rg, pq, wd, st, ca, iv, op, rd, rs, rt, im, he, wa, ct, dt, M, V, R, F) := by
  unfold wpX_checkJump
  exact tx_checkOpenWith hr hw h
theorem tx_checkAccess {post : Int32 → Prop} {p : Int32} (hr : vp_in rs 41) (hw : tm_ot (M rs.toNatClampNeg) < 0 ↔ tm_ot (M rs.toNatClampNeg) = -1) (h : post (tm_vA (tm_tg (M rs.toNatClampNeg)) (tm_ot (M rs.toNatClampNeg)) (tm_pm (M rs.toNatClampNeg)) (tm_bs (M rs.toNatClampNeg)) (tm_ln (M rs.toNatClampNeg)) p (V rs.toNatClampNeg + im))) : wpX_checkAccess post (rg, pq, wd, st, ca, iv, op, rd, rs, rt, im, he, wa, ct, dt, M, V, R, F) p := by
  unfold wpX_checkAccess
  refine tx_checkOpenWith hr hw ?_
  unfold tm_vA at h
  exact tm_if h (fun h => And.intro hr (And.intro hr (tx_inBounds (tm_if h id id)))) id
theorem tx_checkBound {post : Int32 → Prop} {n : Int32} (hr : vp_in rs 41) (hw : tm_ot (M rs.toNatClampNeg) < 0 ↔ tm_ot (M rs.toNatClampNeg) = -1) (h : post (tm_vB (tm_tg (M rs.toNatClampNeg)) (tm_ot (M rs.toNatClampNeg)) (tm_pm (M rs.toNatClampNeg)) (tm_bs (M rs.toNatClampNeg)) (tm_ln (M rs.toNatClampNeg)) (V rs.toNatClampNeg) n)) : wpX_checkBound post (rg, pq, wd, st, ca, iv, op, rd, rs, rt, im, he, wa, ct, dt, M, V, R, F) n := by
  unfold wpX_checkBound
  refine tx_checkOpen hr hw ?_
  unfold tm_vB at h
  refine tm_if h (fun h => And.intro hr (nm_e (And.intro hr ?_))) id
  show vp_in rs 41 ∧ _
  refine And.intro hr ?_
  refine nm_e ?_
  exact tm_if h (fun h => br_t rfl h) (fun h => tm_if h (fun h => br_t rfl h) (fun h => tm_if h (fun h => br_t rfl h) (fun h => tm_if h (fun h => br_t rfl h) (fun h => br_f tm_d10 h))))
theorem tx_checkTypeAuthority {post : Int32 → Prop} {p : Int32} (hr : vp_in rt 41) (hg : tm_tg (M rt.toNatClampNeg) ≠ 0) (hw : tm_ot (M rt.toNatClampNeg) < 0 ↔ tm_ot (M rt.toNatClampNeg) = -1) (h : post (tm_vA (tm_tg (M rt.toNatClampNeg)) (tm_ot (M rt.toNatClampNeg)) (tm_pm (M rt.toNatClampNeg)) (tm_bs (M rt.toNatClampNeg)) (tm_ln (M rt.toNatClampNeg)) p (V rt.toNatClampNeg))) : wpX_checkTypeAuthority post (rg, pq, wd, st, ca, iv, op, rd, rs, rt, im, he, wa, ct, dt, M, V, R, F) p := by
  rw [tm_vA_t hg] at h
  refine And.intro hr (nm_e ?_)
  refine br_c (fun z => br_t rfl ?_) (fun z => br_f tm_d10 ?_)
  · rw [if_pos (hw.mp z)] at h
    refine tm_if h (fun h => br_f tm_d10 (And.intro hr ?_)) (fun h => br_t rfl h)
    exact tx_inBounds (tm_if h id id)
  · rw [if_neg (fun e => z (hw.mpr e))] at h
    exact h
theorem tx_bothTagged {post : Int32 → Prop} (hr : vp_in rs 41) (ht : vp_in rt 41) (h0 : tm_tg (M rs.toNatClampNeg) = 0 ∨ tm_tg (M rt.toNatClampNeg) = 0 → post 0) (h1 : tm_tg (M rs.toNatClampNeg) ≠ 0 → tm_tg (M rt.toNatClampNeg) ≠ 0 → post 1) : wpX_bothTagged post (rg, pq, wd, st, ca, iv, op, rd, rs, rt, im, he, wa, ct, dt, M, V, R, F) :=
  And.intro hr (And.intro ht (br_c (fun z => h0 ((tm_both _ _).mp z)) (fun z => h1 (fun e => z ((tm_both _ _).mpr (Or.inl e))) (fun e => z ((tm_both _ _).mpr (Or.inr e))))))
theorem tm_vS4 {g1 o1 g2 a : Int32} (h : g1 = 0 ∨ g2 = 0) : tm_vS g1 o1 g2 a = 4 := by
  unfold tm_vS
  rcases h with h | h
  · rw [if_pos h]
  · rw [if_pos h, ite_self]
theorem tm_vU4 {g1 o1 g2 v2 a : Int32} (h : g1 = 0 ∨ g2 = 0) : tm_vU g1 o1 g2 v2 a = 4 := by
  unfold tm_vU
  rcases h with h | h
  · rw [if_pos h]
  · rw [if_pos h, ite_self]
theorem tm_vK4 {g1 o1 p1 g2 o2 p2 : Int32} (h : g1 = 0 ∨ g2 = 0) : tm_vK g1 o1 p1 g2 o2 p2 = 4 := by
  unfold tm_vK
  rcases h with h | h
  · rw [if_pos h]
  · rw [if_pos h, ite_self]
theorem tx_checkSeal {post : Int32 → Prop} (hr : vp_in rs 41) (ht : vp_in rt 41) (hw : tm_ot (M rs.toNatClampNeg) < 0 ↔ tm_ot (M rs.toNatClampNeg) = -1) (hwt : tm_ot (M rt.toNatClampNeg) < 0 ↔ tm_ot (M rt.toNatClampNeg) = -1) (h : post (tm_vS (tm_tg (M rs.toNatClampNeg)) (tm_ot (M rs.toNatClampNeg)) (tm_tg (M rt.toNatClampNeg)) (tm_vA (tm_tg (M rt.toNatClampNeg)) (tm_ot (M rt.toNatClampNeg)) (tm_pm (M rt.toNatClampNeg)) (tm_bs (M rt.toNatClampNeg)) (tm_ln (M rt.toNatClampNeg)) 32 (V rt.toNatClampNeg)))) : wpX_checkSeal post (rg, pq, wd, st, ca, iv, op, rd, rs, rt, im, he, wa, ct, dt, M, V, R, F) := by
  unfold wpX_checkSeal
  refine tx_bothTagged hr ht (fun z => br_t rfl ?_) (fun z1 z2 => br_f tm_d10 (And.intro hr ?_))
  · rw [tm_vS4 z] at h; exact h
  · unfold tm_vS at h
    rw [if_neg z1, if_neg z2] at h
    refine br_c (fun z => br_t rfl ?_) (fun z => br_f tm_d10 ?_)
    · rw [if_pos (hw.mp z)] at h
      exact tx_checkTypeAuthority ht z2 hwt h
    · rw [if_neg (fun e => z (hw.mpr e))] at h; exact h
theorem tx_checkUnseal {post : Int32 → Prop} (hr : vp_in rs 41) (ht : vp_in rt 41) (hw : tm_ot (M rs.toNatClampNeg) < 0 ↔ tm_ot (M rs.toNatClampNeg) = -1) (hwt : tm_ot (M rt.toNatClampNeg) < 0 ↔ tm_ot (M rt.toNatClampNeg) = -1) (h : post (tm_vU (tm_tg (M rs.toNatClampNeg)) (tm_ot (M rs.toNatClampNeg)) (tm_tg (M rt.toNatClampNeg)) (V rt.toNatClampNeg) (tm_vA (tm_tg (M rt.toNatClampNeg)) (tm_ot (M rt.toNatClampNeg)) (tm_pm (M rt.toNatClampNeg)) (tm_bs (M rt.toNatClampNeg)) (tm_ln (M rt.toNatClampNeg)) 64 (V rt.toNatClampNeg)))) : wpX_checkUnseal post (rg, pq, wd, st, ca, iv, op, rd, rs, rt, im, he, wa, ct, dt, M, V, R, F) := by
  unfold wpX_checkUnseal
  refine tx_bothTagged hr ht (fun z => br_t rfl ?_) (fun z1 z2 => br_f tm_d10 (And.intro hr ?_))
  · rw [tm_vU4 z] at h; exact h
  · unfold tm_vU at h
    rw [if_neg z1, if_neg z2] at h
    refine br_c (fun z => br_t rfl ?_) (fun z => br_f tm_d10 ?_)
    · rw [if_pos (hw.mp z)] at h
      exact h
    · rw [if_neg (fun e => z (hw.mpr e))] at h
      refine tx_checkTypeAuthority ht z2 hwt ?_
      exact tm_if h (fun h => And.intro ht (And.intro hr (tm_if h id id))) id
theorem tx_checkInvoke {post : Int32 → Prop} (hr : vp_in rs 41) (ht : vp_in rt 41) (hw : tm_ot (M rs.toNatClampNeg) < 0 ↔ tm_ot (M rs.toNatClampNeg) = -1) (hwt : tm_ot (M rt.toNatClampNeg) < 0 ↔ tm_ot (M rt.toNatClampNeg) = -1) (h : post (tm_vK (tm_tg (M rs.toNatClampNeg)) (tm_ot (M rs.toNatClampNeg)) (tm_pm (M rs.toNatClampNeg)) (tm_tg (M rt.toNatClampNeg)) (tm_ot (M rt.toNatClampNeg)) (tm_pm (M rt.toNatClampNeg)))) : wpX_checkInvoke post (rg, pq, wd, st, ca, iv, op, rd, rs, rt, im, he, wa, ct, dt, M, V, R, F) := by
  unfold wpX_checkInvoke
  refine And.intro hr (nm_e (And.intro ht (nm_e ?_)))
  refine tx_bothTagged hr ht (fun z => br_t rfl ?_) (fun z1 z2 => br_f tm_d10 ?_)
  · rw [tm_vK4 z] at h; exact h
  · unfold tm_vK at h
    rw [if_neg z1, if_neg z2] at h
    refine br_c (fun z => br_t rfl ?_) (fun z => br_f tm_d10 ?_)
    · rw [if_pos (hw.mp z)] at h
      exact h
    · rw [if_neg (fun e => z (hw.mpr e))] at h
      refine br_c (fun z => br_t rfl ?_) (fun z => br_f tm_d10 ?_)
      · rw [if_pos (hwt.mp z)] at h
        exact h
      · rw [if_neg (fun e => z (hwt.mpr e))] at h
        refine tm_if h (fun h => ?_) id
        refine br_c (fun (a : tm_pm (M rs.toNatClampNeg) &&& 144 = 144) => br_f tm_d10 ?_) (fun (a : ¬ tm_pm (M rs.toNatClampNeg) &&& 144 = 144) => br_t rfl (br_t rfl ?_))
        · have a' := tm_q144.mp a
          rw [if_neg (by rw [tm_z128, a'.1]; decide), if_neg (by rw [tm_z16, a'.2]; decide)] at h
          refine br_c (fun (b : tm_pm (M rt.toNatClampNeg) &&& 128 = 128) => br_f tm_d10 ?_) (fun (b : ¬ tm_pm (M rt.toNatClampNeg) &&& 128 = 128) => br_t rfl (br_t rfl ?_))
          · rw [if_neg (by rw [tm_z128, tm_q128.mp b]; decide)] at h
            refine br_c (fun (c : tm_pm (M rt.toNatClampNeg) &&& 16 = 16) => br_f tm_d10 (br_t rfl ?_)) (fun (c : ¬ tm_pm (M rt.toNatClampNeg) &&& 16 = 16) => br_t rfl (br_f tm_d10 ?_))
            · rw [if_neg (by rw [tm_z16, tm_q16.mp c]; decide)] at h; exact h
            · rw [if_pos (tm_z16.mpr (tm_nF.mp (fun e => c (tm_q16.mpr e))))] at h; exact h
          · rw [if_pos (tm_z128.mpr (tm_nF.mp (fun e => b (tm_q128.mpr e))))] at h; exact h
        · have a' : ¬ (bt (tm_pm (M rs.toNatClampNeg)) 7 = true ∧ bt (tm_pm (M rs.toNatClampNeg)) 4 = true) := fun e => a (tm_q144.mpr e)
          by_cases b : tm_pm (M rs.toNatClampNeg) &&& 128 = 0
          · rw [if_pos b] at h; exact h
          · rw [if_neg b] at h
            rw [tm_z128, tm_nT] at b
            rw [if_pos (tm_z16.mpr (tm_nF.mp (fun e => a' ⟨b, e⟩)))] at h
            exact h
theorem tx_field {post : Int32 → Prop} {s f : Int32} (hs : vp_in s 41) (h : post (tm_vF (tm_tg (M s.toNatClampNeg)) (tm_bs (M s.toNatClampNeg)) (tm_ln (M s.toNatClampNeg)) (tm_pm (M s.toNatClampNeg)) (tm_ot (M s.toNatClampNeg)) (V s.toNatClampNeg) f)) : wpX_field post (rg, pq, wd, st, ca, iv, op, rd, rs, rt, im, he, wa, ct, dt, M, V, R, F) s f := by
  unfold wpX_field
  refine And.intro hs (nm_e ?_)
  have hh : (f < 0 ∨ 5 < f) → post (-999) := by
    intro z
    have key : ∀ c : Int32, 0 ≤ c → c ≤ 5 → ¬ f = c := by
      intro c h1 h2 e
      subst e
      rcases z with z | z
      · exact absurd z (Int32.not_lt.mpr h1)
      · exact absurd z (Int32.not_lt.mpr h2)
    unfold tm_vF at h
    rw [if_neg (key 0 (by decide) (by decide)), if_neg (key 1 (by decide) (by decide)), if_neg (key 2 (by decide) (by decide)), if_neg (key 3 (by decide) (by decide)), if_neg (key 4 (by decide) (by decide)), if_neg (key 5 (by decide) (by decide))] at h
    exact h
  refine br_c (fun z => hh (Or.inl z)) (fun _ => br_c (fun z => hh (Or.inr z)) (fun _ => ?_))
  unfold tm_vF at h
  exact tm_if h id (fun h => tm_if h id (fun h => tm_if h id (fun h => tm_if h id (fun h => tm_if h id (fun h => tm_if h (fun h => And.intro hs h) (fun _ => trivial))))))
end
section
variable {ym ys yw yi : Int32} {TG BS LN PM OT VY HE OP AU : Nat → Int32}
/-! Y -/
theorem ty_inside {post : Int32 → Prop} {i x : Int32} (hi : vp_in i 41) (h : post (tm_vI (BS i.toNatClampNeg) (LN i.toNatClampNeg) x)) : wpY_inside post (ym, ys, yw, yi, TG, BS, LN, PM, OT, VY, HE, OP, AU) i x := by
  unfold tm_vI at h
  exact And.intro hi (tm_if h id (fun h => And.intro hi (And.intro hi (tm_if h id id))))
theorem ty_need {post : Int32 → Prop} {i p : Int32} (hi : vp_in i 41) (h : post (tm_vN (TG i.toNatClampNeg) (OT i.toNatClampNeg) (PM i.toNatClampNeg) p)) : wpY_need post (ym, ys, yw, yi, TG, BS, LN, PM, OT, VY, HE, OP, AU) i p := by
  unfold tm_vN at h
  exact And.intro hi (tm_if h id (fun h => And.intro hi (tm_if h (fun h => And.intro hi (tm_if h id id)) id)))
theorem ty_needAt {post : Int32 → Prop} {i p x : Int32} (hi : vp_in i 41) (h : post (tm_vA (TG i.toNatClampNeg) (OT i.toNatClampNeg) (PM i.toNatClampNeg) (BS i.toNatClampNeg) (LN i.toNatClampNeg) p x)) : wpY_needAt post (ym, ys, yw, yi, TG, BS, LN, PM, OT, VY, HE, OP, AU) i p x := by
  unfold wpY_needAt
  refine ty_need hi ?_
  unfold tm_vA at h
  exact tm_if h (fun h => ty_inside hi (tm_if h id id)) id
theorem ty_needBound {post : Int32 → Prop} {i n : Int32} (hi : vp_in i 41) (h : post (tm_vB (TG i.toNatClampNeg) (OT i.toNatClampNeg) (PM i.toNatClampNeg) (BS i.toNatClampNeg) (LN i.toNatClampNeg) (VY i.toNatClampNeg) n)) : wpY_needBound post (ym, ys, yw, yi, TG, BS, LN, PM, OT, VY, HE, OP, AU) i n := by
  unfold wpY_needBound
  refine ty_need hi ?_
  unfold tm_vB at h
  refine tm_if h (fun h => And.intro hi (And.intro hi (nm_e ?_))) id
  exact tm_if h (fun h => br_t rfl h) (fun h => And.intro hi (And.intro hi (tm_if h (fun h => br_t rfl h) (fun h => And.intro hi (tm_if h (fun h => br_t rfl h) (fun h => And.intro hi (tm_if h (fun h => br_t rfl h) (fun h => br_f tm_d10 h))))))))
theorem ty_field {post : Int32 → Prop} {s f : Int32} (hs : vp_in s 41) (hg : TG s.toNatClampNeg = 0 ∨ TG s.toNatClampNeg = 1) (h : post (tm_vF (TG s.toNatClampNeg) (BS s.toNatClampNeg) (LN s.toNatClampNeg) (PM s.toNatClampNeg) (OT s.toNatClampNeg) (VY s.toNatClampNeg) f)) : wpY_field post (ym, ys, yw, yi, TG, BS, LN, PM, OT, VY, HE, OP, AU) s f := by
  unfold tm_vF at h
  refine tm_if h (fun h => And.intro hs ?_) (fun h => tm_if h (fun h => And.intro hs h) (fun h => tm_if h (fun h => And.intro hs h) (fun h => tm_if h (fun h => And.intro hs h) (fun h => tm_if h (fun h => And.intro hs h) (fun h => tm_if h (fun h => And.intro hs h) id)))))
  rcases hg with e | e
  · rw [e] at h ⊢
    exact br_t rfl h
  · rw [e] at h ⊢
    exact br_f tm_d10 h
theorem ty_seal {post : Int32 → Prop} {i j : Int32} (hi : vp_in i 41) (hj : vp_in j 41) (h : post (tm_vS (TG i.toNatClampNeg) (OT i.toNatClampNeg) (TG j.toNatClampNeg) (tm_vA (TG j.toNatClampNeg) (OT j.toNatClampNeg) (PM j.toNatClampNeg) (BS j.toNatClampNeg) (LN j.toNatClampNeg) 32 (VY j.toNatClampNeg)))) : wpY_needPair post (ym, ys, yw, yi, TG, BS, LN, PM, OT, VY, HE, OP, AU) 16 i j := by
  unfold wpY_needPair
  unfold tm_vS at h
  refine And.intro hi (tm_if h id (fun h => And.intro hj (tm_if h id (fun h => br_t rfl (And.intro hi (tm_if h (fun h => ?_) id))))))
  unfold wY_needPair_38
  refine br_t rfl ?_
  unfold wY_needPair_56
  refine br_f (by decide) (br_t rfl ?_)
  unfold wY_needPair_167
  refine And.intro hj (ty_needAt hj ?_)
  exact br_c (fun e => br_f (by decide) (by rw [e] at h; exact h)) (fun _ => h)
theorem ty_unseal {post : Int32 → Prop} {i j : Int32} (hi : vp_in i 41) (hj : vp_in j 41) (h : post (tm_vU (TG i.toNatClampNeg) (OT i.toNatClampNeg) (TG j.toNatClampNeg) (VY j.toNatClampNeg) (tm_vA (TG j.toNatClampNeg) (OT j.toNatClampNeg) (PM j.toNatClampNeg) (BS j.toNatClampNeg) (LN j.toNatClampNeg) 64 (VY j.toNatClampNeg)))) : wpY_needPair post (ym, ys, yw, yi, TG, BS, LN, PM, OT, VY, HE, OP, AU) 17 i j := by
  unfold wpY_needPair
  unfold tm_vU at h
  refine And.intro hi (tm_if h id (fun h => And.intro hj (tm_if h id (fun h => br_f (by decide) ?_))))
  unfold wY_needPair_38
  refine br_f (by decide) (And.intro hi (tm_if h id (fun h => ?_)))
  unfold wY_needPair_56
  refine br_f (by decide) (br_f (by decide) ?_)
  unfold wY_needPair_167
  refine And.intro hj (ty_needAt hj ?_)
  exact tm_if h (fun h => br_t rfl (And.intro hj (And.intro hi (tm_if h id id)))) id
theorem ty_invoke {post : Int32 → Prop} {i j : Int32} (hi : vp_in i 41) (hj : vp_in j 41) (h : post (tm_vK (TG i.toNatClampNeg) (OT i.toNatClampNeg) (PM i.toNatClampNeg) (TG j.toNatClampNeg) (OT j.toNatClampNeg) (PM j.toNatClampNeg))) : wpY_needPair post (ym, ys, yw, yi, TG, BS, LN, PM, OT, VY, HE, OP, AU) 23 i j := by
  unfold wpY_needPair
  unfold tm_vK at h
  refine And.intro hi (tm_if h id (fun h => And.intro hj (tm_if h id (fun h => br_f (by decide) ?_))))
  unfold wY_needPair_38
  refine br_f (by decide) (And.intro hi (tm_if h id (fun h => ?_)))
  unfold wY_needPair_56
  refine br_t rfl (And.intro hj (tm_if h id (fun h => And.intro hi (And.intro hj (tm_if h (fun h => ?_) id)))))
  exact And.intro hi (tm_if h id (fun h => And.intro hi (tm_if h id (fun h => And.intro hj (tm_if h id (fun h => And.intro hj (tm_if h id id)))))))
end
end
section
/-! writers -/
section
variable {rg pq wd st ca iv op rd rs rt im : Int32} {he wa : Int64} {ct dt : Int32} {M V R F : Nat → Int32}
theorem tx_setInt {post : SX → Prop} {s : Nat} {v : Int32} (hs : s < 41) (h : post (rg, pq, wd, st, ca, iv, op, rd, rs, rt, im, he, wa, ct, dt, upd M s 0, upd V s v, R, F)) : wpX_setInt post (rg, pq, wd, st, ca, iv, op, rd, rs, rt, im, he, wa, ct, dt, M, V, R, F) (nI s) v := by
  unfold wpX_setInt
  rw [nI_clamp (n := s) (by omega)]
  exact And.intro (vp_in_nI hs (by decide)) (nm_e (And.intro (vp_in_nI hs (by decide)) (nm_e h)))
theorem tx_setWord {post : SX → Prop} {s : Nat} {x v : Int32} (hs : s < 41) (h : post (rg, pq, wd, st, ca, iv, op, rd, rs, rt, im, he, wa, ct, dt, upd M s x, upd V s v, R, F)) : wpX_setWord post (rg, pq, wd, st, ca, iv, op, rd, rs, rt, im, he, wa, ct, dt, M, V, R, F) (nI s) x v := by
  unfold wpX_setWord
  rw [nI_clamp (n := s) (by omega)]
  exact And.intro (vp_in_nI hs (by decide)) (nm_e (And.intro (vp_in_nI hs (by decide)) (nm_e h)))
theorem tx_copy {post : SX → Prop} {a b : Nat} (ha : a < 41) (hb : b < 41) (h : post (rg, pq, wd, st, ca, iv, op, rd, rs, rt, im, he, wa, ct, dt, upd M b (M a), upd V b (V a), R, F)) : wpX_copy post (rg, pq, wd, st, ca, iv, op, rd, rs, rt, im, he, wa, ct, dt, M, V, R, F) (nI a) (nI b) := by
  unfold wpX_copy
  rw [nI_clamp (n := a) (by omega), nI_clamp (n := b) (by omega)]
  exact And.intro (vp_in_nI ha (by decide)) (And.intro (vp_in_nI hb (by decide)) (nm_e (And.intro (vp_in_nI ha (by decide)) (And.intro (vp_in_nI hb (by decide)) (nm_e h)))))
def tm_F0 (F : Nat → Int32) : Nat → Int32 := upd (upd F 0 0) 1 0
theorem tm_F0z (F : Nat → Int32) {kd : Nat} (h : kd < 2) : tm_F0 F kd = 0 := by
  unfold tm_F0
  by_cases e : kd = 1
  · subst e; exact pk_us
  · have : kd = 0 := by omega
    subst this
    rw [pk_un (by decide)]; exact pk_us
theorem tx_invalidate {post : SX → Prop} (h : post (rg, pq, wd, st, ca, iv, op, rd, rs, rt, im, he, wa, ct, dt, M, V, R, tm_F0 F)) : wpX_invalidate post (rg, pq, wd, st, ca, iv, op, rd, rs, rt, im, he, wa, ct, dt, M, V, R, F) := nm_e (nm_e h)
end
section
variable {ym ys yw yi : Int32} {TG BS LN PM OT VY HE OP AU : Nat → Int32}
theorem ty_setInt {post : SY → Prop} {i : Nat} {v : Int32} (hi : i < 41) (h : post (ym, ys, yw, yi, upd TG i 0, upd BS i 0, upd LN i 0, upd PM i 0, upd OT i (-1), upd VY i v, HE, OP, AU)) : wpY_setInt post (ym, ys, yw, yi, TG, BS, LN, PM, OT, VY, HE, OP, AU) (nI i) v := by
  unfold wpY_setInt
  rw [nI_clamp (n := i) (by omega)]
  have z : vp_in (nI i) 41 := vp_in_nI hi (by decide)
  exact And.intro z (nm_e (And.intro z (nm_e (And.intro z (nm_e (And.intro z (nm_e (And.intro z (nm_e (And.intro z (nm_e h)))))))))))
theorem ty_setCap {post : SY → Prop} {i : Nat} {v p : Int32} (hi : i < 41) (h : post (ym, ys, yw, yi, upd TG i 1, upd BS i 0, upd LN i ym, upd PM i p, upd OT i (-1), upd VY i v, HE, OP, AU)) : wpY_setCap post (ym, ys, yw, yi, TG, BS, LN, PM, OT, VY, HE, OP, AU) (nI i) v p := by
  unfold wpY_setCap
  rw [nI_clamp (n := i) (by omega)]
  have z : vp_in (nI i) 41 := vp_in_nI hi (by decide)
  exact And.intro z (nm_e (And.intro z (nm_e (And.intro z (nm_e (And.intro z (nm_e (And.intro z (nm_e (And.intro z (nm_e h)))))))))))
theorem ty_copy {post : SY → Prop} {a b : Nat} (ha : a < 41) (hb : b < 41) (hg : TG a = 0 ∨ TG a = 1) (h : post (ym, ys, yw, yi, upd TG b (TG a), upd BS b (BS a), upd LN b (LN a), upd PM b (PM a), upd OT b (OT a), upd VY b (VY a), HE, OP, AU)) : wpY_copy post (ym, ys, yw, yi, TG, BS, LN, PM, OT, VY, HE, OP, AU) (nI a) (nI b) := by
  unfold wpY_copy
  dsimp only
  rw [nI_clamp (n := a) (by omega), nI_clamp (n := b) (by omega)]
  have z : vp_in (nI a) 41 := vp_in_nI ha (by decide)
  have w : vp_in (nI b) 41 := vp_in_nI hb (by decide)
  have e : vp_nar .boolean (TG a) = TG a := by
    rcases hg with e | e
    · rw [e]; rfl
    · rw [e]; rfl
  rw [e]
  exact And.intro z (And.intro w (nm_e (And.intro z (And.intro w (nm_e (And.intro z (And.intro w (nm_e (And.intro z (And.intro w (nm_e (And.intro z (And.intro w (nm_e (And.intro z (And.intro w (nm_e h)))))))))))))))))
end
section
variable {m : Nat} {M V TG BS LN PM OT VY : Nat → Int32}
theorem tm_row (hR : tm_RL m M V TG BS LN PM OT VY) {s : Nat} (h : s < 9) : tm_RW m (M (32 + s)) (V (32 + s)) (TG s) (BS s) (LN s) (PM s) (OT s) (VY s) := by
  have := hR.1 s (by omega)
  rwa [tm_sl_lo h] at this
theorem tm_rowm (hR : tm_RL m M V TG BS LN PM OT VY) {a : Nat} (h : a < 32) : tm_RW m (M a) (V a) (TG (9 + a)) (BS (9 + a)) (LN (9 + a)) (PM (9 + a)) (OT (9 + a)) (VY (9 + a)) := by
  have := hR.1 (9 + a) (by omega)
  rwa [tm_sl_hi] at this
theorem tm_tgv (hm : m ≤ 32) (hR : tm_RL m M V TG BS LN PM OT VY) {i : Nat} (h : i < 41) : TG i = 0 ∨ TG i = 1 := by
  obtain ⟨h1, h2, _⟩ := hR.1 i h
  rcases tm_tg01 hm h1 with e | e
  · exact Or.inl (h2.trans e.1)
  · exact Or.inr (h2.trans e)
/-- a row is written and the pc goes one on -/
theorem tm_rl1 (hR : tm_RL m M V TG BS LN PM OT VY) {j sj : Nat} (ej : tm_sl j = sj) (hj : j < 41) (h8 : j ≠ 8) (hm : sj < m ∨ 32 ≤ sj) {x v tg bs ln pm ot vl : Int32} (hr : tm_RW m x v tg bs ln pm ot vl) : tm_RL m (upd M sj x) (upd (upd V sj v) 40 (upd V sj v 40 + 1)) (upd TG j tg) (upd BS j bs) (upd LN j ln) (upd PM j pm) (upd OT j ot) (upd (upd VY 8 (VY 8 + 1)) j vl) := by
  subst ej
  have a := tm_rlv (tm_rlu hR hj hm hr) (j := 8) (by omega) (VY 8 + 1)
  have e8 : tm_sl 8 = 40 := rfl
  have v8 : VY 8 = V 40 := (hR.1 8 (by omega)).2.2.2.2.2.2
  have n8 : (40 : Nat) ≠ tm_sl j := fun z => h8 (tm_sl_inj hj (by omega) (z.symm.trans e8.symm))
  rw [e8, tm_uc _ h8] at a
  rw [pk_un n8, ← v8]
  exact a
/-- a value of the pc alone -/
theorem tm_rl8 (hR : tm_RL m M V TG BS LN PM OT VY) (v : Int32) : tm_RL m M (upd V 40 v) TG BS LN PM OT (upd VY 8 v) := tm_rlv hR (j := 8) (by omega) v
theorem tm_v8 (hR : tm_RL m M V TG BS LN PM OT VY) : VY 8 = V 40 := (hR.1 8 (by omega)).2.2.2.2.2.2
end
end
section
/-! the effect of each instruction, on X and on Y -/
section
variable {rg pq wd st ca iv op rd rs rt im : Int32} {he wa : Int64} {ct dt : Int32} {M V R F : Nat → Int32} {d s t : Nat}
theorem tx_e1 {post : SX → Prop} (hd : d < 8) (hs : s < 8) (ht : t < 8) (h : post (rg, pq, wd, st, ca, iv, 1, nI (32 + d), nI (32 + s), nI (32 + t), im, he, wa, ct, dt, upd M (32 + d) (0), upd (upd V (32 + d) (im)) 40 (upd V (32 + d) (im) 40 + 1), R, F)) : wpX_execute post (rg, pq, wd, st, ca, iv, 1, nI (32 + d), nI (32 + s), nI (32 + t), im, he, wa, ct, dt, M, V, R, F) := by
  unfold wpX_execute
  refine br_f (by decide) (br_f (by decide) (br_f (by decide) (br_f (by decide) (br_f (by decide) ?_))))
  unfold wpX_executeStraight
  refine br_f (by decide) ?_
  unfold wpX_compute
  dsimp only
  rw [nI_clamp (n := 32 + s) (by omega), nI_clamp (n := 32 + t) (by omega)]
  refine And.intro (vp_in_nI (by omega) (by decide)) (nm_e (And.intro (vp_in_nI (by omega) (by decide)) (nm_e ?_)))
  refine br_f (by decide) (br_f (by decide) (br_t rfl ?_))
  exact tx_setInt (by omega) (nm_e h)
theorem tx_e2 {post : SX → Prop} (hd : d < 8) (hs : s < 8) (ht : t < 8) (h : post (rg, pq, wd, st, ca, iv, 2, nI (32 + d), nI (32 + s), nI (32 + t), im, he, wa, ct, dt, upd M (32 + d) (M (32 + s)), upd (upd V (32 + d) (V (32 + s))) 40 (upd V (32 + d) (V (32 + s)) 40 + 1), R, F)) : wpX_execute post (rg, pq, wd, st, ca, iv, 2, nI (32 + d), nI (32 + s), nI (32 + t), im, he, wa, ct, dt, M, V, R, F) := by
  unfold wpX_execute
  refine br_f (by decide) (br_f (by decide) (br_f (by decide) (br_f (by decide) (br_f (by decide) ?_))))
  unfold wpX_executeStraight
  refine br_f (by decide) ?_
  unfold wpX_compute
  dsimp only
  rw [nI_clamp (n := 32 + s) (by omega), nI_clamp (n := 32 + t) (by omega)]
  refine And.intro (vp_in_nI (by omega) (by decide)) (nm_e (And.intro (vp_in_nI (by omega) (by decide)) (nm_e ?_)))
  refine br_f (by decide) (br_f (by decide) (br_f (by decide) (br_t rfl ?_)))
  exact tx_copy (by omega) (by omega) (nm_e h)
theorem tx_e3 {post : SX → Prop} (hd : d < 8) (hs : s < 8) (ht : t < 8) (h : post (rg, pq, wd, st, ca, iv, 3, nI (32 + d), nI (32 + s), nI (32 + t), im, he, wa, ct, dt, upd M (32 + d) (0), upd (upd V (32 + d) (V (32 + s) + V (32 + t))) 40 (upd V (32 + d) (V (32 + s) + V (32 + t)) 40 + 1), R, F)) : wpX_execute post (rg, pq, wd, st, ca, iv, 3, nI (32 + d), nI (32 + s), nI (32 + t), im, he, wa, ct, dt, M, V, R, F) := by
  unfold wpX_execute
  refine br_f (by decide) (br_f (by decide) (br_f (by decide) (br_f (by decide) (br_f (by decide) ?_))))
  unfold wpX_executeStraight
  refine br_f (by decide) ?_
  unfold wpX_compute
  dsimp only
  rw [nI_clamp (n := 32 + s) (by omega), nI_clamp (n := 32 + t) (by omega)]
  refine And.intro (vp_in_nI (by omega) (by decide)) (nm_e (And.intro (vp_in_nI (by omega) (by decide)) (nm_e ?_)))
  refine br_f (by decide) (br_f (by decide) (br_f (by decide) (br_f (by decide) (br_t rfl ?_))))
  exact tx_setInt (by omega) (nm_e h)
theorem tx_e4 {post : SX → Prop} (hd : d < 8) (hs : s < 8) (ht : t < 8) (h : post (rg, pq, wd, st, ca, iv, 4, nI (32 + d), nI (32 + s), nI (32 + t), im, he, wa, ct, dt, upd M (32 + d) (0), upd (upd V (32 + d) (V (32 + s) - V (32 + t))) 40 (upd V (32 + d) (V (32 + s) - V (32 + t)) 40 + 1), R, F)) : wpX_execute post (rg, pq, wd, st, ca, iv, 4, nI (32 + d), nI (32 + s), nI (32 + t), im, he, wa, ct, dt, M, V, R, F) := by
  unfold wpX_execute
  refine br_f (by decide) (br_f (by decide) (br_f (by decide) (br_f (by decide) (br_f (by decide) ?_))))
  unfold wpX_executeStraight
  refine br_f (by decide) ?_
  unfold wpX_compute
  dsimp only
  rw [nI_clamp (n := 32 + s) (by omega), nI_clamp (n := 32 + t) (by omega)]
  refine And.intro (vp_in_nI (by omega) (by decide)) (nm_e (And.intro (vp_in_nI (by omega) (by decide)) (nm_e ?_)))
  refine br_f (by decide) (br_f (by decide) (br_f (by decide) (br_f (by decide) (br_f (by decide) (br_t rfl ?_)))))
  exact tx_setInt (by omega) (nm_e h)
theorem tx_e5 {post : SX → Prop} (hd : d < 8) (hs : s < 8) (ht : t < 8) (h : post (rg, pq, wd, st, ca, iv, 5, nI (32 + d), nI (32 + s), nI (32 + t), im, he, wa, ct, dt, upd M (32 + d) (0), upd (upd V (32 + d) (V (32 + s) + im)) 40 (upd V (32 + d) (V (32 + s) + im) 40 + 1), R, F)) : wpX_execute post (rg, pq, wd, st, ca, iv, 5, nI (32 + d), nI (32 + s), nI (32 + t), im, he, wa, ct, dt, M, V, R, F) := by
  unfold wpX_execute
  refine br_f (by decide) (br_f (by decide) (br_f (by decide) (br_f (by decide) (br_f (by decide) ?_))))
  unfold wpX_executeStraight
  refine br_f (by decide) ?_
  unfold wpX_compute
  dsimp only
  rw [nI_clamp (n := 32 + s) (by omega), nI_clamp (n := 32 + t) (by omega)]
  refine And.intro (vp_in_nI (by omega) (by decide)) (nm_e (And.intro (vp_in_nI (by omega) (by decide)) (nm_e ?_)))
  refine br_f (by decide) (br_f (by decide) (br_f (by decide) (br_f (by decide) (br_f (by decide) (br_f (by decide) (br_t rfl ?_))))))
  exact tx_setInt (by omega) (nm_e h)
theorem tx_e6 {post : SX → Prop} (hd : d < 8) (hs : s < 8) (ht : t < 8) (h : post (rg, pq, wd, st, ca, iv, 6, nI (32 + d), nI (32 + s), nI (32 + t), im, he, wa, ct, dt, upd M (32 + d) (0), upd (upd V (32 + d) (if V (32 + t) ≤ V (32 + s) then 0 else 1)) 40 (upd V (32 + d) (if V (32 + t) ≤ V (32 + s) then 0 else 1) 40 + 1), R, F)) : wpX_execute post (rg, pq, wd, st, ca, iv, 6, nI (32 + d), nI (32 + s), nI (32 + t), im, he, wa, ct, dt, M, V, R, F) := by
  unfold wpX_execute
  refine br_f (by decide) (br_f (by decide) (br_f (by decide) (br_f (by decide) (br_f (by decide) ?_))))
  unfold wpX_executeStraight
  refine br_f (by decide) ?_
  unfold wpX_compute
  dsimp only
  rw [nI_clamp (n := 32 + s) (by omega), nI_clamp (n := 32 + t) (by omega)]
  refine And.intro (vp_in_nI (by omega) (by decide)) (nm_e (And.intro (vp_in_nI (by omega) (by decide)) (nm_e ?_)))
  refine br_f (by decide) (br_t (by decide) ?_)
  refine br_c (fun z => ?_) (fun z => ?_)
  · rw [if_pos z] at h
    exact tx_setInt (by omega) (nm_e h)
  · rw [if_neg z] at h
    exact tx_setInt (by omega) (nm_e h)
theorem tx_e9 {post : SX → Prop} (hd : d < 8) (hs : s < 8) (ht : t < 8) (h : post (rg, pq, wd, st, ca, iv, 9, nI (32 + d), nI (32 + s), nI (32 + t), im, he, wa, ct, dt, upd M (32 + d) (M 40), upd (upd V (32 + d) (V 40 + im)) 40 (upd V (32 + d) (V 40 + im) 40 + 1), R, F)) : wpX_execute post (rg, pq, wd, st, ca, iv, 9, nI (32 + d), nI (32 + s), nI (32 + t), im, he, wa, ct, dt, M, V, R, F) := by
  unfold wpX_execute
  refine br_f (by decide) (br_f (by decide) (br_f (by decide) (br_f (by decide) (br_f (by decide) ?_))))
  unfold wpX_executeStraight
  refine br_t (by decide) (br_f (by decide) ?_)
  unfold wpX_derive
  dsimp only
  rw [nI_clamp (n := 32 + s) (by omega), nI_clamp (n := 32 + t) (by omega)]
  refine And.intro (vp_in_nI (by omega) (by decide)) (nm_e (And.intro (vp_in_nI (by omega) (by decide)) (nm_e (And.intro (vp_in_nI (by omega) (by decide)) (nm_e ?_)))))
  refine br_f (by decide) (br_f (by decide) (br_t rfl ?_))
  exact nm_e (nm_e (tx_setWord (by omega) (nm_e h)))
theorem tx_e11 {post : SX → Prop} (hd : d < 8) (hs : s < 8) (ht : t < 8) (h : post (rg, pq, wd, st, ca, iv, 11, nI (32 + d), nI (32 + s), nI (32 + t), im, he, wa, ct, dt, upd M (32 + d) (M (32 + s)), upd (upd V (32 + d) (V (32 + t))) 40 (upd V (32 + d) (V (32 + t)) 40 + 1), R, F)) : wpX_execute post (rg, pq, wd, st, ca, iv, 11, nI (32 + d), nI (32 + s), nI (32 + t), im, he, wa, ct, dt, M, V, R, F) := by
  unfold wpX_execute
  refine br_f (by decide) (br_f (by decide) (br_f (by decide) (br_f (by decide) (br_f (by decide) ?_))))
  unfold wpX_executeStraight
  refine br_t (by decide) (br_f (by decide) ?_)
  unfold wpX_derive
  dsimp only
  rw [nI_clamp (n := 32 + s) (by omega), nI_clamp (n := 32 + t) (by omega)]
  refine And.intro (vp_in_nI (by omega) (by decide)) (nm_e (And.intro (vp_in_nI (by omega) (by decide)) (nm_e (And.intro (vp_in_nI (by omega) (by decide)) (nm_e ?_)))))
  refine br_f (by decide) (br_f (by decide) (br_f (by decide) (br_f (by decide) (br_t rfl ?_))))
  exact tx_setWord (by omega) (nm_e h)
theorem tx_e12 {post : SX → Prop} (hd : d < 8) (hs : s < 8) (ht : t < 8) (h : post (rg, pq, wd, st, ca, iv, 12, nI (32 + d), nI (32 + s), nI (32 + t), im, he, wa, ct, dt, upd M (32 + d) (M (32 + s)), upd (upd V (32 + d) (V (32 + s) + im)) 40 (upd V (32 + d) (V (32 + s) + im) 40 + 1), R, F)) : wpX_execute post (rg, pq, wd, st, ca, iv, 12, nI (32 + d), nI (32 + s), nI (32 + t), im, he, wa, ct, dt, M, V, R, F) := by
  unfold wpX_execute
  refine br_f (by decide) (br_f (by decide) (br_f (by decide) (br_f (by decide) (br_f (by decide) ?_))))
  unfold wpX_executeStraight
  refine br_t (by decide) (br_f (by decide) ?_)
  unfold wpX_derive
  dsimp only
  rw [nI_clamp (n := 32 + s) (by omega), nI_clamp (n := 32 + t) (by omega)]
  refine And.intro (vp_in_nI (by omega) (by decide)) (nm_e (And.intro (vp_in_nI (by omega) (by decide)) (nm_e (And.intro (vp_in_nI (by omega) (by decide)) (nm_e ?_)))))
  refine br_f (by decide) (br_f (by decide) (br_f (by decide) (br_f (by decide) (br_f (by decide) (br_t rfl ?_)))))
  exact nm_e (tx_setWord (by omega) (nm_e h))
theorem tx_e13 {post : SX → Prop} (hd : d < 8) (hs : s < 8) (ht : t < 8) {x : Int32} (hx : ((M (32 + s) &&& (-8191)) ||| (V (32 + s) <<< ((1 : Int32) &&& 31))) ||| (V (32 + t) <<< ((7 : Int32) &&& 31)) = x) (h : post (rg, pq, wd, st, ca, iv, 13, nI (32 + d), nI (32 + s), nI (32 + t), im, he, wa, ct, dt, upd M (32 + d) (x), upd (upd V (32 + d) (V (32 + s))) 40 (upd V (32 + d) (V (32 + s)) 40 + 1), R, F)) : wpX_execute post (rg, pq, wd, st, ca, iv, 13, nI (32 + d), nI (32 + s), nI (32 + t), im, he, wa, ct, dt, M, V, R, F) := by
  unfold wpX_execute
  refine br_f (by decide) (br_f (by decide) (br_f (by decide) (br_f (by decide) (br_f (by decide) ?_))))
  unfold wpX_executeStraight
  refine br_t (by decide) (br_f (by decide) ?_)
  unfold wpX_derive
  dsimp only
  rw [nI_clamp (n := 32 + s) (by omega), nI_clamp (n := 32 + t) (by omega)]
  refine And.intro (vp_in_nI (by omega) (by decide)) (nm_e (And.intro (vp_in_nI (by omega) (by decide)) (nm_e (And.intro (vp_in_nI (by omega) (by decide)) (nm_e ?_)))))
  refine br_f (by decide) (br_f (by decide) (br_f (by decide) (br_f (by decide) (br_f (by decide) (br_f (by decide) (br_t rfl ?_))))))
  unfold wpX_withRange
  dsimp only
  rw [hx]
  exact tx_setWord (by omega) (nm_e h)
theorem tx_e14 {post : SX → Prop} (hd : d < 8) (hs : s < 8) (ht : t < 8) {x : Int32} (hx : ((M (32 + s) &&& (-8191)) ||| (V (32 + s) <<< ((1 : Int32) &&& 31))) ||| (im <<< ((7 : Int32) &&& 31)) = x) (h : post (rg, pq, wd, st, ca, iv, 14, nI (32 + d), nI (32 + s), nI (32 + t), im, he, wa, ct, dt, upd M (32 + d) (x), upd (upd V (32 + d) (V (32 + s))) 40 (upd V (32 + d) (V (32 + s)) 40 + 1), R, F)) : wpX_execute post (rg, pq, wd, st, ca, iv, 14, nI (32 + d), nI (32 + s), nI (32 + t), im, he, wa, ct, dt, M, V, R, F) := by
  unfold wpX_execute
  refine br_f (by decide) (br_f (by decide) (br_f (by decide) (br_f (by decide) (br_f (by decide) ?_))))
  unfold wpX_executeStraight
  refine br_t (by decide) (br_f (by decide) ?_)
  unfold wpX_derive
  dsimp only
  rw [nI_clamp (n := 32 + s) (by omega), nI_clamp (n := 32 + t) (by omega)]
  refine And.intro (vp_in_nI (by omega) (by decide)) (nm_e (And.intro (vp_in_nI (by omega) (by decide)) (nm_e (And.intro (vp_in_nI (by omega) (by decide)) (nm_e ?_)))))
  refine br_f (by decide) (br_f (by decide) (br_f (by decide) (br_f (by decide) (br_f (by decide) (br_f (by decide) (br_f (by decide) (br_t rfl ?_)))))))
  unfold wpX_withRange
  dsimp only
  rw [hx]
  exact tx_setWord (by omega) (nm_e h)
theorem tx_e15 {post : SX → Prop} (hd : d < 8) (hs : s < 8) (ht : t < 8) {x : Int32} (hx : (M (32 + s) &&& (-2088961)) ||| ((tm_pm (M (32 + s)) &&& im) <<< ((13 : Int32) &&& 31)) = x) (h : post (rg, pq, wd, st, ca, iv, 15, nI (32 + d), nI (32 + s), nI (32 + t), im, he, wa, ct, dt, upd M (32 + d) (x), upd (upd V (32 + d) (V (32 + s))) 40 (upd V (32 + d) (V (32 + s)) 40 + 1), R, F)) : wpX_execute post (rg, pq, wd, st, ca, iv, 15, nI (32 + d), nI (32 + s), nI (32 + t), im, he, wa, ct, dt, M, V, R, F) := by
  unfold wpX_execute
  refine br_f (by decide) (br_f (by decide) (br_f (by decide) (br_f (by decide) (br_f (by decide) ?_))))
  unfold wpX_executeStraight
  refine br_t (by decide) (br_f (by decide) ?_)
  unfold wpX_derive
  dsimp only
  rw [nI_clamp (n := 32 + s) (by omega), nI_clamp (n := 32 + t) (by omega)]
  refine And.intro (vp_in_nI (by omega) (by decide)) (nm_e (And.intro (vp_in_nI (by omega) (by decide)) (nm_e (And.intro (vp_in_nI (by omega) (by decide)) (nm_e ?_)))))
  refine br_f (by decide) (br_f (by decide) (br_f (by decide) (br_f (by decide) (br_f (by decide) (br_f (by decide) (br_f (by decide) (br_f (by decide) (br_t rfl ?_))))))))
  unfold wpX_withPermsMasked
  unfold wpX_permsOf
  dsimp only
  unfold tm_pm at hx
  rw [hx]
  exact tx_setWord (by omega) (nm_e h)
theorem tx_e16 {post : SX → Prop} (hd : d < 8) (hs : s < 8) (ht : t < 8) {x : Int32} (hx : (M (32 + s) &&& (-132120577)) ||| ((V (32 + t) + 1) <<< ((21 : Int32) &&& 31)) = x) (h : post (rg, pq, wd, st, ca, iv, 16, nI (32 + d), nI (32 + s), nI (32 + t), im, he, wa, ct, dt, upd M (32 + d) (x), upd (upd V (32 + d) (V (32 + s))) 40 (upd V (32 + d) (V (32 + s)) 40 + 1), R, F)) : wpX_execute post (rg, pq, wd, st, ca, iv, 16, nI (32 + d), nI (32 + s), nI (32 + t), im, he, wa, ct, dt, M, V, R, F) := by
  unfold wpX_execute
  refine br_f (by decide) (br_f (by decide) (br_f (by decide) (br_f (by decide) (br_f (by decide) ?_))))
  unfold wpX_executeStraight
  refine br_t (by decide) (br_f (by decide) ?_)
  unfold wpX_derive
  dsimp only
  rw [nI_clamp (n := 32 + s) (by omega), nI_clamp (n := 32 + t) (by omega)]
  refine And.intro (vp_in_nI (by omega) (by decide)) (nm_e (And.intro (vp_in_nI (by omega) (by decide)) (nm_e (And.intro (vp_in_nI (by omega) (by decide)) (nm_e ?_)))))
  refine br_f (by decide) (br_f (by decide) (br_f (by decide) (br_f (by decide) (br_f (by decide) (br_f (by decide) (br_f (by decide) (br_f (by decide) (br_f (by decide) (br_t rfl ?_)))))))))
  unfold wpX_withType
  dsimp only
  rw [hx]
  exact tx_setWord (by omega) (nm_e h)
theorem tx_e17 {post : SX → Prop} (hd : d < 8) (hs : s < 8) (ht : t < 8) {x : Int32} (hx : (M (32 + s) &&& (-132120577)) ||| (((-1 : Int32) + 1) <<< ((21 : Int32) &&& 31)) = x) (h : post (rg, pq, wd, st, ca, iv, 17, nI (32 + d), nI (32 + s), nI (32 + t), im, he, wa, ct, dt, upd M (32 + d) (x), upd (upd V (32 + d) (V (32 + s))) 40 (upd V (32 + d) (V (32 + s)) 40 + 1), R, F)) : wpX_execute post (rg, pq, wd, st, ca, iv, 17, nI (32 + d), nI (32 + s), nI (32 + t), im, he, wa, ct, dt, M, V, R, F) := by
  unfold wpX_execute
  refine br_f (by decide) (br_f (by decide) (br_f (by decide) (br_f (by decide) (br_f (by decide) ?_))))
  unfold wpX_executeStraight
  refine br_t (by decide) (br_f (by decide) ?_)
  unfold wpX_derive
  dsimp only
  rw [nI_clamp (n := 32 + s) (by omega), nI_clamp (n := 32 + t) (by omega)]
  refine And.intro (vp_in_nI (by omega) (by decide)) (nm_e (And.intro (vp_in_nI (by omega) (by decide)) (nm_e (And.intro (vp_in_nI (by omega) (by decide)) (nm_e ?_)))))
  refine br_f (by decide) (br_f (by decide) (br_f (by decide) (br_f (by decide) (br_f (by decide) (br_f (by decide) (br_f (by decide) (br_f (by decide) (br_f (by decide) (br_f (by decide) (br_t rfl ?_))))))))))
  unfold wpX_withType
  dsimp only
  rw [hx]
  exact tx_setWord (by omega) (nm_e h)
theorem tx_e18 {post : SX → Prop} (hd : d < 8) (hs : s < 8) (ht : t < 8) (h : post (rg, pq, wd, st, ca, iv, 18, nI (32 + d), nI (32 + s), nI (32 + t), im, he, wa, ct, dt, upd M (32 + d) (0), upd (upd V (32 + d) (tm_vF (tm_tg (M (32 + s))) (tm_bs (M (32 + s))) (tm_ln (M (32 + s))) (tm_pm (M (32 + s))) (tm_ot (M (32 + s))) (V (32 + s)) im)) 40 (upd V (32 + d) (tm_vF (tm_tg (M (32 + s))) (tm_bs (M (32 + s))) (tm_ln (M (32 + s))) (tm_pm (M (32 + s))) (tm_ot (M (32 + s))) (V (32 + s)) im) 40 + 1), R, F)) : wpX_execute post (rg, pq, wd, st, ca, iv, 18, nI (32 + d), nI (32 + s), nI (32 + t), im, he, wa, ct, dt, M, V, R, F) := by
  unfold wpX_execute
  refine br_f (by decide) (br_f (by decide) (br_f (by decide) (br_f (by decide) (br_f (by decide) ?_))))
  unfold wpX_executeStraight
  refine br_t (by decide) (br_f (by decide) ?_)
  unfold wpX_derive
  dsimp only
  rw [nI_clamp (n := 32 + s) (by omega), nI_clamp (n := 32 + t) (by omega)]
  refine And.intro (vp_in_nI (by omega) (by decide)) (nm_e (And.intro (vp_in_nI (by omega) (by decide)) (nm_e (And.intro (vp_in_nI (by omega) (by decide)) (nm_e ?_)))))
  refine br_f (by decide) (br_t (by decide) ?_)
  unfold wX_derive_181
  refine tx_field (vp_in_nI (by omega) (by decide)) ?_
  rw [nI_clamp (n := 32 + s) (by omega)]
  exact tx_setWord (by omega) (nm_e h)
theorem tx_e19 {post : SX → Prop} (hd : d < 8) (hs : s < 8) (ht : t < 8) {a : Nat} (ha : V (32 + s) + im = nI a) (hl : a < 32) (h : post (rg, pq, wd, st, ca, iv, 19, nI (32 + d), nI (32 + s), nI (32 + t), im, he, wa, ct, dt, upd M (32 + d) (0), upd (upd V (32 + d) (V a)) 40 (upd V (32 + d) (V a) 40 + 1), R, F)) : wpX_execute post (rg, pq, wd, st, ca, iv, 19, nI (32 + d), nI (32 + s), nI (32 + t), im, he, wa, ct, dt, M, V, R, F) := by
  unfold wpX_execute
  refine br_f (by decide) (br_f (by decide) (br_f (by decide) (br_f (by decide) (br_f (by decide) ?_))))
  unfold wpX_executeStraight
  refine br_t (by decide) (br_t (by decide) ?_)
  unfold wpX_access
  dsimp only
  rw [nI_clamp (n := 32 + s) (by omega)]
  rw [ha]
  refine And.intro (vp_in_nI (by omega) (by decide)) (nm_e ?_)
  refine br_f (by decide) (br_f (by decide) (br_t rfl (And.intro (vp_in_nI (by omega) (by decide)) ?_)))
  rw [nI_clamp (n := a) (by omega)]
  exact tx_setInt (by omega) (nm_e h)
theorem tx_e20 {post : SX → Prop} (hd : d < 8) (hs : s < 8) (ht : t < 8) {a : Nat} (ha : V (32 + s) + im = nI a) (hl : a < 32) (h : post (rg, pq, wd, st, ca, iv, 20, nI (32 + d), nI (32 + s), nI (32 + t), im, he, wa, ct, dt, upd M (32 + d) (M a), upd (upd V (32 + d) (V a)) 40 (upd V (32 + d) (V a) 40 + 1), R, F)) : wpX_execute post (rg, pq, wd, st, ca, iv, 20, nI (32 + d), nI (32 + s), nI (32 + t), im, he, wa, ct, dt, M, V, R, F) := by
  unfold wpX_execute
  refine br_f (by decide) (br_f (by decide) (br_f (by decide) (br_f (by decide) (br_f (by decide) ?_))))
  unfold wpX_executeStraight
  refine br_t (by decide) (br_t (by decide) ?_)
  unfold wpX_access
  dsimp only
  rw [nI_clamp (n := 32 + s) (by omega)]
  rw [ha]
  refine And.intro (vp_in_nI (by omega) (by decide)) (nm_e ?_)
  refine br_f (by decide) (br_f (by decide) (br_f (by decide) (br_t rfl ?_)))
  exact tx_copy (by omega) (by omega) (nm_e h)
theorem tx_e21 {post : SX → Prop} (hd : d < 8) (hs : s < 8) (ht : t < 8) {a : Nat} (ha : V (32 + s) + im = nI a) (hl : a < 32) (h : post (rg, pq, wd, st, ca, iv, 21, nI (32 + d), nI (32 + s), nI (32 + t), im, he, wa, ct, dt, upd M (a) (0), upd (upd V (a) (V (32 + d))) 40 (upd V (a) (V (32 + d)) 40 + 1), R, F)) : wpX_execute post (rg, pq, wd, st, ca, iv, 21, nI (32 + d), nI (32 + s), nI (32 + t), im, he, wa, ct, dt, M, V, R, F) := by
  unfold wpX_execute
  refine br_f (by decide) (br_f (by decide) (br_f (by decide) (br_f (by decide) (br_f (by decide) ?_))))
  unfold wpX_executeStraight
  refine br_t (by decide) (br_t (by decide) ?_)
  unfold wpX_access
  dsimp only
  rw [nI_clamp (n := 32 + s) (by omega)]
  rw [ha]
  refine And.intro (vp_in_nI (by omega) (by decide)) (nm_e ?_)
  refine br_f (by decide) (br_f (by decide) (br_f (by decide) (br_f (by decide) (br_t rfl (And.intro (vp_in_nI (by omega) (by decide)) ?_)))))
  rw [nI_clamp (n := 32 + d) (by omega)]
  exact tx_setInt (by omega) (nm_e h)
theorem tx_e22 {post : SX → Prop} (hd : d < 8) (hs : s < 8) (ht : t < 8) {a : Nat} (ha : V (32 + s) + im = nI a) (hl : a < 32) (h : post (rg, pq, wd, st, ca, iv, 22, nI (32 + d), nI (32 + s), nI (32 + t), im, he, wa, ct, dt, upd M (a) (M (32 + d)), upd (upd V (a) (V (32 + d))) 40 (upd V (a) (V (32 + d)) 40 + 1), R, F)) : wpX_execute post (rg, pq, wd, st, ca, iv, 22, nI (32 + d), nI (32 + s), nI (32 + t), im, he, wa, ct, dt, M, V, R, F) := by
  unfold wpX_execute
  refine br_f (by decide) (br_f (by decide) (br_f (by decide) (br_f (by decide) (br_f (by decide) ?_))))
  unfold wpX_executeStraight
  refine br_t (by decide) (br_t (by decide) ?_)
  unfold wpX_access
  dsimp only
  rw [nI_clamp (n := 32 + s) (by omega)]
  rw [ha]
  refine And.intro (vp_in_nI (by omega) (by decide)) (nm_e ?_)
  refine br_f (by decide) (br_t (by decide) ?_)
  exact tx_copy (by omega) (by omega) (nm_e h)
theorem tx_e0 {post : SX → Prop} (h : post (rg, pq, wd, 1, ca, iv, 0, nI (32 + d), nI (32 + s), nI (32 + t), im, he, wa, ct, dt, M, V, R, F)) : wpX_execute post (rg, pq, wd, st, ca, iv, 0, nI (32 + d), nI (32 + s), nI (32 + t), im, he, wa, ct, dt, M, V, R, F) := br_t rfl h
theorem tx_e7 {post : SX → Prop} (hs : s < 8) (h : post (rg, pq, wd, st, ca, iv, 7, nI (32 + d), nI (32 + s), nI (32 + t), im, he, wa, ct, dt, M, upd V 40 (V 40 + (if V (32 + s) = 0 then im else 1)), R, F)) : wpX_execute post (rg, pq, wd, st, ca, iv, 7, nI (32 + d), nI (32 + s), nI (32 + t), im, he, wa, ct, dt, M, V, R, F) := by
  unfold wpX_execute
  refine br_f (by decide) (br_t rfl ?_)
  unfold wX_execute_33
  rw [nI_clamp (n := 32 + s) (by omega)]
  refine And.intro (vp_in_nI (by omega) (by decide)) (br_c (fun z => ?_) (fun z => ?_))
  · rw [if_pos z] at h
    exact br_t rfl (br_t rfl (br_f (by decide) (nm_e h)))
  · rw [if_neg z] at h
    exact br_t rfl (br_f (by decide) (br_t rfl (nm_e h)))
theorem tx_e8 {post : SX → Prop} (hs : s < 8) (h : post (rg, pq, wd, st, ca, iv, 8, nI (32 + d), nI (32 + s), nI (32 + t), im, he, wa, ct, dt, M, upd V 40 (V 40 + (if V (32 + s) = 0 then 1 else im)), R, F)) : wpX_execute post (rg, pq, wd, st, ca, iv, 8, nI (32 + d), nI (32 + s), nI (32 + t), im, he, wa, ct, dt, M, V, R, F) := by
  unfold wpX_execute
  refine br_f (by decide) (br_f (by decide) (br_t rfl ?_))
  unfold wX_execute_33
  rw [nI_clamp (n := 32 + s) (by omega)]
  refine And.intro (vp_in_nI (by omega) (by decide)) (br_c (fun z => ?_) (fun z => ?_))
  · rw [if_pos z] at h
    exact br_f (by decide) (br_f (by decide) (br_t rfl (nm_e h)))
  · rw [if_neg z] at h
    exact br_f (by decide) (br_t rfl (br_f (by decide) (nm_e h)))
theorem tx_e10 {post : SX → Prop} (hs : s < 8) (h : post (rg, pq, wd, st, ca, iv, 10, nI (32 + d), nI (32 + s), nI (32 + t), im, he, wa, ct, dt, upd M 40 (M (32 + s)), upd V 40 (V (32 + s)), R, F)) : wpX_execute post (rg, pq, wd, st, ca, iv, 10, nI (32 + d), nI (32 + s), nI (32 + t), im, he, wa, ct, dt, M, V, R, F) := by
  unfold wpX_execute
  refine br_f (by decide) (br_f (by decide) (br_f (by decide) (br_t rfl ?_)))
  exact tx_copy (b := 40) (by omega) (by omega) h
theorem tx_e23 {post : SX → Prop} (hs : s < 8) (ht : t < 8) {x y : Int32} (hx : (M (32 + s) &&& (-132120577)) ||| (((-1 : Int32) + 1) <<< ((21 : Int32) &&& 31)) = x) (hy : (M (32 + t) &&& (-132120577)) ||| (((-1 : Int32) + 1) <<< ((21 : Int32) &&& 31)) = y) (h : post (rg, pq, wd, st, ca, iv + 1, 23, nI (32 + d), nI (32 + s), nI (32 + t), im, he, wa, ct, dt, upd (upd M 40 x) 39 y, upd (upd V 40 (V (32 + s))) 39 (V (32 + t)), R, F)) : wpX_execute post (rg, pq, wd, st, ca, iv, 23, nI (32 + d), nI (32 + s), nI (32 + t), im, he, wa, ct, dt, M, V, R, F) := by
  unfold wpX_execute
  refine br_f (by decide) (br_f (by decide) (br_f (by decide) (br_f (by decide) (br_t rfl ?_))))
  unfold wpX_invoke
  unfold wpX_withType
  dsimp only
  rw [nI_clamp (n := 32 + s) (by omega), nI_clamp (n := 32 + t) (by omega)]
  rw [hx, hy]
  refine And.intro (vp_in_nI (by omega) (by decide)) (And.intro (vp_in_nI (by omega) (by decide)) (And.intro (vp_in_nI (by omega) (by decide)) (nm_e (And.intro (vp_in_nI (by omega) (by decide)) ?_))))
  exact tx_setWord (s := 40) (by omega) (tx_setWord (s := 39) (by omega) (nm_e h))
end
end
section
/-! the effect on Y -/
section
variable {ym ys yw yi : Int32} {TG BS LN PM OT VY HE OP AU : Nat → Int32} {d s t : Nat} {im : Int32}
theorem ty_e0 {post : SY → Prop} (hd : d < 8) (hs : s < 8) (ht : t < 8) (h : post (ym, 1, yw, yi, TG, BS, LN, PM, OT, VY, HE, OP, AU)) : wpY_effect post (ym, ys, yw, yi, TG, BS, LN, PM, OT, VY, HE, OP, AU) 0 (nI d) (nI s) (nI t) im (VY 8) := by
  have e1 : ∀ w, upd VY 8 w s = VY s := fun w => pk_un (by omega)
  have e2 : ∀ w, upd VY 8 w d = VY d := fun w => pk_un (by omega)
  unfold wpY_effect
  dsimp only
  rw [nI_clamp (n := s) (by omega), nI_clamp (n := t) (by omega), nI_clamp (n := d) (by omega)]
  refine And.intro (vp_in_nI (by omega) (by decide)) (nm_e (And.intro (vp_in_nI (by omega) (by decide)) (nm_e (And.intro (vp_in_nI (by omega) (by decide)) (nm_e (nm_e (nm_e ?_)))))))
  refine br_f (by decide) (br_f (by decide) (br_t rfl ?_))
  refine nm_r (tm_uu _ _ _ _) ?_
  rw [tm_ue]
  exact h
theorem ty_e1 {post : SY → Prop} (hd : d < 8) (hs : s < 8) (ht : t < 8) (h : post (ym, ys, yw, yi, upd TG (d) (0), upd BS (d) (0), upd LN (d) (0), upd PM (d) (0), upd OT (d) (-1), upd (upd VY 8 (VY 8 + 1)) (d) (im), HE, OP, AU)) : wpY_effect post (ym, ys, yw, yi, TG, BS, LN, PM, OT, VY, HE, OP, AU) 1 (nI d) (nI s) (nI t) im (VY 8) := by
  have e1 : ∀ w, upd VY 8 w s = VY s := fun w => pk_un (by omega)
  have e2 : ∀ w, upd VY 8 w d = VY d := fun w => pk_un (by omega)
  unfold wpY_effect
  dsimp only
  rw [nI_clamp (n := s) (by omega), nI_clamp (n := t) (by omega), nI_clamp (n := d) (by omega)]
  refine And.intro (vp_in_nI (by omega) (by decide)) (nm_e (And.intro (vp_in_nI (by omega) (by decide)) (nm_e (And.intro (vp_in_nI (by omega) (by decide)) (nm_e (nm_e (nm_e ?_)))))))
  refine br_f (by decide) (br_f (by decide) (br_f (by decide) (br_t rfl ?_)))
  exact ty_setInt (by omega) h
theorem ty_e2 {post : SY → Prop} (hd : d < 8) (hs : s < 8) (ht : t < 8) (hg : ∀ i, i < 41 → TG i = 0 ∨ TG i = 1) (h : post (ym, ys, yw, yi, upd TG (d) (TG (s)), upd BS (d) (BS (s)), upd LN (d) (LN (s)), upd PM (d) (PM (s)), upd OT (d) (OT (s)), upd (upd VY 8 (VY 8 + 1)) (d) (VY s), HE, OP, AU)) : wpY_effect post (ym, ys, yw, yi, TG, BS, LN, PM, OT, VY, HE, OP, AU) 2 (nI d) (nI s) (nI t) im (VY 8) := by
  have e1 : ∀ w, upd VY 8 w s = VY s := fun w => pk_un (by omega)
  have e2 : ∀ w, upd VY 8 w d = VY d := fun w => pk_un (by omega)
  unfold wpY_effect
  dsimp only
  rw [nI_clamp (n := s) (by omega), nI_clamp (n := t) (by omega), nI_clamp (n := d) (by omega)]
  refine And.intro (vp_in_nI (by omega) (by decide)) (nm_e (And.intro (vp_in_nI (by omega) (by decide)) (nm_e (And.intro (vp_in_nI (by omega) (by decide)) (nm_e (nm_e (nm_e ?_)))))))
  refine br_f (by decide) (br_f (by decide) (br_f (by decide) (br_f (by decide) (br_t rfl ?_))))
  refine ty_copy (by omega) (by omega) (hg _ (by omega)) ?_
  rw [e1]
  exact h
theorem ty_e3 {post : SY → Prop} (hd : d < 8) (hs : s < 8) (ht : t < 8) (h : post (ym, ys, yw, yi, upd TG (d) (0), upd BS (d) (0), upd LN (d) (0), upd PM (d) (0), upd OT (d) (-1), upd (upd VY 8 (VY 8 + 1)) (d) (VY s + VY t), HE, OP, AU)) : wpY_effect post (ym, ys, yw, yi, TG, BS, LN, PM, OT, VY, HE, OP, AU) 3 (nI d) (nI s) (nI t) im (VY 8) := by
  have e1 : ∀ w, upd VY 8 w s = VY s := fun w => pk_un (by omega)
  have e2 : ∀ w, upd VY 8 w d = VY d := fun w => pk_un (by omega)
  unfold wpY_effect
  dsimp only
  rw [nI_clamp (n := s) (by omega), nI_clamp (n := t) (by omega), nI_clamp (n := d) (by omega)]
  refine And.intro (vp_in_nI (by omega) (by decide)) (nm_e (And.intro (vp_in_nI (by omega) (by decide)) (nm_e (And.intro (vp_in_nI (by omega) (by decide)) (nm_e (nm_e (nm_e ?_)))))))
  refine br_f (by decide) (br_f (by decide) (br_f (by decide) (br_f (by decide) (br_f (by decide) (br_t rfl ?_)))))
  exact ty_setInt (by omega) h
theorem ty_e4 {post : SY → Prop} (hd : d < 8) (hs : s < 8) (ht : t < 8) (h : post (ym, ys, yw, yi, upd TG (d) (0), upd BS (d) (0), upd LN (d) (0), upd PM (d) (0), upd OT (d) (-1), upd (upd VY 8 (VY 8 + 1)) (d) (VY s - VY t), HE, OP, AU)) : wpY_effect post (ym, ys, yw, yi, TG, BS, LN, PM, OT, VY, HE, OP, AU) 4 (nI d) (nI s) (nI t) im (VY 8) := by
  have e1 : ∀ w, upd VY 8 w s = VY s := fun w => pk_un (by omega)
  have e2 : ∀ w, upd VY 8 w d = VY d := fun w => pk_un (by omega)
  unfold wpY_effect
  dsimp only
  rw [nI_clamp (n := s) (by omega), nI_clamp (n := t) (by omega), nI_clamp (n := d) (by omega)]
  refine And.intro (vp_in_nI (by omega) (by decide)) (nm_e (And.intro (vp_in_nI (by omega) (by decide)) (nm_e (And.intro (vp_in_nI (by omega) (by decide)) (nm_e (nm_e (nm_e ?_)))))))
  refine br_f (by decide) (br_f (by decide) (br_f (by decide) (br_f (by decide) (br_f (by decide) (br_f (by decide) (br_t rfl ?_))))))
  exact ty_setInt (by omega) h
theorem ty_e5 {post : SY → Prop} (hd : d < 8) (hs : s < 8) (ht : t < 8) (h : post (ym, ys, yw, yi, upd TG (d) (0), upd BS (d) (0), upd LN (d) (0), upd PM (d) (0), upd OT (d) (-1), upd (upd VY 8 (VY 8 + 1)) (d) (VY s + im), HE, OP, AU)) : wpY_effect post (ym, ys, yw, yi, TG, BS, LN, PM, OT, VY, HE, OP, AU) 5 (nI d) (nI s) (nI t) im (VY 8) := by
  have e1 : ∀ w, upd VY 8 w s = VY s := fun w => pk_un (by omega)
  have e2 : ∀ w, upd VY 8 w d = VY d := fun w => pk_un (by omega)
  unfold wpY_effect
  dsimp only
  rw [nI_clamp (n := s) (by omega), nI_clamp (n := t) (by omega), nI_clamp (n := d) (by omega)]
  refine And.intro (vp_in_nI (by omega) (by decide)) (nm_e (And.intro (vp_in_nI (by omega) (by decide)) (nm_e (And.intro (vp_in_nI (by omega) (by decide)) (nm_e (nm_e (nm_e ?_)))))))
  refine br_f (by decide) (br_f (by decide) (br_f (by decide) (br_f (by decide) (br_f (by decide) (br_f (by decide) (br_f (by decide) (br_t rfl ?_)))))))
  exact ty_setInt (by omega) h
theorem ty_e6 {post : SY → Prop} (hd : d < 8) (hs : s < 8) (ht : t < 8) (h : post (ym, ys, yw, yi, upd TG (d) (0), upd BS (d) (0), upd LN (d) (0), upd PM (d) (0), upd OT (d) (-1), upd (upd VY 8 (VY 8 + 1)) (d) (if VY t ≤ VY s then 0 else 1), HE, OP, AU)) : wpY_effect post (ym, ys, yw, yi, TG, BS, LN, PM, OT, VY, HE, OP, AU) 6 (nI d) (nI s) (nI t) im (VY 8) := by
  have e1 : ∀ w, upd VY 8 w s = VY s := fun w => pk_un (by omega)
  have e2 : ∀ w, upd VY 8 w d = VY d := fun w => pk_un (by omega)
  unfold wpY_effect
  dsimp only
  rw [nI_clamp (n := s) (by omega), nI_clamp (n := t) (by omega), nI_clamp (n := d) (by omega)]
  refine And.intro (vp_in_nI (by omega) (by decide)) (nm_e (And.intro (vp_in_nI (by omega) (by decide)) (nm_e (And.intro (vp_in_nI (by omega) (by decide)) (nm_e (nm_e (nm_e ?_)))))))
  refine br_f (by decide) (br_f (by decide) (br_f (by decide) (br_f (by decide) (br_f (by decide) (br_f (by decide) (br_f (by decide) (br_f (by decide) (br_t rfl ?_))))))))
  refine br_c (fun z => ?_) (fun z => ?_)
  · rw [if_pos z] at h
    exact ty_setInt (by omega) h
  · rw [if_neg z] at h
    exact ty_setInt (by omega) h
theorem ty_e7 {post : SY → Prop} (hd : d < 8) (hs : s < 8) (ht : t < 8) (h : post (ym, ys, yw, yi, TG, BS, LN, PM, OT, upd VY 8 (VY 8 + (if VY s = 0 then im else 1)), HE, OP, AU)) : wpY_effect post (ym, ys, yw, yi, TG, BS, LN, PM, OT, VY, HE, OP, AU) 7 (nI d) (nI s) (nI t) im (VY 8) := by
  have e1 : ∀ w, upd VY 8 w s = VY s := fun w => pk_un (by omega)
  have e2 : ∀ w, upd VY 8 w d = VY d := fun w => pk_un (by omega)
  unfold wpY_effect
  dsimp only
  rw [nI_clamp (n := s) (by omega), nI_clamp (n := t) (by omega), nI_clamp (n := d) (by omega)]
  refine And.intro (vp_in_nI (by omega) (by decide)) (nm_e (And.intro (vp_in_nI (by omega) (by decide)) (nm_e (And.intro (vp_in_nI (by omega) (by decide)) (nm_e (nm_e (nm_e ?_)))))))
  refine br_f (by decide) (br_f (by decide) (br_f (by decide) (br_f (by decide) (br_f (by decide) (br_f (by decide) (br_f (by decide) (br_f (by decide) (br_f (by decide) (br_t rfl ?_)))))))))
  refine br_c (fun z => ?_) (fun z => ?_)
  · rw [if_pos z] at h
    exact nm_r (tm_uu _ _ _ _) h
  · rw [if_neg z] at h
    exact h
theorem ty_e8 {post : SY → Prop} (hd : d < 8) (hs : s < 8) (ht : t < 8) (h : post (ym, ys, yw, yi, TG, BS, LN, PM, OT, upd VY 8 (VY 8 + (if VY s = 0 then 1 else im)), HE, OP, AU)) : wpY_effect post (ym, ys, yw, yi, TG, BS, LN, PM, OT, VY, HE, OP, AU) 8 (nI d) (nI s) (nI t) im (VY 8) := by
  have e1 : ∀ w, upd VY 8 w s = VY s := fun w => pk_un (by omega)
  have e2 : ∀ w, upd VY 8 w d = VY d := fun w => pk_un (by omega)
  unfold wpY_effect
  dsimp only
  rw [nI_clamp (n := s) (by omega), nI_clamp (n := t) (by omega), nI_clamp (n := d) (by omega)]
  refine And.intro (vp_in_nI (by omega) (by decide)) (nm_e (And.intro (vp_in_nI (by omega) (by decide)) (nm_e (And.intro (vp_in_nI (by omega) (by decide)) (nm_e (nm_e (nm_e ?_)))))))
  refine br_f (by decide) (br_f (by decide) (br_f (by decide) (br_f (by decide) (br_f (by decide) (br_f (by decide) (br_f (by decide) (br_f (by decide) (br_f (by decide) (br_f (by decide) (br_t rfl ?_))))))))))
  refine br_c (fun z => ?_) (fun z => ?_)
  · rw [if_pos z] at h
    exact h
  · rw [if_neg z] at h
    exact nm_r (tm_uu _ _ _ _) h
theorem ty_e9 {post : SY → Prop} (hd : d < 8) (hs : s < 8) (ht : t < 8) (hg : ∀ i, i < 41 → TG i = 0 ∨ TG i = 1) (h : post (ym, ys, yw, yi, upd TG (d) (TG (8)), upd BS (d) (BS (8)), upd LN (d) (LN (8)), upd PM (d) (PM (8)), upd OT (d) (OT (8)), upd (upd VY 8 (VY 8 + 1)) (d) (VY 8 + im), HE, OP, AU)) : wpY_effect post (ym, ys, yw, yi, TG, BS, LN, PM, OT, VY, HE, OP, AU) 9 (nI d) (nI s) (nI t) im (VY 8) := by
  have e1 : ∀ w, upd VY 8 w s = VY s := fun w => pk_un (by omega)
  have e2 : ∀ w, upd VY 8 w d = VY d := fun w => pk_un (by omega)
  unfold wpY_effect
  dsimp only
  rw [nI_clamp (n := s) (by omega), nI_clamp (n := t) (by omega), nI_clamp (n := d) (by omega)]
  refine And.intro (vp_in_nI (by omega) (by decide)) (nm_e (And.intro (vp_in_nI (by omega) (by decide)) (nm_e (And.intro (vp_in_nI (by omega) (by decide)) (nm_e (nm_e (nm_e ?_)))))))
  refine br_f (by decide) (br_f (by decide) (br_f (by decide) (br_f (by decide) (br_f (by decide) (br_f (by decide) (br_f (by decide) (br_f (by decide) (br_f (by decide) (br_f (by decide) (br_f (by decide) (br_t rfl ?_)))))))))))
  refine ty_copy (a := 8) (by omega) (by omega) (hg _ (by omega)) ?_
  refine And.intro (vp_in_nI (n := d) (by omega) (by decide)) ?_
  exact nm_r (tm_uu _ _ _ _) h
theorem ty_e10 {post : SY → Prop} (hd : d < 8) (hs : s < 8) (ht : t < 8) (hg : ∀ i, i < 41 → TG i = 0 ∨ TG i = 1) (h : post (ym, ys, yw, yi, upd TG 8 (TG s), upd BS 8 (BS s), upd LN 8 (LN s), upd PM 8 (PM s), upd OT 8 (OT s), upd VY 8 (VY s), HE, OP, AU)) : wpY_effect post (ym, ys, yw, yi, TG, BS, LN, PM, OT, VY, HE, OP, AU) 10 (nI d) (nI s) (nI t) im (VY 8) := by
  have e1 : ∀ w, upd VY 8 w s = VY s := fun w => pk_un (by omega)
  have e2 : ∀ w, upd VY 8 w d = VY d := fun w => pk_un (by omega)
  unfold wpY_effect
  dsimp only
  rw [nI_clamp (n := s) (by omega), nI_clamp (n := t) (by omega), nI_clamp (n := d) (by omega)]
  refine And.intro (vp_in_nI (by omega) (by decide)) (nm_e (And.intro (vp_in_nI (by omega) (by decide)) (nm_e (And.intro (vp_in_nI (by omega) (by decide)) (nm_e (nm_e (nm_e ?_)))))))
  refine br_f (by decide) (br_f (by decide) (br_f (by decide) (br_f (by decide) (br_f (by decide) (br_f (by decide) (br_f (by decide) (br_f (by decide) (br_f (by decide) (br_f (by decide) (br_f (by decide) (br_f (by decide) (br_t rfl ?_))))))))))))
  refine ty_copy (b := 8) (by omega) (by omega) (hg _ (by omega)) ?_
  rw [e1, tm_uu]
  exact h
theorem ty_e11 {post : SY → Prop} (hd : d < 8) (hs : s < 8) (ht : t < 8) (hg : ∀ i, i < 41 → TG i = 0 ∨ TG i = 1) (h : post (ym, ys, yw, yi, upd TG (d) (TG (s)), upd BS (d) (BS (s)), upd LN (d) (LN (s)), upd PM (d) (PM (s)), upd OT (d) (OT (s)), upd (upd VY 8 (VY 8 + 1)) (d) (VY t), HE, OP, AU)) : wpY_effect post (ym, ys, yw, yi, TG, BS, LN, PM, OT, VY, HE, OP, AU) 11 (nI d) (nI s) (nI t) im (VY 8) := by
  have e1 : ∀ w, upd VY 8 w s = VY s := fun w => pk_un (by omega)
  have e2 : ∀ w, upd VY 8 w d = VY d := fun w => pk_un (by omega)
  unfold wpY_effect
  dsimp only
  rw [nI_clamp (n := s) (by omega), nI_clamp (n := t) (by omega), nI_clamp (n := d) (by omega)]
  refine And.intro (vp_in_nI (by omega) (by decide)) (nm_e (And.intro (vp_in_nI (by omega) (by decide)) (nm_e (And.intro (vp_in_nI (by omega) (by decide)) (nm_e (nm_e (nm_e ?_)))))))
  refine br_f (by decide) (br_f (by decide) (br_f (by decide) (br_f (by decide) (br_f (by decide) (br_f (by decide) (br_f (by decide) (br_f (by decide) (br_f (by decide) (br_f (by decide) (br_f (by decide) (br_f (by decide) (br_f (by decide) (br_t rfl ?_)))))))))))))
  refine ty_copy (by omega) (by omega) (hg _ (by omega)) ?_
  refine And.intro (vp_in_nI (n := d) (by omega) (by decide)) ?_
  exact nm_r (tm_uu _ _ _ _) h
theorem ty_e12 {post : SY → Prop} (hd : d < 8) (hs : s < 8) (ht : t < 8) (hg : ∀ i, i < 41 → TG i = 0 ∨ TG i = 1) (h : post (ym, ys, yw, yi, upd TG (d) (TG (s)), upd BS (d) (BS (s)), upd LN (d) (LN (s)), upd PM (d) (PM (s)), upd OT (d) (OT (s)), upd (upd VY 8 (VY 8 + 1)) (d) (VY s + im), HE, OP, AU)) : wpY_effect post (ym, ys, yw, yi, TG, BS, LN, PM, OT, VY, HE, OP, AU) 12 (nI d) (nI s) (nI t) im (VY 8) := by
  have e1 : ∀ w, upd VY 8 w s = VY s := fun w => pk_un (by omega)
  have e2 : ∀ w, upd VY 8 w d = VY d := fun w => pk_un (by omega)
  unfold wpY_effect
  dsimp only
  rw [nI_clamp (n := s) (by omega), nI_clamp (n := t) (by omega), nI_clamp (n := d) (by omega)]
  refine And.intro (vp_in_nI (by omega) (by decide)) (nm_e (And.intro (vp_in_nI (by omega) (by decide)) (nm_e (And.intro (vp_in_nI (by omega) (by decide)) (nm_e (nm_e (nm_e ?_)))))))
  refine br_f (by decide) (br_f (by decide) (br_f (by decide) (br_f (by decide) (br_f (by decide) (br_f (by decide) (br_f (by decide) (br_f (by decide) (br_f (by decide) (br_f (by decide) (br_f (by decide) (br_f (by decide) (br_f (by decide) (br_f (by decide) (br_t rfl ?_))))))))))))))
  refine ty_copy (by omega) (by omega) (hg _ (by omega)) ?_
  refine And.intro (vp_in_nI (n := d) (by omega) (by decide)) ?_
  exact nm_r (tm_uu _ _ _ _) h
theorem ty_e13 {post : SY → Prop} (hd : d < 8) (hs : s < 8) (ht : t < 8) (hg : ∀ i, i < 41 → TG i = 0 ∨ TG i = 1) (h : post (ym, ys, yw, yi, upd TG (d) (TG s), upd BS (d) (VY s), upd LN (d) (VY t), upd PM (d) (PM s), upd OT (d) (OT s), upd (upd VY 8 (VY 8 + 1)) (d) (VY s), HE, OP, AU)) : wpY_effect post (ym, ys, yw, yi, TG, BS, LN, PM, OT, VY, HE, OP, AU) 13 (nI d) (nI s) (nI t) im (VY 8) := by
  have e1 : ∀ w, upd VY 8 w s = VY s := fun w => pk_un (by omega)
  have e2 : ∀ w, upd VY 8 w d = VY d := fun w => pk_un (by omega)
  unfold wpY_effect
  dsimp only
  rw [nI_clamp (n := s) (by omega), nI_clamp (n := t) (by omega), nI_clamp (n := d) (by omega)]
  refine And.intro (vp_in_nI (by omega) (by decide)) (nm_e (And.intro (vp_in_nI (by omega) (by decide)) (nm_e (And.intro (vp_in_nI (by omega) (by decide)) (nm_e (nm_e (nm_e ?_)))))))
  refine br_f (by decide) (br_f (by decide) (br_f (by decide) (br_f (by decide) (br_f (by decide) (br_f (by decide) (br_f (by decide) (br_f (by decide) (br_f (by decide) (br_f (by decide) (br_f (by decide) (br_f (by decide) (br_f (by decide) (br_f (by decide) (br_f (by decide) (br_t rfl ?_)))))))))))))))
  refine ty_copy (by omega) (by omega) (hg _ (by omega)) ?_
  rw [e1]
  refine And.intro (vp_in_nI (n := d) (by omega) (by decide)) (nm_r (tm_uu _ _ _ _) (And.intro (vp_in_nI (n := d) (by omega) (by decide)) (nm_r (tm_uu _ _ _ _) ?_)))
  exact h
theorem ty_e14 {post : SY → Prop} (hd : d < 8) (hs : s < 8) (ht : t < 8) (hg : ∀ i, i < 41 → TG i = 0 ∨ TG i = 1) (h : post (ym, ys, yw, yi, upd TG (d) (TG s), upd BS (d) (VY s), upd LN (d) (im), upd PM (d) (PM s), upd OT (d) (OT s), upd (upd VY 8 (VY 8 + 1)) (d) (VY s), HE, OP, AU)) : wpY_effect post (ym, ys, yw, yi, TG, BS, LN, PM, OT, VY, HE, OP, AU) 14 (nI d) (nI s) (nI t) im (VY 8) := by
  have e1 : ∀ w, upd VY 8 w s = VY s := fun w => pk_un (by omega)
  have e2 : ∀ w, upd VY 8 w d = VY d := fun w => pk_un (by omega)
  unfold wpY_effect
  dsimp only
  rw [nI_clamp (n := s) (by omega), nI_clamp (n := t) (by omega), nI_clamp (n := d) (by omega)]
  refine And.intro (vp_in_nI (by omega) (by decide)) (nm_e (And.intro (vp_in_nI (by omega) (by decide)) (nm_e (And.intro (vp_in_nI (by omega) (by decide)) (nm_e (nm_e (nm_e ?_)))))))
  refine br_f (by decide) (br_f (by decide) (br_f (by decide) (br_f (by decide) (br_f (by decide) (br_f (by decide) (br_f (by decide) (br_f (by decide) (br_f (by decide) (br_f (by decide) (br_f (by decide) (br_f (by decide) (br_f (by decide) (br_f (by decide) (br_f (by decide) (br_f (by decide) (br_t rfl ?_))))))))))))))))
  refine ty_copy (by omega) (by omega) (hg _ (by omega)) ?_
  rw [e1]
  refine And.intro (vp_in_nI (n := d) (by omega) (by decide)) (nm_r (tm_uu _ _ _ _) (And.intro (vp_in_nI (n := d) (by omega) (by decide)) (nm_r (tm_uu _ _ _ _) ?_)))
  exact h
theorem ty_e15 {post : SY → Prop} (hd : d < 8) (hs : s < 8) (ht : t < 8) (hg : ∀ i, i < 41 → TG i = 0 ∨ TG i = 1) (h : post (ym, ys, yw, yi, upd TG (d) (TG s), upd BS (d) (BS s), upd LN (d) (LN s), upd PM (d) (PM s &&& im), upd OT (d) (OT s), upd (upd VY 8 (VY 8 + 1)) (d) (VY s), HE, OP, AU)) : wpY_effect post (ym, ys, yw, yi, TG, BS, LN, PM, OT, VY, HE, OP, AU) 15 (nI d) (nI s) (nI t) im (VY 8) := by
  have e1 : ∀ w, upd VY 8 w s = VY s := fun w => pk_un (by omega)
  have e2 : ∀ w, upd VY 8 w d = VY d := fun w => pk_un (by omega)
  unfold wpY_effect
  dsimp only
  rw [nI_clamp (n := s) (by omega), nI_clamp (n := t) (by omega), nI_clamp (n := d) (by omega)]
  refine And.intro (vp_in_nI (by omega) (by decide)) (nm_e (And.intro (vp_in_nI (by omega) (by decide)) (nm_e (And.intro (vp_in_nI (by omega) (by decide)) (nm_e (nm_e (nm_e ?_)))))))
  refine br_f (by decide) (br_f (by decide) (br_f (by decide) (br_f (by decide) (br_f (by decide) (br_f (by decide) (br_f (by decide) (br_f (by decide) (br_f (by decide) (br_f (by decide) (br_f (by decide) (br_f (by decide) (br_f (by decide) (br_f (by decide) (br_f (by decide) (br_f (by decide) (br_f (by decide) (br_t rfl ?_)))))))))))))))))
  refine ty_copy (by omega) (by omega) (hg _ (by omega)) ?_
  dsimp only
  rw [e1, pk_us]
  refine And.intro (vp_in_nI (n := d) (by omega) (by decide)) (And.intro (vp_in_nI (n := d) (by omega) (by decide)) (nm_r (tm_uu _ _ _ _) ?_))
  exact h
theorem ty_e16 {post : SY → Prop} (hd : d < 8) (hs : s < 8) (ht : t < 8) (hg : ∀ i, i < 41 → TG i = 0 ∨ TG i = 1) (h : post (ym, ys, yw, yi, upd TG (d) (TG s), upd BS (d) (BS s), upd LN (d) (LN s), upd PM (d) (PM s), upd OT (d) (VY t), upd (upd VY 8 (VY 8 + 1)) (d) (VY s), HE, OP, AU)) : wpY_effect post (ym, ys, yw, yi, TG, BS, LN, PM, OT, VY, HE, OP, AU) 16 (nI d) (nI s) (nI t) im (VY 8) := by
  have e1 : ∀ w, upd VY 8 w s = VY s := fun w => pk_un (by omega)
  have e2 : ∀ w, upd VY 8 w d = VY d := fun w => pk_un (by omega)
  unfold wpY_effect
  dsimp only
  rw [nI_clamp (n := s) (by omega), nI_clamp (n := t) (by omega), nI_clamp (n := d) (by omega)]
  refine And.intro (vp_in_nI (by omega) (by decide)) (nm_e (And.intro (vp_in_nI (by omega) (by decide)) (nm_e (And.intro (vp_in_nI (by omega) (by decide)) (nm_e (nm_e (nm_e ?_)))))))
  refine br_f (by decide) (br_f (by decide) (br_f (by decide) (br_f (by decide) (br_f (by decide) (br_f (by decide) (br_f (by decide) (br_f (by decide) (br_f (by decide) (br_f (by decide) (br_f (by decide) (br_f (by decide) (br_f (by decide) (br_f (by decide) (br_f (by decide) (br_f (by decide) (br_f (by decide) (br_f (by decide) (br_t rfl ?_))))))))))))))))))
  refine ty_copy (by omega) (by omega) (hg _ (by omega)) ?_
  rw [e1]
  refine And.intro (vp_in_nI (n := d) (by omega) (by decide)) (nm_r (tm_uu _ _ _ _) ?_)
  exact h
theorem ty_e17 {post : SY → Prop} (hd : d < 8) (hs : s < 8) (ht : t < 8) (hg : ∀ i, i < 41 → TG i = 0 ∨ TG i = 1) (h : post (ym, ys, yw, yi, upd TG (d) (TG s), upd BS (d) (BS s), upd LN (d) (LN s), upd PM (d) (PM s), upd OT (d) (-1), upd (upd VY 8 (VY 8 + 1)) (d) (VY s), HE, OP, AU)) : wpY_effect post (ym, ys, yw, yi, TG, BS, LN, PM, OT, VY, HE, OP, AU) 17 (nI d) (nI s) (nI t) im (VY 8) := by
  have e1 : ∀ w, upd VY 8 w s = VY s := fun w => pk_un (by omega)
  have e2 : ∀ w, upd VY 8 w d = VY d := fun w => pk_un (by omega)
  unfold wpY_effect
  dsimp only
  rw [nI_clamp (n := s) (by omega), nI_clamp (n := t) (by omega), nI_clamp (n := d) (by omega)]
  refine And.intro (vp_in_nI (by omega) (by decide)) (nm_e (And.intro (vp_in_nI (by omega) (by decide)) (nm_e (And.intro (vp_in_nI (by omega) (by decide)) (nm_e (nm_e (nm_e ?_)))))))
  refine br_f (by decide) (br_f (by decide) (br_f (by decide) (br_f (by decide) (br_f (by decide) (br_f (by decide) (br_f (by decide) (br_f (by decide) (br_f (by decide) (br_f (by decide) (br_f (by decide) (br_f (by decide) (br_f (by decide) (br_f (by decide) (br_f (by decide) (br_f (by decide) (br_f (by decide) (br_f (by decide) (br_f (by decide) (br_t rfl ?_)))))))))))))))))))
  refine ty_copy (by omega) (by omega) (hg _ (by omega)) ?_
  rw [e1]
  refine And.intro (vp_in_nI (n := d) (by omega) (by decide)) (nm_r (tm_uu _ _ _ _) ?_)
  exact h
theorem ty_e18 {post : SY → Prop} (hd : d < 8) (hs : s < 8) (ht : t < 8) (hg : ∀ i, i < 41 → TG i = 0 ∨ TG i = 1) (h : post (ym, ys, yw, yi, upd TG (d) (0), upd BS (d) (0), upd LN (d) (0), upd PM (d) (0), upd OT (d) (-1), upd (upd VY 8 (VY 8 + 1)) (d) (tm_vF (TG s) (BS s) (LN s) (PM s) (OT s) (VY s) im), HE, OP, AU)) : wpY_effect post (ym, ys, yw, yi, TG, BS, LN, PM, OT, VY, HE, OP, AU) 18 (nI d) (nI s) (nI t) im (VY 8) := by
  have e1 : ∀ w, upd VY 8 w s = VY s := fun w => pk_un (by omega)
  have e2 : ∀ w, upd VY 8 w d = VY d := fun w => pk_un (by omega)
  unfold wpY_effect
  dsimp only
  rw [nI_clamp (n := s) (by omega), nI_clamp (n := t) (by omega), nI_clamp (n := d) (by omega)]
  refine And.intro (vp_in_nI (by omega) (by decide)) (nm_e (And.intro (vp_in_nI (by omega) (by decide)) (nm_e (And.intro (vp_in_nI (by omega) (by decide)) (nm_e (nm_e (nm_e ?_)))))))
  refine br_f (by decide) (br_f (by decide) (br_f (by decide) (br_f (by decide) (br_f (by decide) (br_f (by decide) (br_f (by decide) (br_f (by decide) (br_f (by decide) (br_f (by decide) (br_f (by decide) (br_f (by decide) (br_f (by decide) (br_f (by decide) (br_f (by decide) (br_f (by decide) (br_f (by decide) (br_f (by decide) (br_f (by decide) (br_f (by decide) (br_t rfl ?_))))))))))))))))))))
  have c : (nI s).toNatClampNeg = s := nI_clamp (by omega)
  refine ty_field (vp_in_nI (by omega) (by decide)) (by rw [c]; exact hg s (by omega)) ?_
  rw [c, e1]
  exact ty_setInt (by omega) h
theorem ty_e19 {post : SY → Prop} (hd : d < 8) (hs : s < 8) (ht : t < 8) {a : Nat} (ha : VY s + im = nI a) (hl : a < 32) (h : post (ym, ys, yw, yi, upd TG (d) (0), upd BS (d) (0), upd LN (d) (0), upd PM (d) (0), upd OT (d) (-1), upd (upd VY 8 (VY 8 + 1)) (d) (VY (9 + a)), HE, OP, AU)) : wpY_effect post (ym, ys, yw, yi, TG, BS, LN, PM, OT, VY, HE, OP, AU) 19 (nI d) (nI s) (nI t) im (VY 8) := by
  have e1 : ∀ w, upd VY 8 w s = VY s := fun w => pk_un (by omega)
  have e2 : ∀ w, upd VY 8 w d = VY d := fun w => pk_un (by omega)
  unfold wpY_effect
  dsimp only
  rw [nI_clamp (n := s) (by omega), nI_clamp (n := t) (by omega), nI_clamp (n := d) (by omega)]
  refine And.intro (vp_in_nI (by omega) (by decide)) (nm_e (And.intro (vp_in_nI (by omega) (by decide)) (nm_e (And.intro (vp_in_nI (by omega) (by decide)) (nm_e (nm_e (nm_e ?_)))))))
  refine br_f (by decide) (br_f (by decide) (br_f (by decide) (br_f (by decide) (br_f (by decide) (br_f (by decide) (br_f (by decide) (br_f (by decide) (br_f (by decide) (br_f (by decide) (br_f (by decide) (br_f (by decide) (br_f (by decide) (br_f (by decide) (br_f (by decide) (br_f (by decide) (br_f (by decide) (br_f (by decide) (br_f (by decide) (br_f (by decide) (br_f (by decide) (br_t rfl ?_)))))))))))))))))))))
  have ea : (9 : Int32) + nI a = nI (9 + a) := nI_add 9 a
  have e9 : ∀ w, upd VY 8 w (9 + a) = VY (9 + a) := fun w => pk_un (by omega)
  rw [ha, ea, nI_clamp (n := 9 + a) (by omega), e9]
  refine And.intro (vp_in_nI (by omega) (by decide)) ?_
  exact ty_setInt (by omega) h
theorem ty_e20 {post : SY → Prop} (hd : d < 8) (hs : s < 8) (ht : t < 8) {a : Nat} (ha : VY s + im = nI a) (hl : a < 32) (hg : ∀ i, i < 41 → TG i = 0 ∨ TG i = 1) (h : post (ym, ys, yw, yi, upd TG (d) (TG (9 + a)), upd BS (d) (BS (9 + a)), upd LN (d) (LN (9 + a)), upd PM (d) (PM (9 + a)), upd OT (d) (OT (9 + a)), upd (upd VY 8 (VY 8 + 1)) (d) (VY (9 + a)), HE, OP, AU)) : wpY_effect post (ym, ys, yw, yi, TG, BS, LN, PM, OT, VY, HE, OP, AU) 20 (nI d) (nI s) (nI t) im (VY 8) := by
  have e1 : ∀ w, upd VY 8 w s = VY s := fun w => pk_un (by omega)
  have e2 : ∀ w, upd VY 8 w d = VY d := fun w => pk_un (by omega)
  unfold wpY_effect
  dsimp only
  rw [nI_clamp (n := s) (by omega), nI_clamp (n := t) (by omega), nI_clamp (n := d) (by omega)]
  refine And.intro (vp_in_nI (by omega) (by decide)) (nm_e (And.intro (vp_in_nI (by omega) (by decide)) (nm_e (And.intro (vp_in_nI (by omega) (by decide)) (nm_e (nm_e (nm_e ?_)))))))
  refine br_f (by decide) (br_f (by decide) (br_f (by decide) (br_f (by decide) (br_f (by decide) (br_f (by decide) (br_f (by decide) (br_f (by decide) (br_f (by decide) (br_f (by decide) (br_f (by decide) (br_f (by decide) (br_f (by decide) (br_f (by decide) (br_f (by decide) (br_f (by decide) (br_f (by decide) (br_f (by decide) (br_f (by decide) (br_f (by decide) (br_f (by decide) (br_f (by decide) (br_t rfl ?_))))))))))))))))))))))
  have ea : (9 : Int32) + nI a = nI (9 + a) := nI_add 9 a
  have e9 : ∀ w, upd VY 8 w (9 + a) = VY (9 + a) := fun w => pk_un (by omega)
  rw [ha, ea]
  refine ty_copy (by omega) (by omega) (hg _ (by omega)) ?_
  rw [e9]
  exact h
theorem ty_e21 {post : SY → Prop} (hd : d < 8) (hs : s < 8) (ht : t < 8) {a : Nat} (ha : VY s + im = nI a) (hl : a < 32) (h : post (ym, ys, yw, yi, upd TG (9 + a) (0), upd BS (9 + a) (0), upd LN (9 + a) (0), upd PM (9 + a) (0), upd OT (9 + a) (-1), upd (upd VY 8 (VY 8 + 1)) (9 + a) (VY d), HE, OP, AU)) : wpY_effect post (ym, ys, yw, yi, TG, BS, LN, PM, OT, VY, HE, OP, AU) 21 (nI d) (nI s) (nI t) im (VY 8) := by
  have e1 : ∀ w, upd VY 8 w s = VY s := fun w => pk_un (by omega)
  have e2 : ∀ w, upd VY 8 w d = VY d := fun w => pk_un (by omega)
  unfold wpY_effect
  dsimp only
  rw [nI_clamp (n := s) (by omega), nI_clamp (n := t) (by omega), nI_clamp (n := d) (by omega)]
  refine And.intro (vp_in_nI (by omega) (by decide)) (nm_e (And.intro (vp_in_nI (by omega) (by decide)) (nm_e (And.intro (vp_in_nI (by omega) (by decide)) (nm_e (nm_e (nm_e ?_)))))))
  refine br_f (by decide) (br_f (by decide) (br_f (by decide) (br_f (by decide) (br_f (by decide) (br_f (by decide) (br_f (by decide) (br_f (by decide) (br_f (by decide) (br_f (by decide) (br_f (by decide) (br_f (by decide) (br_f (by decide) (br_f (by decide) (br_f (by decide) (br_f (by decide) (br_f (by decide) (br_f (by decide) (br_f (by decide) (br_f (by decide) (br_f (by decide) (br_f (by decide) (br_f (by decide) (br_t rfl ?_)))))))))))))))))))))))
  have ea : (9 : Int32) + nI a = nI (9 + a) := nI_add 9 a
  rw [ha, ea]
  exact ty_setInt (by omega) h
theorem ty_e22 {post : SY → Prop} (hd : d < 8) (hs : s < 8) (ht : t < 8) {a : Nat} (ha : VY s + im = nI a) (hl : a < 32) (hg : ∀ i, i < 41 → TG i = 0 ∨ TG i = 1) (h : post (ym, ys, yw, yi, upd TG (9 + a) (TG (d)), upd BS (9 + a) (BS (d)), upd LN (9 + a) (LN (d)), upd PM (9 + a) (PM (d)), upd OT (9 + a) (OT (d)), upd (upd VY 8 (VY 8 + 1)) (9 + a) (VY d), HE, OP, AU)) : wpY_effect post (ym, ys, yw, yi, TG, BS, LN, PM, OT, VY, HE, OP, AU) 22 (nI d) (nI s) (nI t) im (VY 8) := by
  have e1 : ∀ w, upd VY 8 w s = VY s := fun w => pk_un (by omega)
  have e2 : ∀ w, upd VY 8 w d = VY d := fun w => pk_un (by omega)
  unfold wpY_effect
  dsimp only
  rw [nI_clamp (n := s) (by omega), nI_clamp (n := t) (by omega), nI_clamp (n := d) (by omega)]
  refine And.intro (vp_in_nI (by omega) (by decide)) (nm_e (And.intro (vp_in_nI (by omega) (by decide)) (nm_e (And.intro (vp_in_nI (by omega) (by decide)) (nm_e (nm_e (nm_e ?_)))))))
  refine br_f (by decide) (br_f (by decide) (br_f (by decide) (br_f (by decide) (br_f (by decide) (br_f (by decide) (br_f (by decide) (br_f (by decide) (br_f (by decide) (br_f (by decide) (br_f (by decide) (br_f (by decide) (br_f (by decide) (br_f (by decide) (br_f (by decide) (br_f (by decide) (br_f (by decide) (br_f (by decide) (br_f (by decide) (br_f (by decide) (br_f (by decide) (br_f (by decide) (br_f (by decide) (br_f (by decide) (br_t rfl ?_))))))))))))))))))))))))
  have ea : (9 : Int32) + nI a = nI (9 + a) := nI_add 9 a
  rw [ha, ea]
  refine ty_copy (by omega) (by omega) (hg _ (by omega)) ?_
  rw [e2]
  exact h
theorem ty_e23 {post : SY → Prop} (hd : d < 8) (hs : s < 8) (ht : t < 8) (hg : ∀ i, i < 41 → TG i = 0 ∨ TG i = 1) (h : post (ym, ys, yw, yi + 1, upd (upd TG 8 (TG s)) 7 (TG t), upd (upd BS 8 (BS s)) 7 (BS t), upd (upd LN 8 (LN s)) 7 (LN t), upd (upd PM 8 (PM s)) 7 (PM t), upd (upd OT 8 (-1)) 7 (-1), upd (upd VY 8 (VY s)) 7 (VY t), HE, OP, AU)) : wpY_effect post (ym, ys, yw, yi, TG, BS, LN, PM, OT, VY, HE, OP, AU) 23 (nI d) (nI s) (nI t) im (VY 8) := by
  have e1 : ∀ w, upd VY 8 w s = VY s := fun w => pk_un (by omega)
  have e2 : ∀ w, upd VY 8 w d = VY d := fun w => pk_un (by omega)
  unfold wpY_effect
  dsimp only
  rw [nI_clamp (n := s) (by omega), nI_clamp (n := t) (by omega), nI_clamp (n := d) (by omega)]
  refine And.intro (vp_in_nI (by omega) (by decide)) (nm_e (And.intro (vp_in_nI (by omega) (by decide)) (nm_e (And.intro (vp_in_nI (by omega) (by decide)) (nm_e (nm_e (nm_e ?_)))))))
  refine br_f (by decide) (br_t (by decide) ?_)
  refine ty_copy (b := 8) (by omega) (by omega) (hg _ (by omega)) ?_
  dsimp only
  rw [e1, tm_uu VY]
  refine nm_r (tm_uu _ _ _ _) ?_
  refine ty_copy (b := 7) (by omega) (by omega) (by rw [pk_un (by omega)]; exact hg _ (by omega)) ?_
  rw [pk_un (f := TG) (by omega), pk_un (f := BS) (by omega), pk_un (f := LN) (by omega), pk_un (f := PM) (by omega), pk_un (f := OT) (by omega), pk_un (f := VY) (by omega)]
  refine nm_r (tm_uu _ _ _ _) ?_
  exact nm_e h
end
end
section
/-! checks at the rows of the relation; what a passed check tells -/
theorem tm_vN0 {tg ot pm p : Int32} (h : tm_vN tg ot pm p = 0) : tg ≠ 0 := by
  intro z
  unfold tm_vN at h
  rw [if_pos z] at h
  exact absurd h (by decide)
theorem tm_vI0 {bs ln x : Int32} (h : ¬ tm_vI bs ln x = 0) : ¬ x < bs ∧ ¬ bs + ln ≤ x := by
  unfold tm_vI at h
  refine ⟨fun z => h (by rw [if_pos z]), fun z => h ?_⟩
  rw [if_pos z, ite_self]
theorem tm_vA0 {tg ot pm bs ln p x : Int32} (h : tm_vA tg ot pm bs ln p x = 0) : tg ≠ 0 ∧ ¬ x < bs ∧ ¬ bs + ln ≤ x := by
  unfold tm_vA at h
  by_cases z : tm_vN tg ot pm p = 0
  · rw [if_pos z] at h
    refine ⟨tm_vN0 z, tm_vI0 (fun y => ?_)⟩
    rw [if_pos y] at h
    exact absurd h (by decide)
  · rw [if_neg z] at h
    exact absurd h z
theorem tm_vB0 {tg ot pm bs ln vl n : Int32} (h : tm_vB tg ot pm bs ln vl n = 0) : tg ≠ 0 ∧ ¬ n < 0 ∧ ¬ vl < bs ∧ ¬ bs + ln < vl ∧ ¬ (bs + ln) - vl < n := by
  unfold tm_vB at h
  by_cases z : tm_vN tg ot pm 0 = 0
  · rw [if_pos z] at h
    refine ⟨tm_vN0 z, ?_⟩
    by_cases h1 : n < 0
    · rw [if_pos h1] at h; exact absurd h (by decide)
    rw [if_neg h1] at h
    by_cases h2 : vl < bs
    · rw [if_pos h2] at h; exact absurd h (by decide)
    rw [if_neg h2] at h
    by_cases h3 : bs + ln < vl
    · rw [if_pos h3] at h; exact absurd h (by decide)
    rw [if_neg h3] at h
    by_cases h4 : (bs + ln) - vl < n
    · rw [if_pos h4] at h; exact absurd h (by decide)
    exact ⟨h1, h2, h3, h4⟩
  · rw [if_neg z] at h
    exact absurd h z
theorem tm_vS0 {g1 o1 g2 a : Int32} (h : tm_vS g1 o1 g2 a = 0) : g1 ≠ 0 ∧ a = 0 := by
  unfold tm_vS at h
  by_cases h1 : g1 = 0
  · rw [if_pos h1] at h; exact absurd h (by decide)
  rw [if_neg h1] at h
  by_cases h2 : g2 = 0
  · rw [if_pos h2] at h; exact absurd h (by decide)
  rw [if_neg h2] at h
  by_cases h3 : o1 = -1
  · rw [if_pos h3] at h; exact ⟨h1, h⟩
  · rw [if_neg h3] at h; exact absurd h (by decide)
theorem tm_vU0 {g1 o1 g2 v2 a : Int32} (h : tm_vU g1 o1 g2 v2 a = 0) : g1 ≠ 0 := by
  intro z
  unfold tm_vU at h
  rw [if_pos z] at h; exact absurd h (by decide)
theorem tm_vK0 {g1 o1 p1 g2 o2 p2 : Int32} (h : tm_vK g1 o1 p1 g2 o2 p2 = 0) : g1 ≠ 0 ∧ g2 ≠ 0 := by
  constructor
  · intro z
    rw [tm_vK4 (Or.inl z)] at h; exact absurd h (by decide)
  · intro z
    rw [tm_vK4 (Or.inr z)] at h; exact absurd h (by decide)
theorem tm_at {m : Nat} {x y : Int32} (hm : m ≤ 32) (hw : tm_WF m x) (h1 : ¬ y < tm_bs x) (h2 : ¬ tm_bs x + tm_ln x ≤ y) : ∃ a, a < m ∧ y = nI a := by
  obtain ⟨q, b, l, p, t, hq, hb, hp, ht, h0, rfl, e1, e2, e3, e4, e5⟩ := tm_wf hm hw
  rw [e2] at h1
  rw [e2, e3, nI_add] at h2
  have hy : ¬ y < 0 := fun z => h1 (Int32.lt_of_lt_of_le z (nI_pos' (by omega)))
  obtain ⟨a, ha, rfl⟩ := nI_of hy
  rw [nI_leI (by omega) ha] at h2
  exact ⟨a, by omega, rfl⟩
theorem tm_bd {m : Nat} {x y n : Int32} (hm : m ≤ 32) (hw : tm_WF m x) (h0 : ¬ n < 0) (h1 : ¬ y < tm_bs x) (h2 : ¬ tm_bs x + tm_ln x < y) (h3 : ¬ (tm_bs x + tm_ln x) - y < n) : ∃ v k, v + k ≤ m ∧ y = nI v ∧ n = nI k := by
  obtain ⟨q, b, l, p, t, hq, hb, hp, ht, h0', rfl, e1, e2, e3, e4, e5⟩ := tm_wf hm hw
  rw [e2] at h1
  rw [e2, e3, nI_add] at h2 h3
  have hy : ¬ y < 0 := fun z => h1 (Int32.lt_of_lt_of_le z (nI_pos' (by omega)))
  obtain ⟨a, ha, rfl⟩ := nI_of hy
  obtain ⟨k, hk, rfl⟩ := nI_of h0
  rw [nI_ltI (by omega) ha] at h2
  rw [pk_sub (by omega), nI_ltI (by omega) hk] at h3
  exact ⟨a, k, by omega, rfl, rfl⟩
section
variable {rg pq wd st ca iv op rd rs rt im : Int32} {he wa : Int64} {ct dt : Int32} {M V R F : Nat → Int32} {m d s t : Nat} {TG BS LN PM OT VY : Nat → Int32}
theorem tz_open {post : Int32 → Prop} (hm : m ≤ 32) (hR : tm_RL m M V TG BS LN PM OT VY) (hs : s < 8) (h : post (tm_vN (TG s) (OT s) (PM s) 0)) : wpX_checkOpen post (rg, pq, wd, st, ca, iv, op, rd, nI (32 + s), rt, im, he, wa, ct, dt, M, V, R, F) := by
  obtain ⟨w, e1, e2, e3, e4, e5, e6⟩ := tm_row hR (s := s) (by omega)
  have c := nI_clamp (n := 32 + s) (by omega)
  refine tx_checkOpen (vp_in_nI (by omega) (by decide)) (by rw [c]; exact tm_otlt hm w) ?_
  rw [c, ← e1, ← e4, ← e5]; exact h
theorem tz_jump {post : Int32 → Prop} (hm : m ≤ 32) (hR : tm_RL m M V TG BS LN PM OT VY) (hs : s < 8) (h : post (tm_vN (TG s) (OT s) (PM s) 16)) : wpX_checkJump post (rg, pq, wd, st, ca, iv, op, rd, nI (32 + s), rt, im, he, wa, ct, dt, M, V, R, F) := by
  obtain ⟨w, e1, e2, e3, e4, e5, e6⟩ := tm_row hR (s := s) (by omega)
  have c := nI_clamp (n := 32 + s) (by omega)
  refine tx_checkJump (vp_in_nI (by omega) (by decide)) (by rw [c]; exact tm_otlt hm w) ?_
  rw [c, ← e1, ← e4, ← e5]; exact h
theorem tz_access {post : Int32 → Prop} {p : Int32} (hm : m ≤ 32) (hR : tm_RL m M V TG BS LN PM OT VY) (hs : s < 8) (h : post (tm_vA (TG s) (OT s) (PM s) (BS s) (LN s) p (VY s + im))) : wpX_checkAccess post (rg, pq, wd, st, ca, iv, op, rd, nI (32 + s), rt, im, he, wa, ct, dt, M, V, R, F) p := by
  obtain ⟨w, e1, e2, e3, e4, e5, e6⟩ := tm_row hR (s := s) (by omega)
  have c := nI_clamp (n := 32 + s) (by omega)
  refine tx_checkAccess (vp_in_nI (by omega) (by decide)) (by rw [c]; exact tm_otlt hm w) ?_
  rw [c, ← e1, ← e2, ← e3, ← e4, ← e5, ← e6]; exact h
theorem tz_bound {post : Int32 → Prop} {n : Int32} (hm : m ≤ 32) (hR : tm_RL m M V TG BS LN PM OT VY) (hs : s < 8) (h : post (tm_vB (TG s) (OT s) (PM s) (BS s) (LN s) (VY s) n)) : wpX_checkBound post (rg, pq, wd, st, ca, iv, op, rd, nI (32 + s), rt, im, he, wa, ct, dt, M, V, R, F) n := by
  obtain ⟨w, e1, e2, e3, e4, e5, e6⟩ := tm_row hR (s := s) (by omega)
  have c := nI_clamp (n := 32 + s) (by omega)
  refine tx_checkBound (vp_in_nI (by omega) (by decide)) (by rw [c]; exact tm_otlt hm w) ?_
  rw [c, ← e1, ← e2, ← e3, ← e4, ← e5, ← e6]; exact h
theorem tz_seal {post : Int32 → Prop} (hm : m ≤ 32) (hR : tm_RL m M V TG BS LN PM OT VY) (hs : s < 8) (ht : t < 8) (h : post (tm_vS (TG s) (OT s) (TG t) (tm_vA (TG t) (OT t) (PM t) (BS t) (LN t) 32 (VY t)))) : wpX_checkSeal post (rg, pq, wd, st, ca, iv, op, rd, nI (32 + s), nI (32 + t), im, he, wa, ct, dt, M, V, R, F) := by
  obtain ⟨w, e1, e2, e3, e4, e5, e6⟩ := tm_row hR (s := s) (by omega)
  obtain ⟨w', f1, f2, f3, f4, f5, f6⟩ := tm_row hR (s := t) (by omega)
  have c := nI_clamp (n := 32 + s) (by omega)
  have c' := nI_clamp (n := 32 + t) (by omega)
  refine tx_checkSeal (vp_in_nI (by omega) (by decide)) (vp_in_nI (by omega) (by decide)) (by rw [c]; exact tm_otlt hm w) (by rw [c']; exact tm_otlt hm w') ?_
  rw [c, c', ← e1, ← e5, ← f1, ← f2, ← f3, ← f4, ← f5, ← f6]; exact h
theorem tz_unseal {post : Int32 → Prop} (hm : m ≤ 32) (hR : tm_RL m M V TG BS LN PM OT VY) (hs : s < 8) (ht : t < 8) (h : post (tm_vU (TG s) (OT s) (TG t) (VY t) (tm_vA (TG t) (OT t) (PM t) (BS t) (LN t) 64 (VY t)))) : wpX_checkUnseal post (rg, pq, wd, st, ca, iv, op, rd, nI (32 + s), nI (32 + t), im, he, wa, ct, dt, M, V, R, F) := by
  obtain ⟨w, e1, e2, e3, e4, e5, e6⟩ := tm_row hR (s := s) (by omega)
  obtain ⟨w', f1, f2, f3, f4, f5, f6⟩ := tm_row hR (s := t) (by omega)
  have c := nI_clamp (n := 32 + s) (by omega)
  have c' := nI_clamp (n := 32 + t) (by omega)
  refine tx_checkUnseal (vp_in_nI (by omega) (by decide)) (vp_in_nI (by omega) (by decide)) (by rw [c]; exact tm_otlt hm w) (by rw [c']; exact tm_otlt hm w') ?_
  rw [c, c', ← e1, ← e5, ← f1, ← f2, ← f3, ← f4, ← f5, ← f6]; exact h
theorem tz_invoke {post : Int32 → Prop} (hm : m ≤ 32) (hR : tm_RL m M V TG BS LN PM OT VY) (hs : s < 8) (ht : t < 8) (h : post (tm_vK (TG s) (OT s) (PM s) (TG t) (OT t) (PM t))) : wpX_checkInvoke post (rg, pq, wd, st, ca, iv, op, rd, nI (32 + s), nI (32 + t), im, he, wa, ct, dt, M, V, R, F) := by
  obtain ⟨w, e1, e2, e3, e4, e5, e6⟩ := tm_row hR (s := s) (by omega)
  obtain ⟨w', f1, f2, f3, f4, f5, f6⟩ := tm_row hR (s := t) (by omega)
  have c := nI_clamp (n := 32 + s) (by omega)
  have c' := nI_clamp (n := 32 + t) (by omega)
  refine tx_checkInvoke (vp_in_nI (by omega) (by decide)) (vp_in_nI (by omega) (by decide)) (by rw [c]; exact tm_otlt hm w) (by rw [c']; exact tm_otlt hm w') ?_
  rw [c, c', ← e1, ← e4, ← e5, ← f1, ← f4, ← f5]; exact h
end
section
variable {ym ys yw yi : Int32} {TG BS LN PM OT VY HE OP AU : Nat → Int32} {s t : Nat}
theorem yz_need {post : Int32 → Prop} {p : Int32} (hs : s < 8) (h : post (tm_vN (TG s) (OT s) (PM s) p)) : wpY_need post (ym, ys, yw, yi, TG, BS, LN, PM, OT, VY, HE, OP, AU) (nI s) p := by
  refine ty_need (vp_in_nI (by omega) (by decide)) ?_
  rw [nI_clamp (n := s) (by omega)]; exact h
theorem yz_at {post : Int32 → Prop} {p x : Int32} (hs : s < 8) (h : post (tm_vA (TG s) (OT s) (PM s) (BS s) (LN s) p x)) : wpY_needAt post (ym, ys, yw, yi, TG, BS, LN, PM, OT, VY, HE, OP, AU) (nI s) p x := by
  refine ty_needAt (vp_in_nI (by omega) (by decide)) ?_
  rw [nI_clamp (n := s) (by omega)]; exact h
theorem yz_bound {post : Int32 → Prop} {n : Int32} (hs : s < 8) (h : post (tm_vB (TG s) (OT s) (PM s) (BS s) (LN s) (VY s) n)) : wpY_needBound post (ym, ys, yw, yi, TG, BS, LN, PM, OT, VY, HE, OP, AU) (nI s) n := by
  refine ty_needBound (vp_in_nI (by omega) (by decide)) ?_
  rw [nI_clamp (n := s) (by omega)]; exact h
theorem yz_seal {post : Int32 → Prop} (hs : s < 8) (ht : t < 8) (h : post (tm_vS (TG s) (OT s) (TG t) (tm_vA (TG t) (OT t) (PM t) (BS t) (LN t) 32 (VY t)))) : wpY_needPair post (ym, ys, yw, yi, TG, BS, LN, PM, OT, VY, HE, OP, AU) 16 (nI s) (nI t) := by
  refine ty_seal (vp_in_nI (by omega) (by decide)) (vp_in_nI (by omega) (by decide)) ?_
  rw [nI_clamp (n := s) (by omega), nI_clamp (n := t) (by omega)]; exact h
theorem yz_unseal {post : Int32 → Prop} (hs : s < 8) (ht : t < 8) (h : post (tm_vU (TG s) (OT s) (TG t) (VY t) (tm_vA (TG t) (OT t) (PM t) (BS t) (LN t) 64 (VY t)))) : wpY_needPair post (ym, ys, yw, yi, TG, BS, LN, PM, OT, VY, HE, OP, AU) 17 (nI s) (nI t) := by
  refine ty_unseal (vp_in_nI (by omega) (by decide)) (vp_in_nI (by omega) (by decide)) ?_
  rw [nI_clamp (n := s) (by omega), nI_clamp (n := t) (by omega)]; exact h
theorem yz_invoke {post : Int32 → Prop} (hs : s < 8) (ht : t < 8) (h : post (tm_vK (TG s) (OT s) (PM s) (TG t) (OT t) (PM t))) : wpY_needPair post (ym, ys, yw, yi, TG, BS, LN, PM, OT, VY, HE, OP, AU) 23 (nI s) (nI t) := by
  refine ty_invoke (vp_in_nI (by omega) (by decide)) (vp_in_nI (by omega) (by decide)) ?_
  rw [nI_clamp (n := s) (by omega), nI_clamp (n := t) (by omega)]; exact h
end
end
section
/-! each instruction: its check answers alike, and once passed its effects keep the rows alike -/
def tm_Ex (m : Nat) (rg pq wd st ca iv im : Int32) (he wa : Int64) (ct dt : Int32) (M V R F : Nat → Int32) (ym yw : Int32) (TG BS LN PM OT VY HE OP AU : Nat → Int32) (k : Int32) (d s t : Nat) : Prop := ∃ (st' iv' : Int32) (M' V' TG' BS' LN' PM' OT' VY' : Nat → Int32), tm_RL m M' V' TG' BS' LN' PM' OT' VY' ∧ (∀ post : SX → Prop, post (rg, pq, wd, st', ca, iv', k, nI (32 + d), nI (32 + s), nI (32 + t), im, he, wa, ct, dt, M', V', R, F) → wpX_execute post (rg, pq, wd, st, ca, iv, k, nI (32 + d), nI (32 + s), nI (32 + t), im, he, wa, ct, dt, M, V, R, F)) ∧ (∀ post : SY → Prop, post (ym, st', yw, iv', TG', BS', LN', PM', OT', VY', HE, OP, AU) → wpY_effect post (ym, st, yw, iv, TG, BS, LN, PM, OT, VY, HE, OP, AU) k (nI d) (nI s) (nI t) im (VY 8))
def tm_Ck (m : Nat) (rg pq wd st ca iv im : Int32) (he wa : Int64) (ct dt : Int32) (M V R F : Nat → Int32) (ym yw : Int32) (TG BS LN PM OT VY HE OP AU : Nat → Int32) (k : Int32) (d s t : Nat) : Prop := ∃ r : Int32, (∀ post : Int32 → Prop, post r → wpX_check post (rg, pq, wd, st, ca, iv, k, nI (32 + d), nI (32 + s), nI (32 + t), im, he, wa, ct, dt, M, V, R, F)) ∧ (∀ post : Int32 → Prop, post r → wpY_check post (ym, st, yw, iv, TG, BS, LN, PM, OT, VY, HE, OP, AU) k (nI s) (nI t) im) ∧ (r = 0 → tm_Ex m rg pq wd st ca iv im he wa ct dt M V R F ym yw TG BS LN PM OT VY HE OP AU k d s t)
section
variable {m : Nat} {rg pq wd st ca iv im : Int32} {he wa : Int64} {ct dt : Int32} {M V R F : Nat → Int32} {ym yw : Int32} {TG BS LN PM OT VY HE OP AU : Nat → Int32} {d s t : Nat}
theorem tm_o0 (hm : m ≤ 32) (hR : tm_RL m M V TG BS LN PM OT VY) (hd : d < 8) (hs : s < 8) (ht : t < 8) : tm_Ck m rg pq wd st ca iv im he wa ct dt M V R F ym yw TG BS LN PM OT VY HE OP AU 0 d s t := by
  have hg := fun i (h : i < 41) => tm_tgv hm hR h
  obtain ⟨w, e1, e2, e3, e4, e5, e6⟩ := tm_row hR (s := s) (by omega)
  obtain ⟨w', f1, f2, f3, f4, f5, f6⟩ := tm_row hR (s := t) (by omega)
  obtain ⟨w8, g1, g2, g3, g4, g5, g6⟩ := tm_row hR (s := 8) (by omega)
  refine ⟨0, fun post h => ?_, fun post h => ?_, fun r0 => ?_⟩
  · unfold wpX_check
    exact br_t (by decide) (br_t (by decide) h)
  · unfold wpY_check
    exact br_t (by decide) h
  · refine ⟨1, iv, _, _, _, _, _, _, _, _, ?_, fun post h => tx_e0 h, fun post h => ty_e0 hd hs ht  h⟩
    exact hR
theorem tm_o1 (hm : m ≤ 32) (hR : tm_RL m M V TG BS LN PM OT VY) (hd : d < 8) (hs : s < 8) (ht : t < 8) : tm_Ck m rg pq wd st ca iv im he wa ct dt M V R F ym yw TG BS LN PM OT VY HE OP AU 1 d s t := by
  have hg := fun i (h : i < 41) => tm_tgv hm hR h
  obtain ⟨w, e1, e2, e3, e4, e5, e6⟩ := tm_row hR (s := s) (by omega)
  obtain ⟨w', f1, f2, f3, f4, f5, f6⟩ := tm_row hR (s := t) (by omega)
  obtain ⟨w8, g1, g2, g3, g4, g5, g6⟩ := tm_row hR (s := 8) (by omega)
  refine ⟨0, fun post h => ?_, fun post h => ?_, fun r0 => ?_⟩
  · unfold wpX_check
    exact br_t (by decide) (br_t (by decide) h)
  · unfold wpY_check
    exact br_t (by decide) h
  · refine ⟨st, iv, _, _, _, _, _, _, _, _, ?_, fun post h => tx_e1 hd hs ht  h, fun post h => ty_e1 hd hs ht  h⟩
    exact tm_rl1 hR (tm_sl_lo (by omega)) (by omega) (by omega) (Or.inr (by omega)) (tm_rw0 m im)
theorem tm_o2 (hm : m ≤ 32) (hR : tm_RL m M V TG BS LN PM OT VY) (hd : d < 8) (hs : s < 8) (ht : t < 8) : tm_Ck m rg pq wd st ca iv im he wa ct dt M V R F ym yw TG BS LN PM OT VY HE OP AU 2 d s t := by
  have hg := fun i (h : i < 41) => tm_tgv hm hR h
  obtain ⟨w, e1, e2, e3, e4, e5, e6⟩ := tm_row hR (s := s) (by omega)
  obtain ⟨w', f1, f2, f3, f4, f5, f6⟩ := tm_row hR (s := t) (by omega)
  obtain ⟨w8, g1, g2, g3, g4, g5, g6⟩ := tm_row hR (s := 8) (by omega)
  refine ⟨0, fun post h => ?_, fun post h => ?_, fun r0 => ?_⟩
  · unfold wpX_check
    exact br_t (by decide) (br_t (by decide) h)
  · unfold wpY_check
    exact br_t (by decide) h
  · refine ⟨st, iv, _, _, _, _, _, _, _, _, ?_, fun post h => tx_e2 hd hs ht  h, fun post h => ty_e2 hd hs ht hg h⟩
    exact tm_rl1 hR (tm_sl_lo (by omega)) (by omega) (by omega) (Or.inr (by omega)) (tm_row hR (by omega))
theorem tm_o3 (hm : m ≤ 32) (hR : tm_RL m M V TG BS LN PM OT VY) (hd : d < 8) (hs : s < 8) (ht : t < 8) : tm_Ck m rg pq wd st ca iv im he wa ct dt M V R F ym yw TG BS LN PM OT VY HE OP AU 3 d s t := by
  have hg := fun i (h : i < 41) => tm_tgv hm hR h
  obtain ⟨w, e1, e2, e3, e4, e5, e6⟩ := tm_row hR (s := s) (by omega)
  obtain ⟨w', f1, f2, f3, f4, f5, f6⟩ := tm_row hR (s := t) (by omega)
  obtain ⟨w8, g1, g2, g3, g4, g5, g6⟩ := tm_row hR (s := 8) (by omega)
  refine ⟨0, fun post h => ?_, fun post h => ?_, fun r0 => ?_⟩
  · unfold wpX_check
    exact br_t (by decide) (br_t (by decide) h)
  · unfold wpY_check
    exact br_t (by decide) h
  · refine ⟨st, iv, _, _, _, _, _, _, _, _, ?_, fun post h => tx_e3 hd hs ht  h, fun post h => ty_e3 hd hs ht  h⟩
    exact tm_rl1 hR (tm_sl_lo (by omega)) (by omega) (by omega) (Or.inr (by omega)) (by rw [e6, f6]; exact tm_rw0 m _)
theorem tm_o4 (hm : m ≤ 32) (hR : tm_RL m M V TG BS LN PM OT VY) (hd : d < 8) (hs : s < 8) (ht : t < 8) : tm_Ck m rg pq wd st ca iv im he wa ct dt M V R F ym yw TG BS LN PM OT VY HE OP AU 4 d s t := by
  have hg := fun i (h : i < 41) => tm_tgv hm hR h
  obtain ⟨w, e1, e2, e3, e4, e5, e6⟩ := tm_row hR (s := s) (by omega)
  obtain ⟨w', f1, f2, f3, f4, f5, f6⟩ := tm_row hR (s := t) (by omega)
  obtain ⟨w8, g1, g2, g3, g4, g5, g6⟩ := tm_row hR (s := 8) (by omega)
  refine ⟨0, fun post h => ?_, fun post h => ?_, fun r0 => ?_⟩
  · unfold wpX_check
    exact br_t (by decide) (br_t (by decide) h)
  · unfold wpY_check
    exact br_t (by decide) h
  · refine ⟨st, iv, _, _, _, _, _, _, _, _, ?_, fun post h => tx_e4 hd hs ht  h, fun post h => ty_e4 hd hs ht  h⟩
    exact tm_rl1 hR (tm_sl_lo (by omega)) (by omega) (by omega) (Or.inr (by omega)) (by rw [e6, f6]; exact tm_rw0 m _)
theorem tm_o5 (hm : m ≤ 32) (hR : tm_RL m M V TG BS LN PM OT VY) (hd : d < 8) (hs : s < 8) (ht : t < 8) : tm_Ck m rg pq wd st ca iv im he wa ct dt M V R F ym yw TG BS LN PM OT VY HE OP AU 5 d s t := by
  have hg := fun i (h : i < 41) => tm_tgv hm hR h
  obtain ⟨w, e1, e2, e3, e4, e5, e6⟩ := tm_row hR (s := s) (by omega)
  obtain ⟨w', f1, f2, f3, f4, f5, f6⟩ := tm_row hR (s := t) (by omega)
  obtain ⟨w8, g1, g2, g3, g4, g5, g6⟩ := tm_row hR (s := 8) (by omega)
  refine ⟨0, fun post h => ?_, fun post h => ?_, fun r0 => ?_⟩
  · unfold wpX_check
    exact br_t (by decide) (br_t (by decide) h)
  · unfold wpY_check
    exact br_t (by decide) h
  · refine ⟨st, iv, _, _, _, _, _, _, _, _, ?_, fun post h => tx_e5 hd hs ht  h, fun post h => ty_e5 hd hs ht  h⟩
    exact tm_rl1 hR (tm_sl_lo (by omega)) (by omega) (by omega) (Or.inr (by omega)) (by rw [e6]; exact tm_rw0 m _)
theorem tm_o6 (hm : m ≤ 32) (hR : tm_RL m M V TG BS LN PM OT VY) (hd : d < 8) (hs : s < 8) (ht : t < 8) : tm_Ck m rg pq wd st ca iv im he wa ct dt M V R F ym yw TG BS LN PM OT VY HE OP AU 6 d s t := by
  have hg := fun i (h : i < 41) => tm_tgv hm hR h
  obtain ⟨w, e1, e2, e3, e4, e5, e6⟩ := tm_row hR (s := s) (by omega)
  obtain ⟨w', f1, f2, f3, f4, f5, f6⟩ := tm_row hR (s := t) (by omega)
  obtain ⟨w8, g1, g2, g3, g4, g5, g6⟩ := tm_row hR (s := 8) (by omega)
  refine ⟨0, fun post h => ?_, fun post h => ?_, fun r0 => ?_⟩
  · unfold wpX_check
    exact br_t (by decide) (br_t (by decide) h)
  · unfold wpY_check
    exact br_t (by decide) h
  · refine ⟨st, iv, _, _, _, _, _, _, _, _, ?_, fun post h => tx_e6 hd hs ht  h, fun post h => ty_e6 hd hs ht  h⟩
    exact tm_rl1 hR (tm_sl_lo (by omega)) (by omega) (by omega) (Or.inr (by omega)) (by rw [e6, f6]; exact tm_rw0 m _)
theorem tm_o7 (hm : m ≤ 32) (hR : tm_RL m M V TG BS LN PM OT VY) (hd : d < 8) (hs : s < 8) (ht : t < 8) : tm_Ck m rg pq wd st ca iv im he wa ct dt M V R F ym yw TG BS LN PM OT VY HE OP AU 7 d s t := by
  have hg := fun i (h : i < 41) => tm_tgv hm hR h
  obtain ⟨w, e1, e2, e3, e4, e5, e6⟩ := tm_row hR (s := s) (by omega)
  obtain ⟨w', f1, f2, f3, f4, f5, f6⟩ := tm_row hR (s := t) (by omega)
  obtain ⟨w8, g1, g2, g3, g4, g5, g6⟩ := tm_row hR (s := 8) (by omega)
  refine ⟨0, fun post h => ?_, fun post h => ?_, fun r0 => ?_⟩
  · unfold wpX_check
    exact br_t (by decide) (br_t (by decide) h)
  · unfold wpY_check
    exact br_t (by decide) h
  · refine ⟨st, iv, _, _, _, _, _, _, _, _, ?_, fun post h => tx_e7 hs h, fun post h => ty_e7 hd hs ht  h⟩
    rw [e6, tm_v8 hR]
    exact tm_rl8 hR _
theorem tm_o8 (hm : m ≤ 32) (hR : tm_RL m M V TG BS LN PM OT VY) (hd : d < 8) (hs : s < 8) (ht : t < 8) : tm_Ck m rg pq wd st ca iv im he wa ct dt M V R F ym yw TG BS LN PM OT VY HE OP AU 8 d s t := by
  have hg := fun i (h : i < 41) => tm_tgv hm hR h
  obtain ⟨w, e1, e2, e3, e4, e5, e6⟩ := tm_row hR (s := s) (by omega)
  obtain ⟨w', f1, f2, f3, f4, f5, f6⟩ := tm_row hR (s := t) (by omega)
  obtain ⟨w8, g1, g2, g3, g4, g5, g6⟩ := tm_row hR (s := 8) (by omega)
  refine ⟨0, fun post h => ?_, fun post h => ?_, fun r0 => ?_⟩
  · unfold wpX_check
    exact br_t (by decide) (br_t (by decide) h)
  · unfold wpY_check
    exact br_t (by decide) h
  · refine ⟨st, iv, _, _, _, _, _, _, _, _, ?_, fun post h => tx_e8 hs h, fun post h => ty_e8 hd hs ht  h⟩
    rw [e6, tm_v8 hR]
    exact tm_rl8 hR _
theorem tm_o9 (hm : m ≤ 32) (hR : tm_RL m M V TG BS LN PM OT VY) (hd : d < 8) (hs : s < 8) (ht : t < 8) : tm_Ck m rg pq wd st ca iv im he wa ct dt M V R F ym yw TG BS LN PM OT VY HE OP AU 9 d s t := by
  have hg := fun i (h : i < 41) => tm_tgv hm hR h
  obtain ⟨w, e1, e2, e3, e4, e5, e6⟩ := tm_row hR (s := s) (by omega)
  obtain ⟨w', f1, f2, f3, f4, f5, f6⟩ := tm_row hR (s := t) (by omega)
  obtain ⟨w8, g1, g2, g3, g4, g5, g6⟩ := tm_row hR (s := 8) (by omega)
  refine ⟨0, fun post h => ?_, fun post h => ?_, fun r0 => ?_⟩
  · unfold wpX_check
    exact br_t (by decide) (br_t (by decide) h)
  · unfold wpY_check
    exact br_t (by decide) h
  · refine ⟨st, iv, _, _, _, _, _, _, _, _, ?_, fun post h => tx_e9 hd hs ht  h, fun post h => ty_e9 hd hs ht hg h⟩
    exact tm_rl1 hR (tm_sl_lo (by omega)) (by omega) (by omega) (Or.inr (by omega)) (⟨w8, g1, g2, g3, g4, g5, congrArg (· + im) g6⟩)
theorem tm_o10 (hm : m ≤ 32) (hR : tm_RL m M V TG BS LN PM OT VY) (hd : d < 8) (hs : s < 8) (ht : t < 8) : tm_Ck m rg pq wd st ca iv im he wa ct dt M V R F ym yw TG BS LN PM OT VY HE OP AU 10 d s t := by
  have hg := fun i (h : i < 41) => tm_tgv hm hR h
  obtain ⟨w, e1, e2, e3, e4, e5, e6⟩ := tm_row hR (s := s) (by omega)
  obtain ⟨w', f1, f2, f3, f4, f5, f6⟩ := tm_row hR (s := t) (by omega)
  obtain ⟨w8, g1, g2, g3, g4, g5, g6⟩ := tm_row hR (s := 8) (by omega)
  refine ⟨tm_vN (TG s) (OT s) (PM s) 16, fun post h => ?_, fun post h => ?_, fun r0 => ?_⟩
  · unfold wpX_check
    exact br_f (by decide) (br_f (by decide) (br_t rfl (tz_jump hm hR hs h)))
  · unfold wpY_check
    exact br_f (by decide) (br_f (by decide) (br_t rfl (yz_need hs h)))
  · refine ⟨st, iv, _, _, _, _, _, _, _, _, ?_, fun post h => tx_e10 hs h, fun post h => ty_e10 hd hs ht hg h⟩
    exact tm_rlu hR (j := 8) (by omega) (Or.inr (by decide)) (tm_row hR (by omega))
theorem tm_o11 (hm : m ≤ 32) (hR : tm_RL m M V TG BS LN PM OT VY) (hd : d < 8) (hs : s < 8) (ht : t < 8) : tm_Ck m rg pq wd st ca iv im he wa ct dt M V R F ym yw TG BS LN PM OT VY HE OP AU 11 d s t := by
  have hg := fun i (h : i < 41) => tm_tgv hm hR h
  obtain ⟨w, e1, e2, e3, e4, e5, e6⟩ := tm_row hR (s := s) (by omega)
  obtain ⟨w', f1, f2, f3, f4, f5, f6⟩ := tm_row hR (s := t) (by omega)
  obtain ⟨w8, g1, g2, g3, g4, g5, g6⟩ := tm_row hR (s := 8) (by omega)
  refine ⟨tm_vN (TG s) (OT s) (PM s) 0, fun post h => ?_, fun post h => ?_, fun r0 => ?_⟩
  · unfold wpX_check
    exact br_f (by decide) (br_f (by decide) (br_f (by decide) (br_t rfl (tz_open hm hR hs h))))
  · unfold wpY_check
    exact br_f (by decide) (br_f (by decide) (br_f (by decide) (br_t rfl (yz_need hs h))))
  · refine ⟨st, iv, _, _, _, _, _, _, _, _, ?_, fun post h => tx_e11 hd hs ht  h, fun post h => ty_e11 hd hs ht hg h⟩
    exact tm_rl1 hR (tm_sl_lo (by omega)) (by omega) (by omega) (Or.inr (by omega)) (⟨w, e1, e2, e3, e4, e5, f6⟩)
theorem tm_o12 (hm : m ≤ 32) (hR : tm_RL m M V TG BS LN PM OT VY) (hd : d < 8) (hs : s < 8) (ht : t < 8) : tm_Ck m rg pq wd st ca iv im he wa ct dt M V R F ym yw TG BS LN PM OT VY HE OP AU 12 d s t := by
  have hg := fun i (h : i < 41) => tm_tgv hm hR h
  obtain ⟨w, e1, e2, e3, e4, e5, e6⟩ := tm_row hR (s := s) (by omega)
  obtain ⟨w', f1, f2, f3, f4, f5, f6⟩ := tm_row hR (s := t) (by omega)
  obtain ⟨w8, g1, g2, g3, g4, g5, g6⟩ := tm_row hR (s := 8) (by omega)
  refine ⟨tm_vN (TG s) (OT s) (PM s) 0, fun post h => ?_, fun post h => ?_, fun r0 => ?_⟩
  · unfold wpX_check
    exact br_f (by decide) (br_f (by decide) (br_f (by decide) (br_f (by decide) (br_t rfl (tz_open hm hR hs h)))))
  · unfold wpY_check
    exact br_f (by decide) (br_f (by decide) (br_f (by decide) (br_f (by decide) (br_t rfl (yz_need hs h)))))
  · refine ⟨st, iv, _, _, _, _, _, _, _, _, ?_, fun post h => tx_e12 hd hs ht  h, fun post h => ty_e12 hd hs ht hg h⟩
    exact tm_rl1 hR (tm_sl_lo (by omega)) (by omega) (by omega) (Or.inr (by omega)) (⟨w, e1, e2, e3, e4, e5, congrArg (· + im) e6⟩)
theorem tm_o13 (hm : m ≤ 32) (hR : tm_RL m M V TG BS LN PM OT VY) (hd : d < 8) (hs : s < 8) (ht : t < 8) : tm_Ck m rg pq wd st ca iv im he wa ct dt M V R F ym yw TG BS LN PM OT VY HE OP AU 13 d s t := by
  have hg := fun i (h : i < 41) => tm_tgv hm hR h
  obtain ⟨w, e1, e2, e3, e4, e5, e6⟩ := tm_row hR (s := s) (by omega)
  obtain ⟨w', f1, f2, f3, f4, f5, f6⟩ := tm_row hR (s := t) (by omega)
  obtain ⟨w8, g1, g2, g3, g4, g5, g6⟩ := tm_row hR (s := 8) (by omega)
  refine ⟨tm_vB (TG s) (OT s) (PM s) (BS s) (LN s) (VY s) (VY t), fun post h => ?_, fun post h => ?_, fun r0 => ?_⟩
  · unfold wpX_check
    exact br_f (by decide) (br_f (by decide) (br_f (by decide) (br_f (by decide) (br_f (by decide) (br_t rfl (And.intro (vp_in_nI (by omega) (by decide)) (by rw [nI_clamp (n := 32 + t) (by omega)]; rw [← f6]; exact tz_bound hm hR hs h)))))))
  · unfold wpY_check
    exact br_f (by decide) (br_f (by decide) (br_f (by decide) (br_f (by decide) (br_f (by decide) (br_t rfl (And.intro (vp_in_nI (by omega) (by decide)) (by rw [nI_clamp (n := t) (by omega)]; exact yz_bound hs h)))))))
  · have q := tm_vB0 r0
    rw [e1] at q
    rw [e2, e3] at q
    obtain ⟨v, n, hvn, ev, en⟩ := tm_bd hm w q.2.1 q.2.2.1 q.2.2.2.1 q.2.2.2.2
    obtain ⟨x, hx, wx, x1, x2, x3, x4, x5⟩ := tm_wfr hm w q.1 hvn
    rw [← ev, ← en, e6, f6] at hx
    refine ⟨st, iv, _, _, _, _, _, _, _, _, ?_, fun post h => tx_e13 hd hs ht hx h, fun post h => ty_e13 hd hs ht hg h⟩
    exact tm_rl1 hR (tm_sl_lo (by omega)) (by omega) (by omega) (Or.inr (by omega)) (⟨wx, e1.trans x1.symm, ev.trans x2.symm, en.trans x3.symm, e4.trans x4.symm, e5.trans x5.symm, e6⟩)
theorem tm_o14 (hm : m ≤ 32) (hR : tm_RL m M V TG BS LN PM OT VY) (hd : d < 8) (hs : s < 8) (ht : t < 8) : tm_Ck m rg pq wd st ca iv im he wa ct dt M V R F ym yw TG BS LN PM OT VY HE OP AU 14 d s t := by
  have hg := fun i (h : i < 41) => tm_tgv hm hR h
  obtain ⟨w, e1, e2, e3, e4, e5, e6⟩ := tm_row hR (s := s) (by omega)
  obtain ⟨w', f1, f2, f3, f4, f5, f6⟩ := tm_row hR (s := t) (by omega)
  obtain ⟨w8, g1, g2, g3, g4, g5, g6⟩ := tm_row hR (s := 8) (by omega)
  refine ⟨tm_vB (TG s) (OT s) (PM s) (BS s) (LN s) (VY s) im, fun post h => ?_, fun post h => ?_, fun r0 => ?_⟩
  · unfold wpX_check
    exact br_f (by decide) (br_f (by decide) (br_f (by decide) (br_f (by decide) (br_f (by decide) (br_f (by decide) (br_t rfl (tz_bound hm hR hs h)))))))
  · unfold wpY_check
    exact br_f (by decide) (br_f (by decide) (br_f (by decide) (br_f (by decide) (br_f (by decide) (br_f (by decide) (br_t rfl (yz_bound hs h)))))))
  · have q := tm_vB0 r0
    rw [e1] at q
    rw [e2, e3] at q
    obtain ⟨v, n, hvn, ev, en⟩ := tm_bd hm w q.2.1 q.2.2.1 q.2.2.2.1 q.2.2.2.2
    obtain ⟨x, hx, wx, x1, x2, x3, x4, x5⟩ := tm_wfr hm w q.1 hvn
    rw [← ev, ← en, e6] at hx
    refine ⟨st, iv, _, _, _, _, _, _, _, _, ?_, fun post h => tx_e14 hd hs ht hx h, fun post h => ty_e14 hd hs ht hg h⟩
    exact tm_rl1 hR (tm_sl_lo (by omega)) (by omega) (by omega) (Or.inr (by omega)) (⟨wx, e1.trans x1.symm, ev.trans x2.symm, en.trans x3.symm, e4.trans x4.symm, e5.trans x5.symm, e6⟩)
theorem tm_o15 (hm : m ≤ 32) (hR : tm_RL m M V TG BS LN PM OT VY) (hd : d < 8) (hs : s < 8) (ht : t < 8) : tm_Ck m rg pq wd st ca iv im he wa ct dt M V R F ym yw TG BS LN PM OT VY HE OP AU 15 d s t := by
  have hg := fun i (h : i < 41) => tm_tgv hm hR h
  obtain ⟨w, e1, e2, e3, e4, e5, e6⟩ := tm_row hR (s := s) (by omega)
  obtain ⟨w', f1, f2, f3, f4, f5, f6⟩ := tm_row hR (s := t) (by omega)
  obtain ⟨w8, g1, g2, g3, g4, g5, g6⟩ := tm_row hR (s := 8) (by omega)
  refine ⟨tm_vN (TG s) (OT s) (PM s) 0, fun post h => ?_, fun post h => ?_, fun r0 => ?_⟩
  · unfold wpX_check
    exact br_f (by decide) (br_f (by decide) (br_f (by decide) (br_f (by decide) (br_f (by decide) (br_f (by decide) (br_f (by decide) (br_t rfl (tz_open hm hR hs h))))))))
  · unfold wpY_check
    exact br_f (by decide) (br_f (by decide) (br_f (by decide) (br_f (by decide) (br_f (by decide) (br_f (by decide) (br_f (by decide) (br_t rfl (yz_need hs h))))))))
  · have q := tm_vN0 r0
    rw [e1] at q
    obtain ⟨x, hx, wx, x1, x2, x3, x4, x5⟩ := tm_wfp hm w q im
    refine ⟨st, iv, _, _, _, _, _, _, _, _, ?_, fun post h => tx_e15 hd hs ht hx h, fun post h => ty_e15 hd hs ht hg h⟩
    exact tm_rl1 hR (tm_sl_lo (by omega)) (by omega) (by omega) (Or.inr (by omega)) (⟨wx, e1.trans x1.symm, e2.trans x2.symm, e3.trans x3.symm, (congrArg (· &&& im) e4).trans x4.symm, e5.trans x5.symm, e6⟩)
theorem tm_o16 (hm : m ≤ 32) (hR : tm_RL m M V TG BS LN PM OT VY) (hd : d < 8) (hs : s < 8) (ht : t < 8) : tm_Ck m rg pq wd st ca iv im he wa ct dt M V R F ym yw TG BS LN PM OT VY HE OP AU 16 d s t := by
  have hg := fun i (h : i < 41) => tm_tgv hm hR h
  obtain ⟨w, e1, e2, e3, e4, e5, e6⟩ := tm_row hR (s := s) (by omega)
  obtain ⟨w', f1, f2, f3, f4, f5, f6⟩ := tm_row hR (s := t) (by omega)
  obtain ⟨w8, g1, g2, g3, g4, g5, g6⟩ := tm_row hR (s := 8) (by omega)
  refine ⟨tm_vS (TG s) (OT s) (TG t) (tm_vA (TG t) (OT t) (PM t) (BS t) (LN t) 32 (VY t)), fun post h => ?_, fun post h => ?_, fun r0 => ?_⟩
  · unfold wpX_check
    exact br_f (by decide) (br_f (by decide) (br_f (by decide) (br_f (by decide) (br_f (by decide) (br_f (by decide) (br_f (by decide) (br_f (by decide) (br_t rfl (tz_seal hm hR hs ht h)))))))))
  · unfold wpY_check
    exact br_f (by decide) (br_f (by decide) (br_f (by decide) (br_f (by decide) (br_f (by decide) (br_f (by decide) (br_f (by decide) (br_f (by decide) (br_t rfl (yz_seal hs ht h)))))))))
  · have q := tm_vS0 r0
    have q2 := tm_vA0 q.2
    rw [f2, f3] at q2
    rw [e1] at q
    obtain ⟨o, ho, eo⟩ := tm_at hm w' q2.2.1 q2.2.2
    obtain ⟨x, hx, wx, x1, x2, x3, x4, x5⟩ := tm_wft hm w q.1 (t' := o + 1) (by omega)
    rw [← nI_1, ← eo, f6] at hx
    rw [nI_pred] at x5
    refine ⟨st, iv, _, _, _, _, _, _, _, _, ?_, fun post h => tx_e16 hd hs ht hx h, fun post h => ty_e16 hd hs ht hg h⟩
    exact tm_rl1 hR (tm_sl_lo (by omega)) (by omega) (by omega) (Or.inr (by omega)) (⟨wx, e1.trans x1.symm, e2.trans x2.symm, e3.trans x3.symm, e4.trans x4.symm, eo.trans x5.symm, e6⟩)
theorem tm_o17 (hm : m ≤ 32) (hR : tm_RL m M V TG BS LN PM OT VY) (hd : d < 8) (hs : s < 8) (ht : t < 8) : tm_Ck m rg pq wd st ca iv im he wa ct dt M V R F ym yw TG BS LN PM OT VY HE OP AU 17 d s t := by
  have hg := fun i (h : i < 41) => tm_tgv hm hR h
  obtain ⟨w, e1, e2, e3, e4, e5, e6⟩ := tm_row hR (s := s) (by omega)
  obtain ⟨w', f1, f2, f3, f4, f5, f6⟩ := tm_row hR (s := t) (by omega)
  obtain ⟨w8, g1, g2, g3, g4, g5, g6⟩ := tm_row hR (s := 8) (by omega)
  refine ⟨tm_vU (TG s) (OT s) (TG t) (VY t) (tm_vA (TG t) (OT t) (PM t) (BS t) (LN t) 64 (VY t)), fun post h => ?_, fun post h => ?_, fun r0 => ?_⟩
  · unfold wpX_check
    exact br_f (by decide) (br_f (by decide) (br_f (by decide) (br_f (by decide) (br_f (by decide) (br_f (by decide) (br_f (by decide) (br_f (by decide) (br_f (by decide) (br_t rfl (tz_unseal hm hR hs ht h))))))))))
  · unfold wpY_check
    exact br_f (by decide) (br_f (by decide) (br_f (by decide) (br_f (by decide) (br_f (by decide) (br_f (by decide) (br_f (by decide) (br_f (by decide) (br_f (by decide) (br_t rfl (yz_unseal hs ht h))))))))))
  · have q := tm_vU0 r0
    rw [e1] at q
    obtain ⟨x, hx, wx, x1, x2, x3, x4, x5⟩ := tm_wft hm w q (t' := 0) (by omega)
    rw [tm_nm1] at x5
    refine ⟨st, iv, _, _, _, _, _, _, _, _, ?_, fun post h => tx_e17 hd hs ht hx h, fun post h => ty_e17 hd hs ht hg h⟩
    exact tm_rl1 hR (tm_sl_lo (by omega)) (by omega) (by omega) (Or.inr (by omega)) (⟨wx, e1.trans x1.symm, e2.trans x2.symm, e3.trans x3.symm, e4.trans x4.symm, x5.symm, e6⟩)
theorem tm_o18 (hm : m ≤ 32) (hR : tm_RL m M V TG BS LN PM OT VY) (hd : d < 8) (hs : s < 8) (ht : t < 8) : tm_Ck m rg pq wd st ca iv im he wa ct dt M V R F ym yw TG BS LN PM OT VY HE OP AU 18 d s t := by
  have hg := fun i (h : i < 41) => tm_tgv hm hR h
  obtain ⟨w, e1, e2, e3, e4, e5, e6⟩ := tm_row hR (s := s) (by omega)
  obtain ⟨w', f1, f2, f3, f4, f5, f6⟩ := tm_row hR (s := t) (by omega)
  obtain ⟨w8, g1, g2, g3, g4, g5, g6⟩ := tm_row hR (s := 8) (by omega)
  refine ⟨(if im < 0 then 3 else if im ≤ 5 then 0 else 3), fun post h => ?_, fun post h => ?_, fun r0 => ?_⟩
  · unfold wpX_check
    exact br_f (by decide) (br_f (by decide) (br_f (by decide) (br_f (by decide) (br_f (by decide) (br_f (by decide) (br_f (by decide) (br_f (by decide) (br_f (by decide) (br_f (by decide) (br_t rfl (tm_if h id (fun h => tm_if h id id))))))))))))
  · unfold wpY_check
    exact br_f (by decide) (br_f (by decide) (br_f (by decide) (br_f (by decide) (br_f (by decide) (br_f (by decide) (br_f (by decide) (br_f (by decide) (br_f (by decide) (br_f (by decide) (br_t rfl (tm_if h id (fun h => tm_if h id id))))))))))))
  · refine ⟨st, iv, _, _, _, _, _, _, _, _, ?_, fun post h => tx_e18 hd hs ht  h, fun post h => ty_e18 hd hs ht hg h⟩
    exact tm_rl1 hR (tm_sl_lo (by omega)) (by omega) (by omega) (Or.inr (by omega)) (by rw [e1, e2, e3, e4, e5, e6]; exact tm_rw0 m _)
theorem tm_o19 (hm : m ≤ 32) (hR : tm_RL m M V TG BS LN PM OT VY) (hd : d < 8) (hs : s < 8) (ht : t < 8) : tm_Ck m rg pq wd st ca iv im he wa ct dt M V R F ym yw TG BS LN PM OT VY HE OP AU 19 d s t := by
  have hg := fun i (h : i < 41) => tm_tgv hm hR h
  obtain ⟨w, e1, e2, e3, e4, e5, e6⟩ := tm_row hR (s := s) (by omega)
  obtain ⟨w', f1, f2, f3, f4, f5, f6⟩ := tm_row hR (s := t) (by omega)
  obtain ⟨w8, g1, g2, g3, g4, g5, g6⟩ := tm_row hR (s := 8) (by omega)
  refine ⟨tm_vA (TG s) (OT s) (PM s) (BS s) (LN s) 1 (VY s + im), fun post h => ?_, fun post h => ?_, fun r0 => ?_⟩
  · unfold wpX_check
    exact br_f (by decide) (br_f (by decide) (br_f (by decide) (br_f (by decide) (br_f (by decide) (br_f (by decide) (br_f (by decide) (br_f (by decide) (br_f (by decide) (br_f (by decide) (br_f (by decide) (br_t rfl (tz_access hm hR hs h))))))))))))
  · unfold wpY_check
    exact br_f (by decide) (br_f (by decide) (br_f (by decide) (br_f (by decide) (br_f (by decide) (br_f (by decide) (br_f (by decide) (br_f (by decide) (br_f (by decide) (br_f (by decide) (br_f (by decide) (br_t rfl ((And.intro (vp_in_nI (by omega) (by decide)) (by rw [nI_clamp (n := s) (by omega)]; exact yz_at hs h))))))))))))))
  · have q := tm_vA0 r0
    rw [e2, e3] at q
    obtain ⟨a, ha, ea⟩ := tm_at hm w q.2.1 q.2.2
    have hl : a < 32 := by omega
    have ea' : V (32 + s) + im = nI a := by rw [← e6]; exact ea
    refine ⟨st, iv, _, _, _, _, _, _, _, _, ?_, fun post h => tx_e19 hd hs ht ea' hl h, fun post h => ty_e19 hd hs ht ea hl h⟩
    exact tm_rl1 hR (tm_sl_lo (by omega)) (by omega) (by omega) (Or.inr (by omega)) (by rw [(tm_rowm hR hl).2.2.2.2.2.2]; exact tm_rw0 m _)
theorem tm_o20 (hm : m ≤ 32) (hR : tm_RL m M V TG BS LN PM OT VY) (hd : d < 8) (hs : s < 8) (ht : t < 8) : tm_Ck m rg pq wd st ca iv im he wa ct dt M V R F ym yw TG BS LN PM OT VY HE OP AU 20 d s t := by
  have hg := fun i (h : i < 41) => tm_tgv hm hR h
  obtain ⟨w, e1, e2, e3, e4, e5, e6⟩ := tm_row hR (s := s) (by omega)
  obtain ⟨w', f1, f2, f3, f4, f5, f6⟩ := tm_row hR (s := t) (by omega)
  obtain ⟨w8, g1, g2, g3, g4, g5, g6⟩ := tm_row hR (s := 8) (by omega)
  refine ⟨tm_vA (TG s) (OT s) (PM s) (BS s) (LN s) 4 (VY s + im), fun post h => ?_, fun post h => ?_, fun r0 => ?_⟩
  · unfold wpX_check
    exact br_f (by decide) (br_f (by decide) (br_f (by decide) (br_f (by decide) (br_f (by decide) (br_f (by decide) (br_f (by decide) (br_f (by decide) (br_f (by decide) (br_f (by decide) (br_f (by decide) (br_f (by decide) (br_t rfl (tz_access hm hR hs h)))))))))))))
  · unfold wpY_check
    exact br_f (by decide) (br_f (by decide) (br_f (by decide) (br_f (by decide) (br_f (by decide) (br_f (by decide) (br_f (by decide) (br_f (by decide) (br_f (by decide) (br_f (by decide) (br_f (by decide) (br_f (by decide) (br_t rfl ((And.intro (vp_in_nI (by omega) (by decide)) (by rw [nI_clamp (n := s) (by omega)]; exact yz_at hs h)))))))))))))))
  · have q := tm_vA0 r0
    rw [e2, e3] at q
    obtain ⟨a, ha, ea⟩ := tm_at hm w q.2.1 q.2.2
    have hl : a < 32 := by omega
    have ea' : V (32 + s) + im = nI a := by rw [← e6]; exact ea
    refine ⟨st, iv, _, _, _, _, _, _, _, _, ?_, fun post h => tx_e20 hd hs ht ea' hl h, fun post h => ty_e20 hd hs ht ea hl hg h⟩
    exact tm_rl1 hR (tm_sl_lo (by omega)) (by omega) (by omega) (Or.inr (by omega)) (tm_rowm hR hl)
theorem tm_o21 (hm : m ≤ 32) (hR : tm_RL m M V TG BS LN PM OT VY) (hd : d < 8) (hs : s < 8) (ht : t < 8) : tm_Ck m rg pq wd st ca iv im he wa ct dt M V R F ym yw TG BS LN PM OT VY HE OP AU 21 d s t := by
  have hg := fun i (h : i < 41) => tm_tgv hm hR h
  obtain ⟨w, e1, e2, e3, e4, e5, e6⟩ := tm_row hR (s := s) (by omega)
  obtain ⟨w', f1, f2, f3, f4, f5, f6⟩ := tm_row hR (s := t) (by omega)
  obtain ⟨w8, g1, g2, g3, g4, g5, g6⟩ := tm_row hR (s := 8) (by omega)
  refine ⟨tm_vA (TG s) (OT s) (PM s) (BS s) (LN s) 2 (VY s + im), fun post h => ?_, fun post h => ?_, fun r0 => ?_⟩
  · unfold wpX_check
    exact br_f (by decide) (br_f (by decide) (br_f (by decide) (br_f (by decide) (br_f (by decide) (br_f (by decide) (br_f (by decide) (br_f (by decide) (br_f (by decide) (br_f (by decide) (br_f (by decide) (br_f (by decide) (br_f (by decide) (br_t rfl (tz_access hm hR hs h))))))))))))))
  · unfold wpY_check
    exact br_f (by decide) (br_f (by decide) (br_f (by decide) (br_f (by decide) (br_f (by decide) (br_f (by decide) (br_f (by decide) (br_f (by decide) (br_f (by decide) (br_f (by decide) (br_f (by decide) (br_f (by decide) (br_f (by decide) (br_t rfl ((And.intro (vp_in_nI (by omega) (by decide)) (by rw [nI_clamp (n := s) (by omega)]; exact yz_at hs h))))))))))))))))
  · have q := tm_vA0 r0
    rw [e2, e3] at q
    obtain ⟨a, ha, ea⟩ := tm_at hm w q.2.1 q.2.2
    have hl : a < 32 := by omega
    have ea' : V (32 + s) + im = nI a := by rw [← e6]; exact ea
    refine ⟨st, iv, _, _, _, _, _, _, _, _, ?_, fun post h => tx_e21 hd hs ht ea' hl h, fun post h => ty_e21 hd hs ht ea hl h⟩
    exact tm_rl1 hR (tm_sl_hi a) (by omega) (by omega) (Or.inl ha) (by rw [(tm_row hR (s := d) (by omega)).2.2.2.2.2.2]; exact tm_rw0 m _)
theorem tm_o22 (hm : m ≤ 32) (hR : tm_RL m M V TG BS LN PM OT VY) (hd : d < 8) (hs : s < 8) (ht : t < 8) : tm_Ck m rg pq wd st ca iv im he wa ct dt M V R F ym yw TG BS LN PM OT VY HE OP AU 22 d s t := by
  have hg := fun i (h : i < 41) => tm_tgv hm hR h
  obtain ⟨w, e1, e2, e3, e4, e5, e6⟩ := tm_row hR (s := s) (by omega)
  obtain ⟨w', f1, f2, f3, f4, f5, f6⟩ := tm_row hR (s := t) (by omega)
  obtain ⟨w8, g1, g2, g3, g4, g5, g6⟩ := tm_row hR (s := 8) (by omega)
  refine ⟨tm_vA (TG s) (OT s) (PM s) (BS s) (LN s) 8 (VY s + im), fun post h => ?_, fun post h => ?_, fun r0 => ?_⟩
  · unfold wpX_check
    exact br_f (by decide) (br_f (by decide) (br_f (by decide) (br_f (by decide) (br_f (by decide) (br_f (by decide) (br_f (by decide) (br_f (by decide) (br_f (by decide) (br_f (by decide) (br_f (by decide) (br_f (by decide) (br_f (by decide) (br_f (by decide) (br_t rfl (tz_access hm hR hs h)))))))))))))))
  · unfold wpY_check
    exact br_f (by decide) (br_f (by decide) (br_f (by decide) (br_f (by decide) (br_f (by decide) (br_f (by decide) (br_f (by decide) (br_f (by decide) (br_f (by decide) (br_f (by decide) (br_f (by decide) (br_f (by decide) (br_f (by decide) (br_f (by decide) (br_t rfl ((And.intro (vp_in_nI (by omega) (by decide)) (by rw [nI_clamp (n := s) (by omega)]; exact yz_at hs h)))))))))))))))))
  · have q := tm_vA0 r0
    rw [e2, e3] at q
    obtain ⟨a, ha, ea⟩ := tm_at hm w q.2.1 q.2.2
    have hl : a < 32 := by omega
    have ea' : V (32 + s) + im = nI a := by rw [← e6]; exact ea
    refine ⟨st, iv, _, _, _, _, _, _, _, _, ?_, fun post h => tx_e22 hd hs ht ea' hl h, fun post h => ty_e22 hd hs ht ea hl hg h⟩
    exact tm_rl1 hR (tm_sl_hi a) (by omega) (by omega) (Or.inl ha) (tm_row hR (by omega))
theorem tm_o23 (hm : m ≤ 32) (hR : tm_RL m M V TG BS LN PM OT VY) (hd : d < 8) (hs : s < 8) (ht : t < 8) : tm_Ck m rg pq wd st ca iv im he wa ct dt M V R F ym yw TG BS LN PM OT VY HE OP AU 23 d s t := by
  have hg := fun i (h : i < 41) => tm_tgv hm hR h
  obtain ⟨w, e1, e2, e3, e4, e5, e6⟩ := tm_row hR (s := s) (by omega)
  obtain ⟨w', f1, f2, f3, f4, f5, f6⟩ := tm_row hR (s := t) (by omega)
  obtain ⟨w8, g1, g2, g3, g4, g5, g6⟩ := tm_row hR (s := 8) (by omega)
  refine ⟨tm_vK (TG s) (OT s) (PM s) (TG t) (OT t) (PM t), fun post h => ?_, fun post h => ?_, fun r0 => ?_⟩
  · unfold wpX_check
    exact br_f (by decide) (br_f (by decide) (br_f (by decide) (br_f (by decide) (br_f (by decide) (br_f (by decide) (br_f (by decide) (br_f (by decide) (br_f (by decide) (br_f (by decide) (br_f (by decide) (br_f (by decide) (br_f (by decide) (br_f (by decide) (br_f (by decide) (br_t rfl (tz_invoke hm hR hs ht h))))))))))))))))
  · unfold wpY_check
    exact br_f (by decide) (br_f (by decide) (br_f (by decide) (br_f (by decide) (br_f (by decide) (br_f (by decide) (br_f (by decide) (br_f (by decide) (br_f (by decide) (br_f (by decide) (br_f (by decide) (br_f (by decide) (br_f (by decide) (br_f (by decide) (br_f (by decide) (br_t rfl (yz_invoke hs ht h))))))))))))))))
  · have q := tm_vK0 r0
    rw [e1, f1] at q
    obtain ⟨x, hx, wx, x1, x2, x3, x4, x5⟩ := tm_wft hm w q.1 (t' := 0) (by omega)
    obtain ⟨y, hy, wy, y1, y2, y3, y4, y5⟩ := tm_wft hm w' q.2 (t' := 0) (by omega)
    rw [tm_nm1] at x5 y5
    refine ⟨st, iv + 1, _, _, _, _, _, _, _, _, ?_, fun post h => tx_e23 hs ht hx hy h, fun post h => ty_e23 hd hs ht hg h⟩
    exact tm_rlu (tm_rlu hR (j := 8) (by omega) (Or.inr (by decide)) ⟨wx, e1.trans x1.symm, e2.trans x2.symm, e3.trans x3.symm, e4.trans x4.symm, x5.symm, e6⟩) (j := 7) (by omega) (Or.inr (by decide)) ⟨wy, f1.trans y1.symm, f2.trans y2.symm, f3.trans y3.symm, f4.trans y4.symm, y5.symm, f6⟩
end
end
section
/-! one step and the run -/
section
variable {m : Nat} {rg pq wd st ca iv im : Int32} {he wa : Int64} {ct dt : Int32} {M V R F : Nat → Int32} {ym yw : Int32} {TG BS LN PM OT VY HE OP AU : Nat → Int32} {d s t : Nat}
theorem tm_ops (hm : m ≤ 32) (hR : tm_RL m M V TG BS LN PM OT VY) (hd : d < 8) (hs : s < 8) (ht : t < 8) {k : Nat} (hk : k < 24) : tm_Ck m rg pq wd st ca iv im he wa ct dt M V R F ym yw TG BS LN PM OT VY HE OP AU (nI k) d s t := by
  have e : k = 0 ∨ k = 1 ∨ k = 2 ∨ k = 3 ∨ k = 4 ∨ k = 5 ∨ k = 6 ∨ k = 7 ∨ k = 8 ∨ k = 9 ∨ k = 10 ∨ k = 11 ∨ k = 12 ∨ k = 13 ∨ k = 14 ∨ k = 15 ∨ k = 16 ∨ k = 17 ∨ k = 18 ∨ k = 19 ∨ k = 20 ∨ k = 21 ∨ k = 22 ∨ k = 23 := by omega
  rcases e with rfl | rfl | rfl | rfl | rfl | rfl | rfl | rfl | rfl | rfl | rfl | rfl | rfl | rfl | rfl | rfl | rfl | rfl | rfl | rfl | rfl | rfl | rfl | rfl
  · exact tm_o0 hm hR hd hs ht
  · exact tm_o1 hm hR hd hs ht
  · exact tm_o2 hm hR hd hs ht
  · exact tm_o3 hm hR hd hs ht
  · exact tm_o4 hm hR hd hs ht
  · exact tm_o5 hm hR hd hs ht
  · exact tm_o6 hm hR hd hs ht
  · exact tm_o7 hm hR hd hs ht
  · exact tm_o8 hm hR hd hs ht
  · exact tm_o9 hm hR hd hs ht
  · exact tm_o10 hm hR hd hs ht
  · exact tm_o11 hm hR hd hs ht
  · exact tm_o12 hm hR hd hs ht
  · exact tm_o13 hm hR hd hs ht
  · exact tm_o14 hm hR hd hs ht
  · exact tm_o15 hm hR hd hs ht
  · exact tm_o16 hm hR hd hs ht
  · exact tm_o17 hm hR hd hs ht
  · exact tm_o18 hm hR hd hs ht
  · exact tm_o19 hm hR hd hs ht
  · exact tm_o20 hm hR hd hs ht
  · exact tm_o21 hm hR hd hs ht
  · exact tm_o22 hm hR hd hs ht
  · exact tm_o23 hm hR hd hs ht
end
theorem tm_rel_mk {rg pq wd st ca iv op rd rs rt im : Int32} {he wa : Int64} {ct dt : Int32} {M V R F : Nat → Int32} {ym ys yw yi : Int32} {TG BS LN PM OT VY HE OP AU : Nat → Int32} {m : Nat} (h : tm_R m wd st ca iv M V R F ym ys yw yi TG BS LN PM OT VY) : tm_Rel (rg, pq, wd, st, ca, iv, op, rd, rs, rt, im, he, wa, ct, dt, M, V, R, F) (ym, ys, yw, yi, TG, BS, LN, PM, OT, VY, HE, OP, AU) := ⟨m, h⟩
/-! behind the decoding -/
section
variable {rg pq wd st ca iv op rd rs rt im : Int32} {he wa : Int64} {ct dt : Int32} {M V R F : Nat → Int32} {ym ys yw yi : Int32} {TG BS LN PM OT VY HE OP AU : Nat → Int32} {m d s t : Nat}
theorem tm_ck (h16 : 16 ≤ m) (hm : m ≤ 32) (hR : tm_RL m M V TG BS LN PM OT VY) (hF : ∀ kd, kd < 2 → F kd = 0 ∨ tm_Rv M kd R) (hd : d < 8) (hs : s < 8) (ht : t < 8) {k : Nat} (hk : k < 24) :
    ∃ (u' : SX) (v' : SY), tm_Rel u' v' ∧ (∀ post : SX → Prop, post u' → wpX_check (fun r => wX_step_61 post r rg pq (nI m) st ca iv (nI k) (nI (32 + d)) (nI (32 + s)) (nI (32 + t)) im he wa ct dt M V R F) (rg, pq, nI m, st, ca, iv, nI k, nI (32 + d), nI (32 + s), nI (32 + t), im, he, wa, ct, dt, M, V, R, F)) ∧
      (∀ post : SY → Prop, post v' → wpY_check (fun r => ((r = 0 → wpY_effect post (nI m, st, ca, iv, TG, BS, LN, PM, OT, VY, HE, OP, AU) (nI k) (nI d) (nI s) (nI t) im (VY 8)) ∧ (¬ r = 0 → wpY_trap post (nI m, st, ca, iv, TG, BS, LN, PM, OT, VY, HE, OP, AU) r))) (nI m, st, ca, iv, TG, BS, LN, PM, OT, VY, HE, OP, AU) (nI k) (nI s) (nI t) im) := by
  obtain ⟨r, hx, hy, hE⟩ := tm_ops (rg := rg) (pq := pq) (wd := nI m) (st := st) (ca := ca) (iv := iv) (im := im) (he := he) (wa := wa) (ct := ct) (dt := dt) (R := R) (F := F) (ym := nI m) (yw := ca) (HE := HE) (OP := OP) (AU := AU) hm hR hd hs ht hk
  by_cases z : r = 0
  · obtain ⟨st', iv', M', V', TG', BS', LN', PM', OT', VY', hR', ex, ey⟩ := hE z
    refine ⟨(rg, pq, nI m, st', ca, iv', nI k, nI (32 + d), nI (32 + s), nI (32 + t), im, he, wa, ct, dt, M', V', R, tm_F0 F), (nI m, st', ca, iv', TG', BS', LN', PM', OT', VY', HE, OP, AU), tm_rel_mk ⟨h16, hm, rfl, rfl, rfl, rfl, rfl, hR', fun kd hk => Or.inl (tm_F0z F hk)⟩, fun post h => hx _ ?_, fun post h => hy _ ?_⟩
    · unfold wX_step_61
      exact br_t z (ex _ (tx_invalidate h))
    · exact br_t z (ey _ h)
  · refine ⟨(rg, pq, nI m, 2, r, iv, nI k, nI (32 + d), nI (32 + s), nI (32 + t), im, he, wa, ct, dt, M, V, R, F), (nI m, 2, r, iv, TG, BS, LN, PM, OT, VY, HE, OP, AU), tm_rel_mk ⟨h16, hm, rfl, rfl, rfl, rfl, rfl, hR, hF⟩, fun post h => hx _ ?_, fun post h => hy _ ?_⟩
    · unfold wX_step_61
      exact br_f z h
    · exact br_f z h
theorem tm_ck24 {k : Nat} (h24 : 24 ≤ k) (hk : k < 32) {post : Int32 → Prop} (h : post 3) : wpX_check post (rg, pq, wd, st, ca, iv, nI k, rd, rs, rt, im, he, wa, ct, dt, M, V, R, F) := by
  unfold wpX_check
  exact br_f (nI_nlt (b := 10) (by omega) (by omega)) (br_t (nI_lt (a := 23) (by omega) (by omega)) (br_f (nI_ge (b := k) (a := 23) (by omega) (by omega)) h))
end
theorem tm_32 (n : Nat) : (32 : Int32) + nI n = nI (32 + n) := nI_add 32 n
theorem tm_step {u : SX} {v : SY} (I : tm_Rel u v) : ∃ (u' : SX) (v' : SY), tm_Rel u' v' ∧ (∀ post : SX → Prop, post u' → wpX_step post u) ∧ (∀ post : SY → Prop, post v' → wpY_step post v) := by
  refine tm_el (P := fun u v => ∃ (u' : SX) (v' : SY), tm_Rel u' v' ∧ (∀ post : SX → Prop, post u' → wpX_step post u) ∧ (∀ post : SY → Prop, post v' → wpY_step post v)) ?_ I
  intro rg pq wd st ca iv op rd rs rt im he wa ct dt M V R F ym ys yw yi TG BS LN PM OT VY HE OP AU m hr
  obtain ⟨h16, hm, rfl, rfl, rfl, rfl, rfl, hR, hF⟩ := hr
  obtain ⟨w8, g1, g2, g3, g4, g5, g6⟩ := tm_row hR (s := 8) (by omega)
  by_cases hi : tm_vI (BS 8) (LN 8) (VY 8) = 0
  · refine ⟨(rg, pq, nI m, 2, 1, iv, op, rd, rs, rt, im, he, wa, ct, dt, M, V, R, F), (nI m, 2, 1, iv, TG, BS, LN, PM, OT, VY, HE, OP, AU), tm_rel_mk ⟨h16, hm, rfl, rfl, rfl, rfl, rfl, hR, hF⟩, fun post h => ?_, fun post h => ?_⟩
    · unfold wpX_step
      refine nm_e ?_
      refine tx_inBounds (br_t ?_ ?_)
      · rw [← g6, ← g2, ← g3]; exact hi
      · unfold wX_step_61
        exact br_f tm_d10 h
    · unfold wpY_step
      refine nm_e ?_
      exact ty_inside (i := 8) (vp_in_nI (n := 8) (by decide) (by decide)) (br_t hi h)
  · have hi2 := tm_vI0 hi
    have hi3 := hi2
    rw [g2, g3] at hi3
    obtain ⟨p, hp, ep⟩ := tm_at hm w8 hi3.1 hi3.2
    have hl : p < 32 := by omega
    have ep' : V 40 = nI p := g6.symm.trans ep
    have ep9 : (9 : Int32) + nI p = nI (9 + p) := nI_add 9 p
    obtain ⟨wp, p1, p2, p3, p4, p5, p6⟩ := tm_rowm hR hl
    have hiX : ¬ tm_vI (tm_bs (M 40)) (tm_ln (M 40)) (V 40) = 0 := by rw [← g6, ← g2, ← g3]; exact hi
    by_cases ht : TG (9 + p) = 0
    · obtain ⟨k, hk, ek⟩ := pk_andE (V p) (m := 31) 5 (by decide)
      obtain ⟨d, hd, ed⟩ := pk_andE ((V p).toUInt32 >>> ((5 : Int32).toUInt32 &&& Int32.toUInt32 31)).toInt32 (m := 7) 3 (by decide)
      obtain ⟨s, hs, es⟩ := pk_andE ((V p).toUInt32 >>> ((8 : Int32).toUInt32 &&& Int32.toUInt32 31)).toInt32 (m := 7) 3 (by decide)
      obtain ⟨t, ht2, et⟩ := pk_andE ((V p).toUInt32 >>> ((11 : Int32).toUInt32 &&& Int32.toUInt32 31)).toInt32 (m := 7) 3 (by decide)
      have hX : ∀ post : SX → Prop, wpX_check (fun r => wX_step_61 post r rg pq (nI m) st ca iv (nI k) (nI (32 + d)) (nI (32 + s)) (nI (32 + t)) (V p >>> ((14 : Int32) &&& 31)) he wa ct dt M V R F) (rg, pq, nI m, st, ca, iv, nI k, nI (32 + d), nI (32 + s), nI (32 + t), V p >>> ((14 : Int32) &&& 31), he, wa, ct, dt, M, V, R, F) → wpX_step post (rg, pq, nI m, st, ca, iv, op, rd, rs, rt, im, he, wa, ct, dt, M, V, R, F) := by
        intro post h
        unfold wpX_step
        refine nm_r ep' ?_
        rw [ep'] at hiX
        refine tx_inBounds (br_f hiX ?_)
        rw [nI_clamp (n := p) (by omega)]
        refine And.intro (vp_in_nI (by omega) (by decide)) (br_t (p1.symm.trans ht) (br_t rfl (And.intro (vp_in_nI (by omega) (by decide)) ?_)))
        unfold wpX_decode
        dsimp only
        rw [ek, ed, es, et, tm_32, tm_32, tm_32]
        exact nm_e (nm_e (nm_e (nm_e (nm_e h))))
      rcases Nat.lt_or_ge k 24 with h24 | h24
      · obtain ⟨u', v', hrel, hx, hy⟩ := tm_ck (rg := rg) (pq := pq) (st := st) (ca := ca) (iv := iv) (he := he) (wa := wa) (ct := ct) (dt := dt) (im := V p >>> ((14 : Int32) &&& 31)) (HE := HE) (OP := OP) (AU := AU) h16 hm hR hF hd hs ht2 h24
        refine ⟨u', v', hrel, fun post h => hX post (hx post h), fun post h => ?_⟩
        unfold wpY_step
        refine nm_e ?_
        refine ty_inside (i := 8) (vp_in_nI (n := 8) (by decide) (by decide)) (br_f hi ?_)
        rw [ep, ep9, nI_clamp (n := 9 + p) (by omega), p6]
        refine And.intro (vp_in_nI (by omega) (by decide)) (br_t ht (And.intro (vp_in_nI (by omega) (by decide)) (nm_e ?_)))
        rw [ek, ed, es, et]
        refine nm_e (nm_e (nm_e (nm_e (nm_e (br_t (nI_le (b := 23) (by omega) (by omega)) ?_)))))
        rw [← ep]
        exact hy post h
      · refine ⟨(rg, pq, nI m, 2, 3, iv, nI k, nI (32 + d), nI (32 + s), nI (32 + t), V p >>> ((14 : Int32) &&& 31), he, wa, ct, dt, M, V, R, F), (nI m, 2, 3, iv, TG, BS, LN, PM, OT, VY, HE, OP, AU), tm_rel_mk ⟨h16, hm, rfl, rfl, rfl, rfl, rfl, hR, hF⟩, fun post h => hX post ?_, fun post h => ?_⟩
        · refine tm_ck24 h24 hk ?_
          unfold wX_step_61
          exact br_f (by decide) h
        · unfold wpY_step
          refine nm_e ?_
          refine ty_inside (i := 8) (vp_in_nI (n := 8) (by decide) (by decide)) (br_f hi ?_)
          rw [ep, ep9, nI_clamp (n := 9 + p) (by omega), p6]
          refine And.intro (vp_in_nI (by omega) (by decide)) (br_t ht (And.intro (vp_in_nI (by omega) (by decide)) (nm_e ?_)))
          rw [ek, ed, es, et]
          exact nm_e (nm_e (nm_e (nm_e (nm_e (br_f (nI_ge (a := 23) (by omega) (by omega)) h)))))
    · refine ⟨(rg, pq, nI m, 2, 2, iv, op, rd, rs, rt, im, he, wa, ct, dt, M, V, R, F), (nI m, 2, 2, iv, TG, BS, LN, PM, OT, VY, HE, OP, AU), tm_rel_mk ⟨h16, hm, rfl, rfl, rfl, rfl, rfl, hR, hF⟩, fun post h => ?_, fun post h => ?_⟩
      · unfold wpX_step
        refine nm_r ep' ?_
        rw [ep'] at hiX
        refine tx_inBounds (br_f hiX ?_)
        rw [nI_clamp (n := p) (by omega)]
        refine And.intro (vp_in_nI (by omega) (by decide)) (br_f (fun z => ht (p1.trans z)) (br_f tm_d10 ?_))
        unfold wX_step_61
        exact br_f (by decide) h
      · unfold wpY_step
        refine nm_e ?_
        refine ty_inside (i := 8) (vp_in_nI (n := 8) (by decide) (by decide)) (br_f hi ?_)
        rw [ep, ep9, nI_clamp (n := 9 + p) (by omega)]
        exact And.intro (vp_in_nI (by omega) (by decide)) (br_f ht h)
/-- Y idles to the end of its count -/
theorem ty_idle {ym ys yw yi : Int32} {TG BS LN PM OT VY HE OP AU : Nat → Int32} {post : Int32 → SY → Prop} {x1 : Int32} (h : post ys (ym, ys, yw, yi, TG, BS, LN, PM, OT, VY, HE, OP, AU)) : ∀ d j : Nat, j + d = 500 → x1 ≤ nI j ∨ ¬ ys = 0 → wY_run_2 post x1 (d + 1) (nI j) ym ys yw yi TG BS LN PM OT VY HE OP AU := by
  intro d
  induction d with
  | zero =>
    intro j hj _
    rw [wY_run_2]
    exact br_t (nI_le (a := 500) (by omega) (by omega)) h
  | succ d ih =>
    intro j hj hz
    rw [wY_run_2]
    refine br_f (nI_ge (b := 500) (by omega) (by omega)) ?_
    refine br_c (fun z => ?_) (fun z => ?_)
    · exact nm_r (nI_1 j) (ih (j + 1) (by omega) (Or.inl (Int32.le_trans z (nI_le (by omega) (by omega)))))
    · have hy : ¬ ys = 0 := hz.resolve_left z
      exact br_f hy (nm_r (nI_1 j) (ih (j + 1) (by omega) (Or.inr hy)))
theorem tm_runs (x1 : Int32) : ∀ d j : Nat, j + d = 500 → ∀ {rg pq wd st ca iv op rd rs rt im : Int32} {he wa : Int64} {ct dt : Int32} {M V R F : Nat → Int32} {ym ys yw yi : Int32} {TG BS LN PM OT VY HE OP AU : Nat → Int32}, tm_Rel (rg, pq, wd, st, ca, iv, op, rd, rs, rt, im, he, wa, ct, dt, M, V, R, F) (ym, ys, yw, yi, TG, BS, LN, PM, OT, VY, HE, OP, AU) → ∃ (r : Int32) (u' : SX) (v' : SY), tm_Rel u' v' ∧ (∀ post : Int32 → SX → Prop, post r u' → wX_run_2 post x1 (d + 1) (nI j) rg pq wd st ca iv op rd rs rt im he wa ct dt M V R F) ∧ (∀ post : Int32 → SY → Prop, post r v' → wY_run_2 post x1 (d + 1) (nI j) ym ys yw yi TG BS LN PM OT VY HE OP AU) := by
  intro d
  induction d with
  | zero =>
    intro j hj rg pq wd st ca iv op rd rs rt im he wa ct dt M V R F ym ys yw yi TG BS LN PM OT VY HE OP AU I
    have hst : st = ys := I.elim fun _ h => h.2.2.2.2.1
    subst hst
    have h5 : (500 : Int32) ≤ nI j := nI_le (a := 500) (by omega) (by omega)
    refine ⟨st, _, _, I, fun post h => ?_, fun post h => ?_⟩
    · rw [wX_run_2]; exact br_t h5 h
    · rw [wY_run_2]; exact br_t h5 h
  | succ d ih =>
    intro j hj rg pq wd st ca iv op rd rs rt im he wa ct dt M V R F ym ys yw yi TG BS LN PM OT VY HE OP AU I
    have hst : st = ys := I.elim fun _ h => h.2.2.2.2.1
    subst hst
    have h5 : ¬ (500 : Int32) ≤ nI j := nI_ge (b := 500) (by omega) (by omega)
    by_cases hz : x1 ≤ nI j ∨ ¬ st = 0
    · refine ⟨st, _, _, I, fun post h => ?_, fun post h => ty_idle h (d + 1) j hj hz⟩
      rw [wX_run_2]
      refine br_f h5 (br_c (fun _ => h) (fun z => br_f (hz.resolve_left z) h))
    · have z1 : ¬ x1 ≤ nI j := fun z => hz (Or.inl z)
      have z2 : st = 0 := Classical.byContradiction fun z => hz (Or.inr z)
      obtain ⟨u', v', I', hx, hy⟩ := tm_step I
      obtain ⟨rg', pq', wd', st', ca', iv', op', rd', rs', rt', im', he', wa', ct', dt', M', V', R', F'⟩ := u'
      obtain ⟨ym', ys', yw', yi', TG', BS', LN', PM', OT', VY', HE', OP', AU'⟩ := v'
      obtain ⟨r, u2, v2, I2, hx2, hy2⟩ := ih (j + 1) (by omega) I'
      refine ⟨r, u2, v2, I2, fun post h => ?_, fun post h => ?_⟩
      · rw [wX_run_2]
        exact br_f h5 (br_f z1 (br_t z2 (hx _ (nm_r (nI_1 j) (hx2 post h)))))
      · rw [wY_run_2]
        exact br_f h5 (br_f z1 (br_t z2 (hy _ (nm_r (nI_1 j) (hy2 post h)))))
end
section
/-! poke, put, setReg, boot, the constructors, the fields -/
section
variable {rg pq wd st ca iv op rd rs rt im : Int32} {he wa : Int64} {ct dt : Int32} {M V R F : Nat → Int32} {m : Nat}
theorem tx_addr0 {post : Int32 → Prop} {x : Int32} (h : x < 0 ∨ nI m ≤ x) (hp : post 0) : wpX_isAddress post (rg, pq, nI m, st, ca, iv, op, rd, rs, rt, im, he, wa, ct, dt, M, V, R, F) x := br_c (fun _ => hp) (fun z => br_t (h.resolve_left z) hp)
theorem tx_addr1 {post : Int32 → Prop} {j : Nat} (hm : m ≤ 32) (hj : j < m) (hp : post 1) : wpX_isAddress post (rg, pq, nI m, st, ca, iv, op, rd, rs, rt, im, he, wa, ct, dt, M, V, R, F) (nI j) := br_f (nI_pos (by omega)) (br_f (nI_ge hj (by omega)) hp)
end
theorem ty_addr0 {A B : Prop} {m : Nat} {x : Int32} (h : x < 0 ∨ nI m ≤ x) (a : A) : (x < 0 → A) ∧ (¬ x < 0 → ((x < nI m → B) ∧ (¬ x < nI m → A))) := br_c (fun _ => a) (fun z => br_f (Int32.not_lt.mpr (h.resolve_left z)) a)
theorem ty_addr1 {A B : Prop} {m j : Nat} (hm : m ≤ 32) (hj : j < m) (b : B) : (nI j < 0 → A) ∧ (¬ nI j < 0 → ((nI j < nI m → B) ∧ (¬ nI j < nI m → A))) := br_f (nI_pos (by omega)) (br_t (nI_lt hj (by omega)) b)
theorem tm_ad {m : Nat} (hm : m ≤ 32) (x : Int32) : (x < 0 ∨ nI m ≤ x) ∨ ∃ j : Nat, j < m ∧ x = nI j := by
  rcases pk_ix x (n := m) (by omega) with h | h | h
  · exact Or.inl (Or.inl h)
  · exact Or.inl (Or.inr h)
  · exact Or.inr h
theorem tm_poke {u : SX} {v : SY} (I : tm_Rel u v) (a b : Int32) : ∃ (r : Int32) (u' : SX) (v' : SY), (r = 0 ∨ r = 1) ∧ tm_Rel u' v' ∧ (∀ post : Int32 → SX → Prop, post r u' → wpX_poke post u a b) ∧ (∀ post : Int32 → SY → Prop, post r v' → wpY_poke post v a b) := by
  refine tm_el (P := fun u v => ∃ (r : Int32) (u' : SX) (v' : SY), (r = 0 ∨ r = 1) ∧ tm_Rel u' v' ∧ (∀ post : Int32 → SX → Prop, post r u' → wpX_poke post u a b) ∧ (∀ post : Int32 → SY → Prop, post r v' → wpY_poke post v a b)) ?_ I
  intro rg pq wd st ca iv op rd rs rt im he wa ct dt M V R F ym ys yw yi TG BS LN PM OT VY HE OP AU m hr
  obtain ⟨h16, hm, rfl, rfl, rfl, rfl, rfl, hR, hF⟩ := hr
  rcases tm_ad hm a with h | ⟨j, hj, rfl⟩
  · refine ⟨0, (rg, pq, nI m, st, ca, iv, op, rd, rs, rt, im, he, wa, ct, dt, M, V, R, F), (nI m, st, ca, iv, TG, BS, LN, PM, OT, VY, HE, OP, AU), Or.inl rfl, tm_rel_mk ⟨h16, hm, rfl, rfl, rfl, rfl, rfl, hR, hF⟩, fun post hp => ?_, fun post hp => ?_⟩
    · unfold wpX_poke
      exact tx_addr0 h (br_t rfl hp)
    · unfold wpY_poke
      exact ty_addr0 h hp
  · have hrl := tm_rlu hR (j := 9 + j) (by omega) (by rw [tm_sl_hi]; exact Or.inl hj) (tm_rw0 m b)
    rw [tm_sl_hi] at hrl
    refine ⟨1, (rg, pq, nI m, st, ca, iv, op, rd, rs, rt, im, he, wa, ct, dt, upd M j 0, upd V j b, R, tm_F0 F), (nI m, st, ca, iv, upd TG (9 + j) 0, upd BS (9 + j) 0, upd LN (9 + j) 0, upd PM (9 + j) 0, upd OT (9 + j) (-1), upd VY (9 + j) b, HE, OP, AU), Or.inr rfl, tm_rel_mk ⟨h16, hm, rfl, rfl, rfl, rfl, rfl, hrl, fun kd hk => Or.inl (tm_F0z F hk)⟩, fun post hp => ?_, fun post hp => ?_⟩
    · unfold wpX_poke
      exact tx_addr1 hm hj (br_f tm_d10 (tx_setInt (by omega) (tx_invalidate hp)))
    · unfold wpY_poke
      refine ty_addr1 hm hj ?_
      rw [show (9 : Int32) + nI j = nI (9 + j) from nI_add 9 j]
      exact ty_setInt (by omega) hp
theorem tm_n7 : (7 : Int32).toInt = (7 : Nat) := by decide
theorem tm_n8 : (8 : Int32).toInt = (8 : Nat) := by decide
theorem tm_setReg {u : SX} {v : SY} (I : tm_Rel u v) (a b : Int32) : ∃ (r : Int32) (u' : SX) (v' : SY), tm_Rel u' v' ∧ (∀ post : Int32 → SX → Prop, post r u' → wpX_setReg post u a b) ∧ (∀ post : Int32 → SY → Prop, post r v' → wpY_setReg post v a b) := by
  refine tm_el (P := fun u v => ∃ (r : Int32) (u' : SX) (v' : SY), tm_Rel u' v' ∧ (∀ post : Int32 → SX → Prop, post r u' → wpX_setReg post u a b) ∧ (∀ post : Int32 → SY → Prop, post r v' → wpY_setReg post v a b)) ?_ I
  intro rg pq wd st ca iv op rd rs rt im he wa ct dt M V R F ym ys yw yi TG BS LN PM OT VY HE OP AU m hr
  obtain ⟨h16, hm, rfl, rfl, rfl, rfl, rfl, hR, hF⟩ := hr
  by_cases h : a < 0 ∨ ¬ a ≤ 7
  · refine ⟨0, (rg, pq, nI m, st, ca, iv, op, rd, rs, rt, im, he, wa, ct, dt, M, V, R, F), (nI m, st, ca, iv, TG, BS, LN, PM, OT, VY, HE, OP, AU), tm_rel_mk ⟨h16, hm, rfl, rfl, rfl, rfl, rfl, hR, hF⟩, fun post hp => ?_, fun post hp => ?_⟩
    · unfold wpX_setReg
      exact br_c (fun _ => hp) (fun z => br_f (h.resolve_left z) hp)
    · unfold wpY_setReg
      exact br_c (fun _ => hp) (fun z => br_f (h.resolve_left z) hp)
  · have h0 : ¬ a < 0 := fun z => h (Or.inl z)
    have h7 : a ≤ 7 := Classical.byContradiction fun z => h (Or.inr z)
    obtain ⟨j, hj, rfl⟩ := nI_of2 tm_n7 h0 h7
    have hrl := tm_rlu hR (j := j) (by omega) (by rw [tm_sl_lo (by omega)]; exact Or.inr (by omega)) (tm_rw0 m b)
    rw [tm_sl_lo (by omega)] at hrl
    refine ⟨1, (rg, pq, nI m, st, ca, iv, op, rd, rs, rt, im, he, wa, ct, dt, upd M (32 + j) 0, upd V (32 + j) b, R, tm_F0 F), (nI m, st, ca, iv, upd TG j 0, upd BS j 0, upd LN j 0, upd PM j 0, upd OT j (-1), upd VY j b, HE, OP, AU), tm_rel_mk ⟨h16, hm, rfl, rfl, rfl, rfl, rfl, hrl, fun kd hk => Or.inl (tm_F0z F hk)⟩, fun post hp => ?_, fun post hp => ?_⟩
    · unfold wpX_setReg
      refine br_f h0 (br_t h7 ?_)
      rw [tm_32]
      exact tx_setInt (by omega) (tx_invalidate hp)
    · unfold wpY_setReg
      exact br_f h0 (br_t h7 (ty_setInt (by omega) hp))
/-! boot -/
section
variable {rg pq st ca iv op rd rs rt im : Int32} {he wa : Int64} {ct dt : Int32} {R F : Nat → Int32} {m : Nat}
theorem tx_bl {post : Int32 → SX → Prop} {x1 : Int32} (hm : m ≤ 32) : ∀ d j : Nat, j + d = 7 → ∀ M V : Nat → Int32, (∀ M' V' : Nat → Int32, (∀ s, M' s = if 33 + j ≤ s ∧ s < 40 then 0 else M s) → (∀ s, V' s = if 33 + j ≤ s ∧ s < 40 then 0 else V s) → post 1 (rg, pq, nI m, 0, 0, iv, op, rd, rs, rt, im, he, wa, ct, dt, upd (upd M' 32 (nI (tm_pk 1 0 m 255 0))) 40 (nI (tm_pk 1 0 m 17 0)), upd (upd V' 32 0) 40 x1, R, tm_F0 F)) → wX_boot_13 post x1 (d + 1) (nI (33 + j)) rg pq (nI m) st ca iv op rd rs rt im he wa ct dt M V R F := by
  intro d
  induction d with
  | zero =>
    intro j hj M V h
    rw [wX_boot_13]
    refine br_t (nI_le (a := 40) (by omega) (by omega)) (nm_e ?_)
    rw [tm_w255 m (by omega), tm_w17 m (by omega)]
    refine tx_setWord (s := 32) (by omega) ?_
    refine tx_setWord (s := 40) (by omega) ?_
    refine tx_invalidate ?_
    exact h M V (fun s => by rw [if_neg (by omega)]) (fun s => by rw [if_neg (by omega)])
  | succ d ih =>
    intro j hj M V h
    rw [wX_boot_13]
    refine br_f (nI_ge (b := 40) (by omega) (by omega)) ?_
    refine tx_setInt (by omega) ?_
    refine nm_r (nI_1 (33 + j)) ?_
    refine ih (j + 1) (by omega) _ _ (fun M' V' hM hV => h M' V' (fun s => ?_) (fun s => ?_))
    · rw [hM]
      by_cases e : s = 33 + j
      · subst e
        rw [if_neg (by omega), pk_us, if_pos (by omega)]
      · rw [pk_un e]
        by_cases e2 : 33 + j ≤ s ∧ s < 40
        · rw [if_pos (by omega), if_pos e2]
        · rw [if_neg (by omega), if_neg e2]
    · rw [hV]
      by_cases e : s = 33 + j
      · subst e
        rw [if_neg (by omega), pk_us, if_pos (by omega)]
      · rw [pk_un e]
        by_cases e2 : 33 + j ≤ s ∧ s < 40
        · rw [if_pos (by omega), if_pos e2]
        · rw [if_neg (by omega), if_neg e2]
end
theorem tm_ifu (f g : Nat → Int32) (c : Int32) (a b j : Nat) (hj : a ≤ j ∧ j < b) (h : ∀ s, g s = if j + 1 ≤ s ∧ s < b then c else upd f j c s) : ∀ s, g s = if j ≤ s ∧ s < b then c else f s := by
  intro s
  rw [h]
  by_cases e : s = j
  · subst e
    rw [if_neg (by omega), pk_us, if_pos (by omega)]
  · rw [pk_un e]
    by_cases e2 : j ≤ s ∧ s < b
    · rw [if_pos (by omega), if_pos e2]
    · rw [if_neg (by omega), if_neg e2]
section
variable {ys yw yi : Int32} {HE OP AU : Nat → Int32} {m : Nat}
theorem ty_bl {post : Int32 → SY → Prop} {x1 : Int32} : ∀ d j : Nat, j + d = 8 → ∀ TG BS LN PM OT VY : Nat → Int32, (∀ TG' BS' LN' PM' OT' VY' : Nat → Int32, (∀ s, TG' s = if j ≤ s ∧ s < 8 then 0 else TG s) → (∀ s, BS' s = if j ≤ s ∧ s < 8 then 0 else BS s) → (∀ s, LN' s = if j ≤ s ∧ s < 8 then 0 else LN s) → (∀ s, PM' s = if j ≤ s ∧ s < 8 then 0 else PM s) → (∀ s, OT' s = if j ≤ s ∧ s < 8 then (-1) else OT s) → (∀ s, VY' s = if j ≤ s ∧ s < 8 then 0 else VY s) → post 1 (nI m, 0, 0, yi, upd TG' 8 1, upd BS' 8 0, upd LN' 8 (nI m), upd PM' 8 17, upd OT' 8 (-1), upd VY' 8 x1, HE, OP, AU)) → wY_boot_25 post x1 (d + 1) (nI j) (nI m) ys yw yi TG BS LN PM OT VY HE OP AU := by
  intro d
  induction d with
  | zero =>
    intro j hj TG BS LN PM OT VY h
    rw [wY_boot_25]
    refine br_t (nI_le (a := 8) (by omega) (by omega)) ?_
    refine ty_setCap (i := 8) (by omega) ?_
    exact h TG BS LN PM OT VY (fun s => by rw [if_neg (by omega)]) (fun s => by rw [if_neg (by omega)]) (fun s => by rw [if_neg (by omega)]) (fun s => by rw [if_neg (by omega)]) (fun s => by rw [if_neg (by omega)]) (fun s => by rw [if_neg (by omega)])
  | succ d ih =>
    intro j hj TG BS LN PM OT VY h
    rw [wY_boot_25]
    refine br_f (nI_ge (b := 8) (by omega) (by omega)) ?_
    refine ty_setInt (by omega) ?_
    refine nm_r (nI_1 j) ?_
    refine ih (j + 1) (by omega) _ _ _ _ _ _ (fun TG' BS' LN' PM' OT' VY' h1 h2 h3 h4 h5 h6 => h TG' BS' LN' PM' OT' VY' (tm_ifu TG TG' 0 0 8 j (by omega) h1) (tm_ifu BS BS' 0 0 8 j (by omega) h2) (tm_ifu LN LN' 0 0 8 j (by omega) h3) (tm_ifu PM PM' 0 0 8 j (by omega) h4) (tm_ifu OT OT' (-1) 0 8 j (by omega) h5) (tm_ifu VY VY' 0 0 8 j (by omega) h6))
end
theorem tm_rw255 {m : Nat} (hm : m ≤ 32) (v : Int32) : tm_RW m (nI (tm_pk 1 0 m 255 0)) v 1 0 (nI m) 255 (-1) v := by
  obtain ⟨h1, h2, h3, h4, h5⟩ : _ ∧ _ ∧ _ ∧ _ ∧ _ := ⟨tm_tg_pk (q := 1) (b := 0) (l := m) (p := 255) (t := 0) (by omega) (by omega) (by omega) (by omega) (by omega), tm_bs_pk (q := 1) (b := 0) (l := m) (p := 255) (t := 0) (by omega) (by omega) (by omega) (by omega) (by omega), tm_ln_pk (q := 1) (b := 0) (l := m) (p := 255) (t := 0) (by omega) (by omega) (by omega) (by omega) (by omega), tm_pm_pk (q := 1) (b := 0) (l := m) (p := 255) (t := 0) (by omega) (by omega) (by omega) (by omega) (by omega), tm_ot_pk (q := 1) (b := 0) (l := m) (p := 255) (t := 0) (by omega) (by omega) (by omega) (by omega) (by omega)⟩
  exact ⟨⟨1, 0, m, 255, 0, by omega, by omega, by omega, by omega, fun z => absurd z (by decide), rfl⟩, h1.symm, h2.symm, h3.symm, h4.symm, (h5.trans tm_nm1).symm, rfl⟩
theorem tm_rw17 {m : Nat} (hm : m ≤ 32) (v : Int32) : tm_RW m (nI (tm_pk 1 0 m 17 0)) v 1 0 (nI m) 17 (-1) v := by
  obtain ⟨h1, h2, h3, h4, h5⟩ : _ ∧ _ ∧ _ ∧ _ ∧ _ := ⟨tm_tg_pk (q := 1) (b := 0) (l := m) (p := 17) (t := 0) (by omega) (by omega) (by omega) (by omega) (by omega), tm_bs_pk (q := 1) (b := 0) (l := m) (p := 17) (t := 0) (by omega) (by omega) (by omega) (by omega) (by omega), tm_ln_pk (q := 1) (b := 0) (l := m) (p := 17) (t := 0) (by omega) (by omega) (by omega) (by omega) (by omega), tm_pm_pk (q := 1) (b := 0) (l := m) (p := 17) (t := 0) (by omega) (by omega) (by omega) (by omega) (by omega), tm_ot_pk (q := 1) (b := 0) (l := m) (p := 17) (t := 0) (by omega) (by omega) (by omega) (by omega) (by omega)⟩
  exact ⟨⟨1, 0, m, 17, 0, by omega, by omega, by omega, by omega, fun z => absurd z (by decide), rfl⟩, h1.symm, h2.symm, h3.symm, h4.symm, (h5.trans tm_nm1).symm, rfl⟩
def tm_z (a b : Nat) (c : Int32) (f : Nat → Int32) : Nat → Int32 := fun s => if a ≤ s ∧ s < b then c else f s
theorem tm_z1 {a b : Nat} {c : Int32} {f : Nat → Int32} {s : Nat} (h : a ≤ s ∧ s < b) : tm_z a b c f s = c := if_pos h
theorem tm_z0 {a b : Nat} {c : Int32} {f : Nat → Int32} {s : Nat} (h : ¬ (a ≤ s ∧ s < b)) : tm_z a b c f s = f s := if_neg h
theorem tm_rlb {m : Nat} {M V TG BS LN PM OT VY : Nat → Int32} (hm : m ≤ 32) (hR : tm_RL m M V TG BS LN PM OT VY) (e : Int32) : tm_RL m (upd (upd (tm_z 33 40 0 M) 32 (nI (tm_pk 1 0 m 255 0))) 40 (nI (tm_pk 1 0 m 17 0))) (upd (upd (tm_z 33 40 0 V) 32 0) 40 e) (upd (tm_z 1 8 0 (upd TG 0 1)) 8 1) (upd (tm_z 1 8 0 (upd BS 0 0)) 8 0) (upd (tm_z 1 8 0 (upd LN 0 (nI m))) 8 (nI m)) (upd (tm_z 1 8 0 (upd PM 0 255)) 8 17) (upd (tm_z 1 8 (-1) (upd OT 0 (-1))) 8 (-1)) (upd (tm_z 1 8 0 (upd VY 0 0)) 8 e) := by
  refine ⟨fun i hi => ?_, fun s h1 h2 => ?_⟩
  · by_cases h0 : i = 0
    · subst h0
      rw [show tm_sl 0 = 32 from rfl, pk_un (show (32 : Nat) ≠ 40 by decide), pk_us, pk_un (show (32 : Nat) ≠ 40 by decide), pk_us]
      have n8 : (0 : Nat) ≠ 8 := by decide
      have nz : ¬ (1 ≤ 0 ∧ 0 < 8) := by decide
      rw [pk_un n8, pk_un n8, pk_un n8, pk_un n8, pk_un n8, pk_un n8, tm_z0 nz, tm_z0 nz, tm_z0 nz, tm_z0 nz, tm_z0 nz, tm_z0 nz, pk_us, pk_us, pk_us, pk_us, pk_us, pk_us]
      exact tm_rw255 hm 0
    by_cases h8 : i = 8
    · subst h8
      rw [show tm_sl 8 = 40 from rfl, pk_us, pk_us, pk_us, pk_us, pk_us, pk_us, pk_us, pk_us]
      exact tm_rw17 hm e
    by_cases h9 : i < 9
    · have hz : 1 ≤ i ∧ i < 8 := by omega
      have hz2 : 33 ≤ 32 + i ∧ 32 + i < 40 := by omega
      rw [tm_sl_lo h9, pk_un (show 32 + i ≠ 40 by omega), pk_un (show 32 + i ≠ 32 by omega), tm_z1 hz2, pk_un (show 32 + i ≠ 40 by omega), pk_un (show 32 + i ≠ 32 by omega), tm_z1 hz2]
      rw [pk_un h8, pk_un h8, pk_un h8, pk_un h8, pk_un h8, pk_un h8, tm_z1 hz, tm_z1 hz, tm_z1 hz, tm_z1 hz, tm_z1 hz, tm_z1 hz]
      exact tm_rw0 m 0
    · have hs : tm_sl i < 32 := by unfold tm_sl; rw [if_neg h9]; omega
      have hz : ¬ (1 ≤ i ∧ i < 8) := by omega
      have hz2 : ¬ (33 ≤ tm_sl i ∧ tm_sl i < 40) := by omega
      rw [pk_un (show tm_sl i ≠ 40 by omega), pk_un (show tm_sl i ≠ 32 by omega), tm_z0 hz2, pk_un (show tm_sl i ≠ 40 by omega), pk_un (show tm_sl i ≠ 32 by omega), tm_z0 hz2]
      rw [pk_un h8, pk_un h8, pk_un h8, pk_un h8, pk_un h8, pk_un h8, tm_z0 hz, tm_z0 hz, tm_z0 hz, tm_z0 hz, tm_z0 hz, tm_z0 hz, pk_un h0, pk_un h0, pk_un h0, pk_un h0, pk_un h0, pk_un h0]
      exact hR.1 i hi
  · rw [pk_un (by omega), pk_un (by omega), tm_z0 (by omega)]
    exact hR.2 s h1 h2
theorem tm_boot {u : SX} {v : SY} (I : tm_Rel u v) (a : Int32) : ∃ (r : Int32) (u' : SX) (v' : SY), tm_Rel u' v' ∧ (∀ post : Int32 → SX → Prop, post r u' → wpX_boot post u a) ∧ (∀ post : Int32 → SY → Prop, post r v' → wpY_boot post v a) := by
  refine tm_el (P := fun u v => ∃ (r : Int32) (u' : SX) (v' : SY), tm_Rel u' v' ∧ (∀ post : Int32 → SX → Prop, post r u' → wpX_boot post u a) ∧ (∀ post : Int32 → SY → Prop, post r v' → wpY_boot post v a)) ?_ I
  intro rg pq wd st ca iv op rd rs rt im he wa ct dt M V R F ym ys yw yi TG BS LN PM OT VY HE OP AU m hr
  obtain ⟨h16, hm, rfl, rfl, rfl, rfl, rfl, hR, hF⟩ := hr
  rcases tm_ad hm a with h | ⟨j, hj, rfl⟩
  · refine ⟨0, (rg, pq, nI m, st, ca, iv, op, rd, rs, rt, im, he, wa, ct, dt, M, V, R, F), (nI m, st, ca, iv, TG, BS, LN, PM, OT, VY, HE, OP, AU), tm_rel_mk ⟨h16, hm, rfl, rfl, rfl, rfl, rfl, hR, hF⟩, fun post hp => ?_, fun post hp => ?_⟩
    · unfold wpX_boot
      exact tx_addr0 h (br_t rfl hp)
    · unfold wpY_boot
      exact ty_addr0 h hp
  · refine ⟨1, (rg, pq, nI m, 0, 0, iv, op, rd, rs, rt, im, he, wa, ct, dt, upd (upd (tm_z 33 40 0 M) 32 (nI (tm_pk 1 0 m 255 0))) 40 (nI (tm_pk 1 0 m 17 0)), upd (upd (tm_z 33 40 0 V) 32 0) 40 (nI j), R, tm_F0 F), (nI m, 0, 0, iv, upd (tm_z 1 8 0 (upd TG 0 1)) 8 1, upd (tm_z 1 8 0 (upd BS 0 0)) 8 0, upd (tm_z 1 8 0 (upd LN 0 (nI m))) 8 (nI m), upd (tm_z 1 8 0 (upd PM 0 255)) 8 17, upd (tm_z 1 8 (-1) (upd OT 0 (-1))) 8 (-1), upd (tm_z 1 8 0 (upd VY 0 0)) 8 (nI j), HE, OP, AU), tm_rel_mk ⟨h16, hm, rfl, rfl, rfl, rfl, rfl, tm_rlb hm hR (nI j), fun kd hk => Or.inl (tm_F0z F hk)⟩, fun post hp => ?_, fun post hp => ?_⟩
    · unfold wpX_boot
      refine tx_addr1 hm hj (br_f tm_d10 ⟨8, tx_bl hm 7 0 rfl M V (fun M' V' hM hV => ?_)⟩)
      have eM : M' = tm_z 33 40 0 M := funext hM
      have eV : V' = tm_z 33 40 0 V := funext hV
      rw [eM, eV]
      exact hp
    · unfold wpY_boot
      refine ty_addr1 hm hj ?_
      refine ty_setCap (i := 0) (by omega) ?_
      refine ⟨8, ty_bl 7 1 rfl _ _ _ _ _ _ (fun TG' BS' LN' PM' OT' VY' h1 h2 h3 h4 h5 h6 => ?_)⟩
      have e1 : TG' = tm_z 1 8 0 (upd TG 0 1) := funext h1
      have e2 : BS' = tm_z 1 8 0 (upd BS 0 0) := funext h2
      have e3 : LN' = tm_z 1 8 0 (upd LN 0 (nI m)) := funext h3
      have e4 : PM' = tm_z 1 8 0 (upd PM 0 255) := funext h4
      have e5 : OT' = tm_z 1 8 (-1) (upd OT 0 (-1)) := funext h5
      have e6 : VY' = tm_z 1 8 0 (upd VY 0 0) := funext h6
      rw [e1, e2, e3, e4, e5, e6]
      exact hp
/-! the constructors -/
theorem tm_uz (j : Nat) : upd (fun _ => 0) j 0 = fun _ => 0 := by
  funext k
  by_cases e : k = j
  · subst e; exact pk_us
  · exact pk_un e
theorem ty_il {m ys yw yi : Int32} {HE OP AU : Nat → Int32} {post : SY → Prop} (h : wpY_boot (fun _ v => post v) (m, ys, yw, yi, (fun _ => 0), (fun _ => 0), (fun _ => 0), (fun _ => 0), tm_z 0 41 (-1) (fun _ => 0), (fun _ => 0), HE, OP, AU) 0) : ∀ d j : Nat, j + d = 41 → wY_init_105 post (d + 1) (nI j) m ys yw yi (fun _ => 0) (fun _ => 0) (fun _ => 0) (fun _ => 0) (tm_z 0 j (-1) (fun _ => 0)) (fun _ => 0) HE OP AU := by
  intro d
  induction d with
  | zero =>
    intro j hj
    have : j = 41 := by omega
    subst this
    rw [wY_init_105]
    exact br_t (nI_le (a := 41) (by omega) (by omega)) h
  | succ d ih =>
    intro j hj
    rw [wY_init_105]
    refine br_f (nI_ge (b := 41) (by omega) (by omega)) ?_
    refine ty_setInt (by omega) ?_
    refine nm_r (nI_1 j) ?_
    rw [tm_uz]
    have e : upd (tm_z 0 j (-1) (fun _ => 0)) j (-1) = tm_z 0 (j + 1) (-1) (fun _ => 0) := by
      funext k
      by_cases e : k = j
      · subst e; rw [pk_us, tm_z1 (by omega)]
      · rw [pk_un e]
        by_cases e2 : 0 ≤ k ∧ k < j
        · rw [tm_z1 e2, tm_z1 (by omega)]
        · rw [tm_z0 e2, tm_z0 (by omega)]
    rw [e]
    exact ih (j + 1) (by omega)
theorem tm_init (m : Nat) (h16 : 16 ≤ m) (hm : m ≤ 32) : tm_Rel (32, 40, nI m, 0, 0, 0, 0, 0, 0, 0, 0, 0, 0, 0, 0, (fun _ => 0), (fun _ => 0), (fun _ => 0), (fun _ => 0)) (nI m, 0, 0, 0, (fun _ => 0), (fun _ => 0), (fun _ => 0), (fun _ => 0), tm_z 0 41 (-1) (fun _ => 0), (fun _ => 0), (fun _ => 0), (fun _ => 0), (fun _ => 0)) := by
  refine tm_rel_mk ⟨h16, hm, rfl, rfl, rfl, rfl, rfl, ⟨fun i hi => ?_, fun _ _ _ => rfl⟩, fun _ _ => Or.inl rfl⟩
  rw [tm_z1 (by omega)]
  exact tm_rw0 m 0
theorem i_vc0 (k0 : Int32) : wpX_init (fun u => wpY_init (fun v => i_Rel 1 u v) k0) k0 := by
  have hb : ∀ m : Nat, 16 ≤ m → m ≤ 32 → ∃ (r : Int32) (u' : SX) (v' : SY), tm_Rel u' v' ∧ (∀ post : SX → Prop, post u' → wX_init_71 post (nI m) 32 40 0 0 0 0 0 0 0 0 0 0 0 0 0 (fun _ => 0) (fun _ => 0) (fun _ => 0) (fun _ => 0)) ∧ (∀ post : SY → Prop, post v' → ∃ n, wY_init_105 post n 0 (nI m) 0 0 0 (fun _ => 0) (fun _ => 0) (fun _ => 0) (fun _ => 0) (fun _ => 0) (fun _ => 0) (fun _ => 0) (fun _ => 0) (fun _ => 0)) := by
    intro m h16 hm
    obtain ⟨r, u', v', I, hx, hy⟩ := tm_boot (tm_init m h16 hm) 0
    refine ⟨r, u', v', I, fun post h => ?_, fun post h => ⟨42, ?_⟩⟩
    · unfold wX_init_71
      exact hx (fun _ u => post u) h
    · have hz : tm_z 0 0 (-1) (fun _ => 0) = fun _ => 0 := by
        funext k
        exact tm_z0 (by omega)
      have := ty_il (post := post) (hy (fun _ v => post v) h) 41 0 rfl
      rw [hz] at this
      exact this
  by_cases h1 : 16 ≤ k0
  · by_cases h2 : k0 ≤ 32
    · have h0 : ¬ k0 < 0 := fun z => absurd (Int32.lt_of_lt_of_le z (show (0 : Int32) ≤ 16 by decide)) (Int32.not_lt.mpr h1)
      obtain ⟨m, hm, rfl⟩ := nI_of2 (n := 32) (show (32 : Int32).toInt = (32 : Nat) by decide) h0 h2
      have h16 : 16 ≤ m := (nI_leI (a := 16) (by omega) (by omega)).mp h1
      obtain ⟨r, u', v', I, hx, hy⟩ := hb m h16 hm
      refine br_t h1 (br_t h2 (hx _ ?_))
      exact br_t h1 (br_t h2 (hy _ I))
    · obtain ⟨r, u', v', I, hx, hy⟩ := hb 32 (by omega) (by omega)
      refine br_t h1 (br_f h2 (hx _ ?_))
      exact br_t h1 (br_f h2 (hy _ I))
  · obtain ⟨r, u', v', I, hx, hy⟩ := hb 16 (by omega) (by omega)
    refine br_f h1 (hx _ ?_)
    exact br_f h1 (hy _ I)
end
section
/-! revoke -/
def tm_rk (f n : Nat) (x : Int32) : Bool := (!decide (tm_ln x < 1)) && ((!decide (tm_bs x < nI f)) && (!decide (nI f + nI n < tm_bs x + tm_ln x)))
theorem tm_rk_iff {f n : Nat} {x : Int32} : tm_rk f n x = true ↔ ¬ tm_ln x < 1 ∧ ¬ tm_bs x < nI f ∧ ¬ nI f + nI n < tm_bs x + tm_ln x := by
  unfold tm_rk
  simp
theorem tm_rk_nat {f n b l : Nat} {x : Int32} (eb : tm_bs x = nI b) (el : tm_ln x = nI l) (hb : b + l ≤ 32) (hf : f + n ≤ 32) : tm_rk f n x = true ↔ 1 ≤ l ∧ f ≤ b ∧ b + l ≤ f + n := by
  rw [tm_rk_iff, eb, el, nI_add, nI_add, nI_ltI (by omega) (by omega), nI_ltI (by omega) (by omega), show (1 : Int32) = nI 1 from rfl, nI_ltI (by omega) (by omega)]
  omega
theorem tm_rk0 (f n : Nat) : tm_rk f n 0 = false := by
  unfold tm_rk
  rw [tm_ln0, decide_eq_true (show (0 : Int32) < 1 by decide)]
  rfl
def tm_qv (Q : Nat → Bool) (c : Int32) (A : Nat → Int32) (j : Nat) : Nat → Int32 := fun i => if i < j ∧ Q i = true then c else A i
theorem tm_qv1 {Q : Nat → Bool} {c : Int32} {A : Nat → Int32} {i j : Nat} (h : i < j ∧ Q i = true) : tm_qv Q c A j i = c := if_pos h
theorem tm_qv0 {Q : Nat → Bool} {c : Int32} {A : Nat → Int32} {i j : Nat} (h : ¬ (i < j ∧ Q i = true)) : tm_qv Q c A j i = A i := if_neg h
theorem tm_qva {Q : Nat → Bool} {c : Int32} {A : Nat → Int32} (j : Nat) : tm_qv Q c A j j = A j := tm_qv0 (fun z => Nat.lt_irrefl _ z.1)
theorem tm_qvs {Q : Nat → Bool} {c : Int32} {A : Nat → Int32} {j : Nat} (h : Q j = true) : upd (tm_qv Q c A j) j c = tm_qv Q c A (j + 1) := by
  funext i
  by_cases e : i = j
  · subst e; rw [pk_us, tm_qv1 ⟨by omega, h⟩]
  · rw [pk_un e]
    by_cases z : i < j ∧ Q i = true
    · rw [tm_qv1 z, tm_qv1 ⟨by omega, z.2⟩]
    · rw [tm_qv0 z, tm_qv0 (fun y => z ⟨by omega, y.2⟩)]
theorem tm_qvn {Q : Nat → Bool} {c : Int32} {A : Nat → Int32} {j : Nat} (h : ¬ Q j = true) : tm_qv Q c A j = tm_qv Q c A (j + 1) := by
  funext i
  by_cases z : i < j ∧ Q i = true
  · rw [tm_qv1 z, tm_qv1 ⟨by omega, z.2⟩]
  · rw [tm_qv0 z, tm_qv0 (fun y => z ⟨by have : i ≠ j := fun e => h (e ▸ y.2); omega, y.2⟩)]
theorem tm_qvz (Q : Nat → Bool) (c : Int32) (A : Nat → Int32) : tm_qv Q c A 0 = A := by
  funext i
  exact tm_qv0 (by omega)
theorem tm_cs (P : Nat → Prop) (a : Nat) : ∀ b, cn P (a + b) = cn P a + cn (fun i => P (a + i)) b
  | 0 => rfl
  | b + 1 => by
    have h := tm_cs P a b
    rw [show a + (b + 1) = (a + b) + 1 from rfl]
    simp only [cn]
    rw [h]
    omega
theorem tm_c0 {P : Nat → Prop} : ∀ n, (∀ i, i < n → ¬ P i) → cn P n = 0
  | 0, _ => rfl
  | n + 1, h => by
    simp only [cn]
    rw [tm_c0 n (fun i hi => h i (by omega)), b01_f (h n (by omega))]
theorem tm_cle {P : Nat → Prop} {a b : Nat} (h : a ≤ b) : cn P a ≤ cn P b := by
  obtain ⟨c, rfl⟩ : ∃ c, b = a + c := ⟨b - a, by omega⟩
  rw [tm_cs]
  omega
section
variable {rg pq wd st ca iv op rd rs rt im : Int32} {he wa : Int64} {ct dt : Int32} {M V R F : Nat → Int32}
theorem tx_rangeOf {post : Int32 → Prop} {x : Int32} {b l : Nat} (eb : tm_bs x = nI b) (el : tm_ln x = nI l) (hb : b + l ≤ 32) (h : ∀ r, (∀ i, i < 32 → bt r i = decide (b ≤ i ∧ i < b + l)) → post r) : wpX_rangeOf post (rg, pq, wd, st, ca, iv, op, rd, rs, rt, im, he, wa, ct, dt, M, V, R, F) x := by
  unfold tm_bs at eb
  unfold tm_ln at el
  unfold wpX_rangeOf wpX_baseOf wpX_lengthOf
  dsimp only
  rw [eb, el]
  refine br_c (fun z => h _ (fun i hi => ?_)) (fun z => h 0 (fun i hi => ?_))
  · have h0 : 0 < l := (nI_ltI (a := 0) (by omega) (by omega)).mp z
    exact tm_span h0 hb hi
  · have h0 : ¬ 0 < l := fun y => z ((nI_ltI (a := 0) (by omega) (by omega)).mpr y)
    rw [b_0, decide_eq_false (by omega)]
end
/-- the two tests of a range against what lies outside -/
theorem tm_r0 {r : Int32} {b l : Nat} (hb : b + l ≤ 32) (h : ∀ i, i < 32 → bt r i = decide (b ≤ i ∧ i < b + l)) : r = 0 ↔ l = 0 := by
  constructor
  · intro e
    subst e
    by_cases z : l = 0
    · exact z
    · have := h b (by omega)
      rw [b_0, decide_eq_true (by omega)] at this
      exact absurd this (by decide)
  · intro e
    apply b_ext
    intro i hi
    rw [h i hi, b_0, decide_eq_false (by omega)]
theorem tm_r1 {r o : Int32} {b l f n : Nat} (hb : b + l ≤ 32) (h0 : 1 ≤ l) (h : ∀ i, i < 32 → bt r i = decide (b ≤ i ∧ i < b + l)) (ho : ∀ i, i < 32 → bt o i = decide (f ≤ i ∧ i < f + n)) : r &&& (o ^^^ (-1)) = 0 ↔ f ≤ b ∧ b + l ≤ f + n := by
  have hk : ∀ i, i < 32 → bt (r &&& (o ^^^ (-1))) i = (decide (b ≤ i ∧ i < b + l) && !decide (f ≤ i ∧ i < f + n)) := by
    intro i hi
    rw [b_and, b_xor, h i hi, ho i hi, b_m1 i hi]
    cases decide (f ≤ i ∧ i < f + n) <;> rfl
  constructor
  · intro e
    have h1 := hk b (by omega)
    have h2 := hk (b + l - 1) (by omega)
    rw [e, b_0, decide_eq_true (by omega), Bool.true_and] at h1 h2
    have g1 : f ≤ b ∧ b < f + n := by
      by_cases z : f ≤ b ∧ b < f + n
      · exact z
      · rw [decide_eq_false z] at h1; exact absurd h1 (by decide)
    have g2 : f ≤ b + l - 1 ∧ b + l - 1 < f + n := by
      by_cases z : f ≤ b + l - 1 ∧ b + l - 1 < f + n
      · exact z
      · rw [decide_eq_false z] at h2; exact absurd h2 (by decide)
    omega
  · intro e
    apply b_ext
    intro i hi
    rw [hk i hi, b_0]
    by_cases z : b ≤ i ∧ i < b + l
    · rw [decide_eq_true z, decide_eq_true (by omega)]; rfl
    · rw [decide_eq_false z]; rfl
section
variable {rg pq wd st ca iv op rd rs rt im : Int32} {he wa : Int64} {ct dt : Int32} {M V R F : Nat → Int32} {m f k : Nat}
theorem tx_rvl {post : Int32 → SX → Prop} {o : Int32} (hm : m ≤ 32) (hw : ∀ s, s < 41 → tm_WF m (M s)) (hf : f + k ≤ 32) (ho : ∀ i, i < 32 → bt o i = decide (f ≤ i ∧ i < f + k)) (h : post (nI (cn (fun s => tm_rk f k (M s) = true) 40)) (rg, pq, wd, st, ca, iv, op, rd, rs, rt, im, he, wa, ct, dt, tm_qv (fun s => tm_rk f k (M s)) 0 M 40, V, R, tm_F0 F)) : ∀ d s : Nat, s + d = 40 → wX_revoke_44 post (o ^^^ (-1)) rg pq wd st ca iv op rd rs rt im he wa ct dt (d + 1) (nI (cn (fun s => tm_rk f k (M s) = true) s)) (nI s) (tm_qv (fun s => tm_rk f k (M s)) 0 M s) V R F := by
  intro d
  induction d with
  | zero =>
    intro s hs
    have : s = 40 := by omega
    subst this
    rw [wX_revoke_44]
    exact br_t (nI_le (a := 40) (by omega) (by omega)) (tx_invalidate h)
  | succ d ih =>
    intro s hs
    rw [wX_revoke_44]
    refine br_f (nI_ge (b := 40) (by omega) (by omega)) (And.intro (vp_in_nI (by omega) (by decide)) ?_)
    rw [nI_clamp (n := s) (by omega), tm_qva]
    obtain ⟨q, b, l, p, t, hq, hb, hp, ht, h0, hx, e1, e2, e3, e4, e5⟩ := tm_wf hm (hw s (by omega))
    have hn := ih (s + 1) (by omega)
    have hc : cn (fun s => tm_rk f k (M s) = true) (s + 1) = cn (fun s => tm_rk f k (M s) = true) s + b01 (tm_rk f k (M s) = true) := rfl
    have hrk := tm_rk_nat e2 e3 (by omega) hf
    refine tx_rangeOf e2 e3 (by omega) (fun r hr => ?_)
    have k0 := tm_r0 (by omega) hr
    by_cases z : tm_rk f k (M s) = true
    · have zn := hrk.mp z
      rw [hc, b01_t z, ← tm_qvs z] at hn
      refine br_f (fun e => by have := k0.mp e; omega) (br_t ((tm_r1 (by omega) zn.1 hr ho).mpr zn.2) (And.intro (vp_in_nI (by omega) (by decide)) ?_))
      exact nm_e (nm_r (nI_1 _) (nm_r (nI_1 _) hn))
    · rw [hc, b01_f z, ← tm_qvn z] at hn
      refine br_c (fun _ => nm_r (nI_1 _) hn) (fun y => br_f (fun e => z (hrk.mpr ?_)) (nm_r (nI_1 _) hn))
      have l1 : 1 ≤ l := by
        have : ¬ l = 0 := fun e => y (k0.mpr e)
        omega
      exact ⟨l1, (tm_r1 (by omega) l1 hr ho).mp e⟩
end
section
variable {ym ys yw yi : Int32} {TG BS LN PM OT VY HE OP AU : Nat → Int32} {m f k : Nat}
theorem ty_rvl {post : Int32 → SY → Prop} {Q : Nat → Bool} (hm : m ≤ 32)
    (hQ : ∀ i, i < 9 + m → (Q i = true ↔ (i ≠ 8 ∧ ¬ TG i = 0 ∧ ¬ LN i < 1 ∧ ¬ BS i < nI f ∧ ¬ nI f + nI k < BS i + LN i)))
    (h : post (nI (cn (fun i => Q i = true) (9 + m))) (nI m, ys, yw, yi, tm_qv Q 0 TG (9 + m), tm_qv Q 0 BS (9 + m), tm_qv Q 0 LN (9 + m), tm_qv Q 0 PM (9 + m), tm_qv Q (-1) OT (9 + m), VY, HE, OP, AU)) : ∀ d j : Nat, j + d = 9 + m → wY_revoke_34 post (nI f) (nI k) (d + 1) (nI (cn (fun i => Q i = true) j)) (nI j) (nI m) ys yw yi (tm_qv Q 0 TG j) (tm_qv Q 0 BS j) (tm_qv Q 0 LN j) (tm_qv Q 0 PM j) (tm_qv Q (-1) OT j) VY HE OP AU := by
  have e9 : (9 : Int32) + nI m = nI (9 + m) := nI_add 9 m
  intro d
  induction d with
  | zero =>
    intro j hj
    have : j = 9 + m := by omega
    subst this
    rw [wY_revoke_34]
    dsimp only
    rw [e9]
    exact br_t (nI_le (by omega) (by omega)) h
  | succ d ih =>
    intro j hj
    have hn := ih (j + 1) (by omega)
    have hin : vp_in (nI j) 41 := vp_in_nI (by omega) (by decide)
    have hc : cn (fun i => Q i = true) (j + 1) = cn (fun i => Q i = true) j + b01 (Q j = true) := rfl
    have hq := hQ j (by omega)
    rw [wY_revoke_34]
    dsimp only
    rw [e9]
    refine br_f (nI_ge (by omega) (by omega)) (And.intro hin ?_)
    rw [nI_clamp (n := j) (by omega), tm_qva, tm_qva]
    by_cases z : Q j = true
    · obtain ⟨z1, z2, z3, z4, z5⟩ := hq.mp z
      rw [hc, b01_t z, ← tm_qvs z, ← tm_qvs z, ← tm_qvs z, ← tm_qvs z, ← tm_qvs z] at hn
      refine br_f z4 (And.intro hin (And.intro hin (br_f z5 ?_)))
      unfold wY_revoke_83
      rw [nI_clamp (n := j) (by omega), tm_qva, tm_qva]
      refine br_f (fun e => z1 ((nI_eq (b := 8) (by omega) (by omega)).mp e)) (And.intro hin (br_f z2 (And.intro hin (br_f z3 (br_f tm_d10 (And.intro hin ?_))))))
      refine ty_setInt (by omega) ?_
      rw [tm_ue]
      exact nm_r (nI_1 _) (nm_r (nI_1 _) hn)
    · rw [hc, b01_f z, ← tm_qvn z, ← tm_qvn z, ← tm_qvn z, ← tm_qvn z, ← tm_qvn z] at hn
      have h83 : ∀ z0 : Int32, (¬ z0 = 0 → ¬ BS j < nI f ∧ ¬ nI f + nI k < BS j + LN j) → wY_revoke_83 post (wY_revoke_34 post (nI f) (nI k) (d + 1)) (nI f) (nI k) (nI (cn (fun i => Q i = true) j)) (nI j) z0 (nI m) ys yw yi (tm_qv Q 0 TG j) (tm_qv Q 0 BS j) (tm_qv Q 0 LN j) (tm_qv Q 0 PM j) (tm_qv Q (-1) OT j) VY HE OP AU := by
        intro z0 hz0
        unfold wY_revoke_83
        rw [nI_clamp (n := j) (by omega), tm_qva, tm_qva]
        refine br_c (fun _ => nm_r (nI_1 _) hn) (fun y1 => And.intro hin (br_c (fun _ => nm_r (nI_1 _) hn) (fun y2 => And.intro hin (br_c (fun _ => nm_r (nI_1 _) hn) (fun y3 => br_c (fun _ => nm_r (nI_1 _) hn) (fun y4 => absurd (hq.mpr ⟨fun e => y1 ?_, y2, y3, hz0 y4⟩) z))))))
        rw [e]; rfl
      refine br_c (fun _ => ?_) (fun y1 => And.intro hin (And.intro hin (br_c (fun _ => ?_) (fun y2 => ?_))))
      · unfold wY_revoke_82
        exact h83 0 (fun y => absurd rfl y)
      · unfold wY_revoke_82
        exact h83 0 (fun y => absurd rfl y)
      · exact h83 1 (fun _ => ⟨y1, y2⟩)
end
def tm_Q (f n : Nat) (M : Nat → Int32) (i : Nat) : Bool := (!decide (i = 8)) && tm_rk f n (M (tm_sl i))
theorem tm_Q_iff {f n : Nat} {M : Nat → Int32} {i : Nat} : tm_Q f n M i = true ↔ i ≠ 8 ∧ tm_rk f n (M (tm_sl i)) = true := by
  unfold tm_Q
  simp
theorem tm_slq {m f n : Nat} {M : Nat → Int32} (hz : ∀ s, m ≤ s → s < 32 → M s = 0) {i : Nat} (hi : i < 41) : (i < 9 + m ∧ tm_Q f n M i = true) ↔ (tm_sl i < 40 ∧ tm_rk f n (M (tm_sl i)) = true) := by
  rw [tm_Q_iff]
  by_cases h9 : i < 9
  · rw [tm_sl_lo h9]
    constructor
    · intro h; exact ⟨by omega, h.2.2⟩
    · intro h; exact ⟨by omega, by omega, h.2⟩
  · obtain ⟨a, rfl⟩ : ∃ a, i = 9 + a := ⟨i - 9, by omega⟩
    rw [tm_sl_hi]
    constructor
    · intro h; exact ⟨by omega, h.2.2⟩
    · intro h
      refine ⟨?_, by omega, h.2⟩
      rcases Nat.lt_or_ge a m with z | z
      · omega
      · rw [hz a z (by omega), tm_rk0] at h
        exact absurd h.2 (by decide)
theorem tm_qq {m f n : Nat} {M A B : Nat → Int32} (hz : ∀ s, m ≤ s → s < 32 → M s = 0) {i : Nat} (hi : i < 41) {c c' : Int32} {g : Int32 → Int32} (hc : c' = g c) (h : B i = g (A (tm_sl i))) : tm_qv (tm_Q f n M) c' B (9 + m) i = g (tm_qv (fun s => tm_rk f n (M s)) c A 40 (tm_sl i)) := by
  by_cases z : i < 9 + m ∧ tm_Q f n M i = true
  · rw [tm_qv1 z, tm_qv1 ((tm_slq hz hi).mp z), hc]
  · rw [tm_qv0 z, tm_qv0 (fun y => z ((tm_slq hz hi).mpr y)), h]
theorem tm_rlr {m f n : Nat} {M V TG BS LN PM OT VY : Nat → Int32} (hR : tm_RL m M V TG BS LN PM OT VY) : tm_RL m (tm_qv (fun s => tm_rk f n (M s)) 0 M 40) V (tm_qv (tm_Q f n M) 0 TG (9 + m)) (tm_qv (tm_Q f n M) 0 BS (9 + m)) (tm_qv (tm_Q f n M) 0 LN (9 + m)) (tm_qv (tm_Q f n M) 0 PM (9 + m)) (tm_qv (tm_Q f n M) (-1) OT (9 + m)) VY := by
  refine ⟨fun i hi => ?_, fun s h1 h2 => ?_⟩
  · obtain ⟨w, e1, e2, e3, e4, e5, e6⟩ := hR.1 i hi
    refine ⟨?_, tm_qq hR.2 hi tm_tg0.symm e1, tm_qq hR.2 hi tm_bs0.symm e2, tm_qq hR.2 hi tm_ln0.symm e3, tm_qq hR.2 hi tm_pm0.symm e4, tm_qq hR.2 hi tm_ot0.symm e5, e6⟩
    by_cases z : tm_sl i < 40 ∧ tm_rk f n (M (tm_sl i)) = true
    · rw [tm_qv1 z]; exact tm_wf0 m
    · rw [tm_qv0 z]; exact w
  · by_cases z : s < 40 ∧ tm_rk f n (M s) = true
    · exact tm_qv1 z
    · rw [tm_qv0 z]; exact hR.2 s h1 h2
theorem tm_rcn {m f n : Nat} {M : Nat → Int32} (hm : m ≤ 32) (hz : ∀ s, m ≤ s → s < 32 → M s = 0) : cn (fun s => tm_rk f n (M s) = true) 40 = cn (fun i => tm_Q f n M i = true) (9 + m) := by
  have a1 := tm_cs (fun s => tm_rk f n (M s) = true) 32 8
  have a2 := tm_cs (fun s => tm_rk f n (M s) = true) m (32 - m)
  rw [show m + (32 - m) = 32 by omega] at a2
  have a3 := tm_c0 (P := fun i => tm_rk f n (M (m + i)) = true) (32 - m) (fun i hi => by
    show ¬ tm_rk f n (M (m + i)) = true
    rw [hz (m + i) (by omega) (by omega), tm_rk0]; decide)
  have b1 := tm_cs (fun i => tm_Q f n M i = true) 9 m
  have b2 : cn (fun i => tm_Q f n M i = true) 9 = cn (fun i => tm_Q f n M i = true) 8 + b01 (tm_Q f n M 8 = true) := rfl
  have b3 : b01 (tm_Q f n M 8 = true) = 0 := b01_f (fun z => absurd rfl (tm_Q_iff.mp z).1)
  have b4 : cn (fun i => tm_Q f n M i = true) 8 = cn (fun i => tm_rk f n (M (32 + i)) = true) 8 := cn_eq (fun i hi => by
    show tm_Q f n M i = true ↔ tm_rk f n (M (32 + i)) = true
    rw [tm_Q_iff, tm_sl_lo (by omega)]
    exact ⟨fun z => z.2, fun z => ⟨by omega, z⟩⟩)
  have b5 : cn (fun i => tm_Q f n M (9 + i) = true) m = cn (fun s => tm_rk f n (M s) = true) m := cn_eq (fun i hi => by
    show tm_Q f n M (9 + i) = true ↔ tm_rk f n (M i) = true
    rw [tm_Q_iff, tm_sl_hi]
    exact ⟨fun z => z.2, fun z => ⟨by omega, z⟩⟩)
  have a1' : cn (fun s => tm_rk f n (M s) = true) 40 = cn (fun s => tm_rk f n (M s) = true) 32 + cn (fun i => tm_rk f n (M (32 + i)) = true) 8 := a1
  omega
theorem tm_revoke {u : SX} {v : SY} (I : tm_Rel u v) (a b : Int32) : ∃ (r : Int32) (u' : SX) (v' : SY), tm_Rel u' v' ∧ (∀ post : Int32 → SX → Prop, post r u' → wpX_revoke post u a b) ∧ (∀ post : Int32 → SY → Prop, post r v' → wpY_revoke post v a b) := by
  refine tm_el (P := fun u v => ∃ (r : Int32) (u' : SX) (v' : SY), tm_Rel u' v' ∧ (∀ post : Int32 → SX → Prop, post r u' → wpX_revoke post u a b) ∧ (∀ post : Int32 → SY → Prop, post r v' → wpY_revoke post v a b)) ?_ I
  intro rg pq wd st ca iv op rd rs rt im he wa ct dt M V R F ym ys yw yi TG BS LN PM OT VY HE OP AU m hr
  obtain ⟨h16, hm, rfl, rfl, rfl, rfl, rfl, hR, hF⟩ := hr
  by_cases bad : a < 0 ∨ nI m ≤ a ∨ b < 1 ∨ ¬ b ≤ nI m - a
  · refine ⟨-1, (rg, pq, nI m, st, ca, iv, op, rd, rs, rt, im, he, wa, ct, dt, M, V, R, F), (nI m, st, ca, iv, TG, BS, LN, PM, OT, VY, HE, OP, AU), tm_rel_mk ⟨h16, hm, rfl, rfl, rfl, rfl, rfl, hR, hF⟩, fun post hp => ?_, fun post hp => ?_⟩
    · unfold wpX_revoke
      exact br_c (fun _ => hp) (fun z1 => br_c (fun _ => hp) (fun z2 => br_c (fun _ => hp) (fun z3 => br_f (((bad.resolve_left z1).resolve_left z2).resolve_left z3) hp)))
    · unfold wpY_revoke
      exact br_c (fun _ => hp) (fun z1 => br_c (fun _ => hp) (fun z2 => br_c (fun _ => hp) (fun z3 => br_f (((bad.resolve_left z1).resolve_left z2).resolve_left z3) hp)))
  · have z1 : ¬ a < 0 := fun z => bad (Or.inl z)
    have z2 : ¬ nI m ≤ a := fun z => bad (Or.inr (Or.inl z))
    have z3 : ¬ b < 1 := fun z => bad (Or.inr (Or.inr (Or.inl z)))
    have z4 : b ≤ nI m - a := Classical.byContradiction fun z => bad (Or.inr (Or.inr (Or.inr z)))
    obtain ⟨f, hf, rfl⟩ := nI_of z1
    have hf2 : f < m := by
      rcases Nat.lt_or_ge f m with z | z
      · exact z
      · exact absurd (nI_le z hf) z2
    have hb0 : ¬ b < 0 := fun z => z3 (Int32.lt_of_lt_of_le z (by decide))
    obtain ⟨n, hn, rfl⟩ := nI_of hb0
    have hn1 : 1 ≤ n := by
      rcases Nat.lt_or_ge n 1 with z | z
      · exact absurd (nI_lt (b := 1) z (by omega)) z3
      · exact z
    have hnm : f + n ≤ m := by
      have z4' := z4
      rw [pk_sub (by omega), nI_leI hn (by omega)] at z4'
      omega
    refine ⟨nI (cn (fun s => tm_rk f n (M s) = true) 40), (rg, pq, nI m, st, ca, iv, op, rd, rs, rt, im, he, wa, ct, dt, tm_qv (fun s => tm_rk f n (M s)) 0 M 40, V, R, tm_F0 F), (nI m, st, ca, iv, tm_qv (tm_Q f n M) 0 TG (9 + m), tm_qv (tm_Q f n M) 0 BS (9 + m), tm_qv (tm_Q f n M) 0 LN (9 + m), tm_qv (tm_Q f n M) 0 PM (9 + m), tm_qv (tm_Q f n M) (-1) OT (9 + m), VY, HE, OP, AU), tm_rel_mk ⟨h16, hm, rfl, rfl, rfl, rfl, rfl, tm_rlr hR, fun kd hk => Or.inl (tm_F0z F hk)⟩, fun post hp => ?_, fun post hp => ?_⟩
    · unfold wpX_revoke
      refine br_f z1 (br_f z2 (br_f z3 (br_t z4 ?_)))
      unfold wpX_span
      refine br_t (nI_lt (a := 0) (by omega) (by omega)) (nm_e ⟨41, ?_⟩)
      have key := tx_rvl (f := f) (k := n) (post := post) (rg := rg) (pq := pq) (wd := nI m) (st := st) (ca := ca) (iv := iv) (op := op) (rd := rd) (rs := rs) (rt := rt) (im := im) (he := he) (wa := wa) (ct := ct) (dt := dt) (V := V) (R := R) (F := F) hm (fun s hs => tm_rlw hR hs) (by omega) (fun i hi => tm_span (b := f) (l := n) hn1 (by omega) hi) hp 40 0 rfl
      rw [tm_qvz] at key
      exact key
    · unfold wpY_revoke
      refine br_f z1 (br_f z2 (br_f z3 (br_t z4 ⟨9 + m + 1, ?_⟩)))
      rw [tm_rcn hm hR.2] at hp
      have key := ty_rvl (f := f) (k := n) (post := post) (Q := tm_Q f n M) (TG := TG) (BS := BS) (LN := LN) (PM := PM) (OT := OT) hm (fun i hi => ?_) hp (9 + m) 0 (by omega)
      · rw [tm_qvz, tm_qvz, tm_qvz, tm_qvz, tm_qvz] at key
        exact key
      · obtain ⟨w, e1, e2, e3, e4, e5, e6⟩ := hR.1 i (by omega)
        rw [tm_Q_iff, tm_rk_iff, e1, e2, e3]
        constructor
        · intro h
          refine ⟨h.1, fun z => h.2.1 ?_, h.2⟩
          rcases tm_tg01 hm w with y | y
          · rw [y.2, tm_ln0]; decide
          · rw [y] at z; exact absurd z (by decide)
        · intro h
          exact ⟨h.1, h.2.2⟩
end
section
/-! X's closure -/
def tm_CI (M : Nat → Int32) (H O : Nat → Prop) (he wa : Int64) (ct dt : Int32) : Prop :=
  (∀ s, s < 41 → (tm_bl he s = true ↔ H s)) ∧ (∀ s, s < 41 → (tm_bl wa s = true ↔ H s ∧ ¬ O s)) ∧
  (∀ o, o < 32 → (bt ct o = true ↔ ∃ s, s < 41 ∧ H s ∧ tm_ot (M s) = nI o ∧ tm_P (M s) 7 ∧ tm_P (M s) 4)) ∧
  (∀ o, o < 32 → (bt dt o = true ↔ ∃ s, s < 41 ∧ H s ∧ tm_ot (M s) = nI o ∧ tm_P (M s) 7 ∧ ¬ tm_P (M s) 4)) ∧ (∀ s, s < 41 → O s → H s)
theorem tm_ci_c {M : Nat → Int32} {H H' O O' : Nat → Prop} {he wa : Int64} {ct dt : Int32} (hH : ∀ s, s < 41 → (H s ↔ H' s)) (hO : ∀ s, s < 41 → (O s ↔ O' s)) (C : tm_CI M H O he wa ct dt) : tm_CI M H' O' he wa ct dt := by
  obtain ⟨c1, c2, c3, c4, c5⟩ := C
  refine ⟨fun s hs => (c1 s hs).trans (hH s hs), fun s hs => (c2 s hs).trans ?_, fun o ho => (c3 o ho).trans ?_, fun o ho => (c4 o ho).trans ?_, fun s hs h => (hH s hs).mp (c5 s hs ((hO s hs).mpr h))⟩
  · rw [hH s hs, hO s hs]
  · exact ⟨fun ⟨s, h1, h2, h3⟩ => ⟨s, h1, (hH s h1).mp h2, h3⟩, fun ⟨s, h1, h2, h3⟩ => ⟨s, h1, (hH s h1).mpr h2, h3⟩⟩
  · exact ⟨fun ⟨s, h1, h2, h3⟩ => ⟨s, h1, (hH s h1).mp h2, h3⟩, fun ⟨s, h1, h2, h3⟩ => ⟨s, h1, (hH s h1).mpr h2, h3⟩⟩
theorem tm_ci_a {M : Nat → Int32} {H O : Nat → Prop} {he wa : Int64} {ct dt ct' dt' : Int32} {s : Nat} (C : tm_CI M H O he wa ct dt) (hs : s < 41) (hn : ¬ H s) (hg : tm_tg (M s) ≠ 0)
    (hc : ∀ o, o < 32 → (bt ct' o = true ↔ bt ct o = true ∨ (tm_ot (M s) = nI o ∧ tm_P (M s) 7 ∧ tm_P (M s) 4)))
    (hd : ∀ o, o < 32 → (bt dt' o = true ↔ bt dt o = true ∨ (tm_ot (M s) = nI o ∧ tm_P (M s) 7 ∧ ¬ tm_P (M s) 4))) :
    tm_CI M (fun j => H j ∨ (j = s ∧ tm_tg (M s) ≠ 0)) O (he ||| ((1 : Int64) <<< ((nI s).toInt64 &&& 63))) (wa ||| ((1 : Int64) <<< ((nI s).toInt64 &&& 63))) ct' dt' := by
  obtain ⟨c1, c2, c3, c4, c5⟩ := C
  have hO : ¬ O s := fun z => hn (c5 s hs z)
  have bit : ∀ (x : Int64) (j : Nat), j < 41 → (tm_bl (x ||| ((1 : Int64) <<< ((nI s).toInt64 &&& 63))) j = true ↔ tm_bl x j = true ∨ j = s) := by
    intro x j hj
    rw [tm_lor, tm_l1 (by omega) (by omega), Bool.or_eq_true, decide_eq_true_iff]
  refine ⟨fun j hj => ?_, fun j hj => ?_, fun o ho => ?_, fun o ho => ?_, fun j hj h => Or.inl (c5 j hj h)⟩
  · rw [bit he j hj, c1 j hj]
    exact ⟨fun z => z.imp id (fun e => ⟨e, hg⟩), fun z => z.imp id (fun e => e.1)⟩
  · rw [bit wa j hj, c2 j hj]
    constructor
    · intro z
      rcases z with z | z
      · exact ⟨Or.inl z.1, z.2⟩
      · subst z; exact ⟨Or.inr ⟨rfl, hg⟩, hO⟩
    · intro z
      rcases z.1 with y | y
      · exact Or.inl ⟨y, z.2⟩
      · exact Or.inr y.1
  · rw [hc o ho, c3 o ho]
    constructor
    · intro z
      rcases z with ⟨j, h1, h2, h3⟩ | z
      · exact ⟨j, h1, Or.inl h2, h3⟩
      · exact ⟨s, hs, Or.inr ⟨rfl, hg⟩, z⟩
    · intro ⟨j, h1, h2, h3⟩
      rcases h2 with y | y
      · exact Or.inl ⟨j, h1, y, h3⟩
      · obtain ⟨rfl, _⟩ := y; exact Or.inr h3
  · rw [hd o ho, c4 o ho]
    constructor
    · intro z
      rcases z with ⟨j, h1, h2, h3⟩ | z
      · exact ⟨j, h1, Or.inl h2, h3⟩
      · exact ⟨s, hs, Or.inr ⟨rfl, hg⟩, z⟩
    · intro ⟨j, h1, h2, h3⟩
      rcases h2 with y | y
      · exact Or.inl ⟨j, h1, y, h3⟩
      · obtain ⟨rfl, _⟩ := y; exact Or.inr h3
section
variable {rg pq wd st ca iv op rd rs rt im : Int32} {he wa : Int64} {ct dt : Int32} {M V R F : Nat → Int32} {m : Nat} {H O : Nat → Prop}
theorem tx_hold {post : SX → Prop} {s : Nat} (hm : m ≤ 32) (hw : ∀ s, s < 41 → tm_WF m (M s)) (hs : s < 41) (C : tm_CI M H O he wa ct dt) (h : ∀ (he' wa' : Int64) (ct' dt' : Int32), tm_CI M (fun j => H j ∨ (j = s ∧ tm_tg (M s) ≠ 0)) O he' wa' ct' dt' → post (rg, pq, wd, st, ca, iv, op, rd, rs, rt, im, he', wa', ct', dt', M, V, R, F)) : wpX_hold post (rg, pq, wd, st, ca, iv, op, rd, rs, rt, im, he, wa, ct, dt, M, V, R, F) (nI s) := by
  have hO := (C.2.2.2.2 s hs)
  unfold wpX_hold
  dsimp only
  rw [nI_clamp (n := s) (by omega)]
  refine And.intro (vp_in_nI hs (by decide)) (nm_e (nm_e ?_))
  refine br_c (fun (z : tm_tg (M s) = 0) => br_t rfl ?_) (fun (z : ¬ tm_tg (M s) = 0) => br_f tm_d10 ?_)
  · refine h he wa ct dt (tm_ci_c (fun j hj => ⟨Or.inl, fun y => y.elim id (fun y => absurd z y.2)⟩) (fun _ _ => Iff.rfl) C)
  refine br_c (fun y => nm_e (nm_e ?_)) (fun y => ?_)
  · have hn : ¬ H s := by
      rw [tm_lb (by omega)] at y
      intro e
      rw [(C.1 s hs).mpr e] at y
      exact absurd y (by decide)
    refine br_c (fun (q : tm_ot (M s) < 0) => ?_) (fun (q : ¬ tm_ot (M s) < 0) => ?_)
    · have no : ∀ o, o < 32 → ¬ tm_ot (M s) = nI o := fun o ho e => by rw [e] at q; exact nI_pos (by omega) q
      exact h _ _ _ _ (tm_ci_a C hs hn z (fun o ho => ⟨Or.inl, fun y => y.elim id (fun y => absurd y.1 (no o ho))⟩) (fun o ho => ⟨Or.inl, fun y => y.elim id (fun y => absurd y.1 (no o ho))⟩))
    · obtain ⟨o0, ho0, eo⟩ : ∃ o, o < m ∧ tm_ot (M s) = nI o := by
        rcases tm_ot' hm (hw s hs) with e | e
        · rw [e] at q; exact absurd tm_m1lt q
        · exact e
      have eo' : ∀ o, o < 32 → (tm_ot (M s) = nI o ↔ o = o0) := fun o ho => by
        rw [eo, nI_eq (by omega) (by omega)]
        exact ⟨Eq.symm, Eq.symm⟩
      refine br_c (fun (p : tm_pm (M s) &&& 128 = 128) => br_f tm_d10 ?_) (fun (p : ¬ tm_pm (M s) &&& 128 = 128) => br_t rfl ?_)
      · have p7 : tm_P (M s) 7 := tm_q128.mp p
        have bit : ∀ (x : Int32) (o : Nat), o < 32 → (bt (x ||| ((1 : Int32) <<< (tm_ot (M s) &&& 31))) o = true ↔ bt x o = true ∨ o = o0) := by
          intro x o ho
          rw [b_or, eo, tm_i1 o0 (by omega) o ho, Bool.or_eq_true, decide_eq_true_iff]
        refine br_c (fun (p : tm_pm (M s) &&& 16 = 16) => br_f tm_d10 (nm_e ?_)) (fun (p : ¬ tm_pm (M s) &&& 16 = 16) => br_t rfl (nm_e ?_))
        · have p4 : tm_P (M s) 4 := tm_q16.mp p
          refine h _ _ _ _ (tm_ci_a C hs hn z (fun o ho => ?_) (fun o ho => ⟨Or.inl, fun y => y.elim id (fun y => absurd p4 y.2.2)⟩))
          refine (bit ct o ho).trans ?_
          rw [eo' o ho]
          exact ⟨fun y => y.imp id (fun e => ⟨e, p7, p4⟩), fun y => y.imp id (fun e => e.1)⟩
        · have p4 : ¬ tm_P (M s) 4 := fun e => p (tm_q16.mpr e)
          refine h _ _ _ _ (tm_ci_a C hs hn z (fun o ho => ⟨Or.inl, fun y => y.elim id (fun y => absurd y.2.2 p4)⟩) (fun o ho => ?_))
          refine (bit dt o ho).trans ?_
          rw [eo' o ho]
          exact ⟨fun y => y.imp id (fun e => ⟨e, p7, p4⟩), fun y => y.imp id (fun e => e.1)⟩
      · have p7 : ¬ tm_P (M s) 7 := fun e => p (tm_q128.mpr e)
        exact h _ _ _ _ (tm_ci_a C hs hn z (fun o ho => ⟨Or.inl, fun y => y.elim id (fun y => absurd y.2.1 p7)⟩) (fun o ho => ⟨Or.inl, fun y => y.elim id (fun y => absurd y.2.1 p7)⟩))
  · have hh : H s := by
      refine (C.1 s hs).mp (tm_nT.mp (fun e => y ?_))
      exact (tm_lb (by omega)).mpr e
    refine h he wa ct dt (tm_ci_c (fun j hj => ⟨Or.inl, fun y => y.elim id (fun y => y.1 ▸ hh)⟩) (fun _ _ => Iff.rfl) C)
end
end
section
/-! the loops of X's closure -/
theorem tm_ix (kd p : Nat) : nI kd * 8 + nI p = nI (8 * kd + p) := by
  rw [show (8 : Int32) = nI 8 from rfl, pk_mul, nI_add, Nat.mul_comm]
def tm_RI (M : Nat → Int32) (kd : Nat) (O : Nat → Prop) (R : Nat → Int32) : Prop := ∀ p, p < 8 → ∀ a, a < 32 → (bt (R (8 * kd + p)) a = true ↔ tm_Au M O a p)
/-- the masks of the other kind are as they were -/
def tm_Eo (kd : Nat) (R R' : Nat → Int32) : Prop := ∀ i, i < 8 * kd ∨ 8 * kd + 8 ≤ i → R' i = R i
theorem tm_eo_r (kd : Nat) (R : Nat → Int32) : tm_Eo kd R R := fun _ _ => rfl
theorem tm_eo_t {kd : Nat} {R R' R'' : Nat → Int32} (h : tm_Eo kd R R') (h' : tm_Eo kd R' R'') : tm_Eo kd R R'' := fun i hi => (h' i hi).trans (h i hi)
theorem tm_eo_u {kd p : Nat} {R R' : Nat → Int32} {x : Int32} (hp : p < 8) (h : tm_Eo kd R R') : tm_Eo kd R (upd R' (8 * kd + p) x) := fun i hi => by
  rw [pk_un (by omega)]; exact h i hi
section
variable {rg pq wd st ca iv op rd rs rt im : Int32} {M V F : Nat → Int32} {m kd : Nat}
theorem tx_sc1 {post : SX → Prop} {R : Nat → Int32} (hm : m ≤ 32) (hw : ∀ s, s < 41 → tm_WF m (M s)) (h : ∀ (he' wa' : Int64) (ct' dt' : Int32), tm_CI M (fun j => (32 ≤ j ∧ j < 41) ∧ tm_tg (M j) ≠ 0) (fun _ => False) he' wa' ct' dt' → post (rg, pq, wd, st, ca, iv, op, rd, rs, rt, im, he', wa', ct', dt', M, V, R, F)) : ∀ d s : Nat, s + d = 41 → 32 ≤ s → ∀ (he wa : Int64) (ct dt : Int32), tm_CI M (fun j => (32 ≤ j ∧ j < s) ∧ tm_tg (M j) ≠ 0) (fun _ => False) he wa ct dt → wX_startClosure_49 post (d + 1) (nI s) rg pq wd st ca iv op rd rs rt im he wa ct dt M V R F := by
  intro d
  induction d with
  | zero =>
    intro s hs h32 he wa ct dt C
    have : s = 41 := by omega
    subst this
    rw [wX_startClosure_49]
    exact br_t (nI_le (a := 41) (by omega) (by omega)) (h he wa ct dt C)
  | succ d ih =>
    intro s hs h32 he wa ct dt C
    rw [wX_startClosure_49]
    refine br_f (nI_ge (b := 41) (by omega) (by omega)) ?_
    refine tx_hold hm hw (by omega) C (fun he' wa' ct' dt' C' => nm_r (nI_1 s) (ih (s + 1) (by omega) (by omega) he' wa' ct' dt' (tm_ci_c (fun j hj => ?_) (fun _ _ => Iff.rfl) C')))
    constructor
    · intro z
      rcases z with z | z
      · exact ⟨⟨z.1.1, by omega⟩, z.2⟩
      · obtain ⟨rfl, z⟩ := z; exact ⟨⟨h32, by omega⟩, z⟩
    · intro z
      by_cases e : j = s
      · subst e; exact Or.inr ⟨rfl, z.2⟩
      · exact Or.inl ⟨⟨z.1.1, by omega⟩, z.2⟩
theorem tx_sc0 {post : SX → Prop} {he wa : Int64} {ct dt : Int32} (hk : kd < 2) : ∀ d j : Nat, j + d = 8 → ∀ R : Nat → Int32, (∀ p, p < j → R (8 * kd + p) = 0) → (∀ R' : Nat → Int32, (∀ p, p < 8 → R' (8 * kd + p) = 0) → tm_Eo kd R R' → ∃ n49, wX_startClosure_49 post n49 32 rg pq wd st ca iv op rd rs rt im 0 0 0 0 M V R' F) → wX_startClosure_2 post (nI kd) rg pq wd st ca iv op rd rs rt im he wa ct dt (d + 1) (nI j) M V R F := by
  intro d
  induction d with
  | zero =>
    intro j hj R hR h
    have : j = 8 := by omega
    subst this
    rw [wX_startClosure_2]
    exact br_t (nI_le (a := 8) (by omega) (by omega)) (h R hR (tm_eo_r _ _))
  | succ d ih =>
    intro j hj R hR h
    rw [wX_startClosure_2]
    refine br_f (nI_ge (b := 8) (by omega) (by omega)) ?_
    rw [tm_ix, nI_clamp (n := 8 * kd + j) (by omega)]
    refine And.intro (vp_in_nI (by omega) (by decide)) (nm_e (nm_r (nI_1 j) ?_))
    refine ih (j + 1) (by omega) _ (fun p hp => ?_) (fun R' h1 h2 => h R' h1 (tm_eo_t (tm_eo_u (by omega) (tm_eo_r _ _)) h2))
    by_cases e : p = j
    · subst e; exact pk_us
    · rw [pk_un (by omega)]; exact hR p (by omega)
theorem tx_startClosure {post : SX → Prop} {he wa : Int64} {ct dt : Int32} {R : Nat → Int32} (hm : m ≤ 32) (hw : ∀ s, s < 41 → tm_WF m (M s)) (hk : kd < 2) (h : ∀ (R' : Nat → Int32) (he' wa' : Int64) (ct' dt' : Int32), (∀ p, p < 8 → R' (8 * kd + p) = 0) → tm_Eo kd R R' → tm_CI M (fun j => (32 ≤ j ∧ j < 41) ∧ tm_tg (M j) ≠ 0) (fun _ => False) he' wa' ct' dt' → post (rg, pq, wd, st, ca, iv, op, rd, rs, rt, im, he', wa', ct', dt', M, V, R', F)) : wpX_startClosure post (rg, pq, wd, st, ca, iv, op, rd, rs, rt, im, he, wa, ct, dt, M, V, R, F) (nI kd) := by
  unfold wpX_startClosure
  refine ⟨9, tx_sc0 hk 8 0 rfl R (fun p hp => absurd hp (by omega)) (fun R' h1 h2 => ⟨10, ?_⟩)⟩
  refine tx_sc1 (R := R') hm hw (fun he' wa' ct' dt' C => h R' he' wa' ct' dt' h1 h2 C) 9 32 rfl (by omega) 0 0 0 0 ?_
  refine ⟨fun s hs => ?_, fun s hs => ?_, fun o ho => ?_, fun o ho => ?_, fun s hs z => z.elim⟩
  · rw [tm_l0]; exact ⟨fun z => absurd z (by decide), fun z => absurd z.1 (by omega)⟩
  · rw [tm_l0]; exact ⟨fun z => absurd z (by decide), fun z => absurd z.1.1 (by omega)⟩
  · rw [b_0]; exact ⟨fun z => absurd z (by decide), fun ⟨s, _, z, _⟩ => absurd z.1 (by omega)⟩
  · rw [b_0]; exact ⟨fun z => absurd z (by decide), fun ⟨s, _, z, _⟩ => absurd z.1 (by omega)⟩
theorem tx_hll {post : SX → Prop} {R : Nat → Int32} {H O : Nat → Prop} {x1 : Int32} (hm : m ≤ 32) (hw : ∀ s, s < 41 → tm_WF m (M s)) (h : ∀ (he' wa' : Int64) (ct' dt' : Int32), tm_CI M (fun j => H j ∨ (j < 32 ∧ bt x1 j = true ∧ tm_tg (M j) ≠ 0)) O he' wa' ct' dt' → post (rg, pq, wd, st, ca, iv, op, rd, rs, rt, im, he', wa', ct', dt', M, V, R, F)) : ∀ d s : Nat, s + d = 32 → ∀ (he wa : Int64) (ct dt : Int32), tm_CI M (fun j => H j ∨ (j < s ∧ bt x1 j = true ∧ tm_tg (M j) ≠ 0)) O he wa ct dt → wX_holdLoadable_2 post x1 (d + 1) (nI s) rg pq wd st ca iv op rd rs rt im he wa ct dt M V R F := by
  intro d
  induction d with
  | zero =>
    intro s hs he wa ct dt C
    have : s = 32 := by omega
    subst this
    rw [wX_holdLoadable_2]
    exact br_t (nI_le (a := 32) (by omega) (by omega)) (h he wa ct dt C)
  | succ d ih =>
    intro s hs he wa ct dt C
    rw [wX_holdLoadable_2]
    refine br_f (nI_ge (b := 32) (by omega) (by omega)) ?_
    refine br_c (fun z => ?_) (fun z => ?_)
    · rw [tm_bz (by omega)] at z
      refine nm_r (nI_1 s) (ih (s + 1) (by omega) he wa ct dt (tm_ci_c (fun j hj => ?_) (fun _ _ => Iff.rfl) C))
      refine ⟨fun y => y.imp id (fun y => ⟨by omega, y.2⟩), fun y => y.imp id (fun y => ⟨?_, y.2⟩)⟩
      have : j ≠ s := fun e => by rw [e, z] at y; exact absurd y.2.1 (by decide)
      omega
    · rw [tm_bz (by omega), tm_nT] at z
      refine tx_hold hm hw (by omega) C (fun he' wa' ct' dt' C' => nm_r (nI_1 s) (ih (s + 1) (by omega) he' wa' ct' dt' (tm_ci_c (fun j hj => ?_) (fun _ _ => Iff.rfl) C')))
      constructor
      · intro y
        rcases y with (y | y) | y
        · exact Or.inl y
        · exact Or.inr ⟨by omega, y.2⟩
        · obtain ⟨rfl, y⟩ := y; exact Or.inr ⟨by omega, z, y⟩
      · intro y
        rcases y with y | y
        · exact Or.inl (Or.inl y)
        · by_cases e : j = s
          · subst e; exact Or.inr ⟨rfl, y.2.2⟩
          · exact Or.inl (Or.inr ⟨by omega, y.2⟩)
theorem tx_holdLoadable {post : SX → Prop} {R : Nat → Int32} {he wa : Int64} {ct dt : Int32} {H O : Nat → Prop} {x1 : Int32} (hm : m ≤ 32) (hw : ∀ s, s < 41 → tm_WF m (M s)) (C : tm_CI M H O he wa ct dt) (h : ∀ (he' wa' : Int64) (ct' dt' : Int32), tm_CI M (fun j => H j ∨ (j < 32 ∧ bt x1 j = true ∧ tm_tg (M j) ≠ 0)) O he' wa' ct' dt' → post (rg, pq, wd, st, ca, iv, op, rd, rs, rt, im, he', wa', ct', dt', M, V, R, F)) : wpX_holdLoadable post (rg, pq, wd, st, ca, iv, op, rd, rs, rt, im, he, wa, ct, dt, M, V, R, F) x1 := by
  unfold wpX_holdLoadable
  exact ⟨33, tx_hll hm hw h 32 0 rfl he wa ct dt (tm_ci_c (fun j hj => ⟨Or.inl, fun y => y.elim id (fun y => absurd y.1 (by omega))⟩) (fun _ _ => Iff.rfl) C)⟩
end
section
variable {rg pq wd st ca iv op rd rs rt im : Int32} {he wa : Int64} {ct dt : Int32} {M V R F : Nat → Int32} {m kd : Nat} {H O : Nat → Prop}
/-- what 'opens' asks of a word, by the two masks of types -/
theorem tx_opens {post : Int32 → Prop} {x un cl : Int32} (hm : m ≤ 32) (hw : tm_WF m x) (h : ∀ r : Int32, (¬ r = 0 ↔ ∀ o, o < 32 → tm_ot x = nI o → (tm_P x 7 → bt cl o = true) ∧ (¬ tm_P x 7 → bt un o = true)) → post r) : wpX_opens post (rg, pq, wd, st, ca, iv, op, rd, rs, rt, im, he, wa, ct, dt, M, V, R, F) x un cl := by
  unfold wpX_opens
  refine br_c (fun (z : 0 ≤ tm_ot x) => ?_) (fun (z : ¬ 0 ≤ tm_ot x) => h 1 ⟨fun _ o ho e => ?_, fun _ => tm_d10⟩)
  · obtain ⟨o, ho, e⟩ : ∃ o, o < m ∧ tm_ot x = nI o := by
      rcases tm_ot' hm hw with e | e
      · rw [e] at z; exact absurd z (by decide)
      · exact e
    have e' : ∀ o', o' < 32 → (tm_ot x = nI o' ↔ o' = o) := fun o' ho' => by
      rw [e, nI_eq (by omega) (by omega)]
      exact ⟨Eq.symm, Eq.symm⟩
    have ask : ∀ y : Int32, (bt y o = true ↔ ∀ o, o < 32 → tm_ot x = nI o → (tm_P x 7 → bt cl o = true) ∧ (¬ tm_P x 7 → bt un o = true)) → wX_opens_30 post (tm_ot x) y rg pq wd st ca iv op rd rs rt im he wa ct dt M V R F := by
      intro y hy
      unfold wX_opens_30
      rw [e]
      refine br_c (fun z => h 0 ⟨fun q => absurd rfl q, fun q => ?_⟩) (fun z => h 1 ⟨fun _ => ?_, fun _ => tm_d10⟩)
      · rw [tm_bz (by omega)] at z
        rw [hy.mpr q] at z
        exact absurd z (by decide)
      · rw [tm_bz (by omega), tm_nT] at z
        exact hy.mp z
    refine br_c (fun (p : tm_pm x &&& 128 = 128) => br_f tm_d10 ?_) (fun (p : ¬ tm_pm x &&& 128 = 128) => br_t rfl ?_)
    · have p7 : tm_P x 7 := tm_q128.mp p
      refine ask cl ⟨fun q o' ho' eo => ?_, fun q => ((q o (by omega) e).1 p7)⟩
      rw [(e' o' ho').mp eo]
      exact ⟨fun _ => q, fun n => absurd p7 n⟩
    · have p7 : ¬ tm_P x 7 := fun e => p (tm_q128.mpr e)
      refine ask un ⟨fun q o' ho' eo => ?_, fun q => ((q o (by omega) e).2 p7)⟩
      rw [(e' o' ho').mp eo]
      exact ⟨fun n => absurd n p7, fun _ => q⟩
  · rw [e] at z
    exact absurd (nI_pos' (by omega)) z
theorem tx_opl {post : Int64 → Prop} {un cl : Int32} (hm : m ≤ 32) (hw : ∀ s, s < 41 → tm_WF m (M s)) (Z : Nat → Prop) (hZ : ∀ s, s < 41 → (Z s ↔ ∀ o, o < 32 → tm_ot (M s) = nI o → (tm_P (M s) 7 → bt cl o = true) ∧ (¬ tm_P (M s) 7 → bt un o = true))) (h : ∀ r : Int64, (∀ j, j < 64 → (tm_bl r j = true ↔ j < 41 ∧ tm_bl wa j = true ∧ Z j)) → post r) : ∀ d s : Nat, s + d = 41 → ∀ r : Int64, (∀ j, j < 64 → (tm_bl r j = true ↔ j < s ∧ tm_bl wa j = true ∧ Z j)) → wX_openable_50 post un cl rg pq wd st ca iv op rd rs rt im he wa ct dt M V R F (d + 1) r (nI s) := by
  intro d
  induction d with
  | zero =>
    intro s hs r hr
    have : s = 41 := by omega
    subst this
    rw [wX_openable_50]
    exact br_t (nI_le (a := 41) (by omega) (by omega)) (h r hr)
  | succ d ih =>
    intro s hs r hr
    have skip : ¬ (tm_bl wa s = true ∧ Z s) → wX_openable_50 post un cl rg pq wd st ca iv op rd rs rt im he wa ct dt M V R F (d + 1) r (nI (s + 1)) := by
      intro q
      refine ih (s + 1) (by omega) r (fun j hj => (hr j hj).trans ⟨fun y => ⟨by omega, y.2⟩, fun y => ⟨?_, y.2⟩⟩)
      have : j ≠ s := fun e => q (e ▸ y.2)
      omega
    rw [wX_openable_50]
    refine br_f (nI_ge (b := 41) (by omega) (by omega)) (nm_e (br_c (fun z => ?_) (fun z => ?_)))
    · rw [tm_lb (by omega)] at z
      refine nm_r (nI_1 s) (skip (fun q => ?_))
      rw [z] at q
      exact absurd q.1 (by decide)
    · rw [tm_lb (by omega), tm_nT] at z
      refine And.intro (vp_in_nI (by omega) (by decide)) ?_
      rw [nI_clamp (n := s) (by omega)]
      refine tx_opens hm (hw s (by omega)) (fun r9 h9 => ?_)
      rw [← hZ s (by omega)] at h9
      refine br_c (fun y => nm_r (nI_1 s) (skip (fun q => h9.mpr q.2 y))) (fun y => nm_e (nm_r (nI_1 s) ?_))
      refine ih (s + 1) (by omega) _ (fun j hj => ?_)
      rw [tm_lor, tm_l1 (by omega) hj, Bool.or_eq_true, decide_eq_true_iff, hr j hj]
      constructor
      · intro q
        rcases q with q | q
        · exact ⟨by omega, q.2⟩
        · subst q; exact ⟨by omega, z, h9.mp y⟩
      · intro q
        by_cases e : j = s
        · exact Or.inr e
        · exact Or.inl ⟨by omega, q.2⟩
end
end
section
/-! X's closure: openable, grant, openAll, close -/
theorem tm_ask {M : Nat → Int32} {kd : Nat} {H O : Nat → Prop} {he wa : Int64} {ct dt un cl : Int32} (C : tm_CI M H O he wa ct dt) (hun : ∀ o, o < 32 → (bt un o = true ↔ tm_Au M O o 6)) (hcl : ∀ o, o < 32 → (bt cl o = true ↔ tm_Au M O o 6 ∨ (kd = 1 ∧ (tm_Au M O o 5 ∨ (bt ct o = true ∧ bt dt o = true))))) {s : Nat} (hs : s < 41) (hH : H s) : (∀ o, o < 32 → tm_ot (M s) = nI o → (tm_P (M s) 7 → bt cl o = true) ∧ (¬ tm_P (M s) 7 → bt un o = true)) ↔ tm_Op M kd H O s := by
  obtain ⟨c1, c2, c3, c4, c5⟩ := C
  have pt : ∀ o, o < 32 → tm_ot (M s) = nI o → tm_P (M s) 7 → (bt ct o = true ∧ bt dt o = true ↔ tm_Pt M H s o) := by
    intro o ho e p7
    rw [c3 o ho, c4 o ho]
    constructor
    · intro ⟨⟨i, i1, i2, i3, i4, i5⟩, ⟨j, j1, j2, j3, j4, j5⟩⟩
      by_cases p4 : tm_P (M s) 4
      · exact ⟨j, j1, j2, j3, j4, ⟨fun z => absurd z j5, fun z => absurd p4 z⟩⟩
      · exact ⟨i, i1, i2, i3, i4, ⟨fun _ => p4, fun _ => i5⟩⟩
    · intro ⟨j, j1, j2, j3, j4, j5⟩
      by_cases p4 : tm_P (M s) 4
      · exact ⟨⟨s, hs, hH, e, p7, p4⟩, ⟨j, j1, j2, j3, j4, fun z => j5.mp z p4⟩⟩
      · exact ⟨⟨j, j1, j2, j3, j4, j5.mpr p4⟩, ⟨s, hs, hH, e, p7, p4⟩⟩
  constructor
  · intro h o ho e
    obtain ⟨h1, h2⟩ := h o ho e
    by_cases p7 : tm_P (M s) 7
    · rcases (hcl o ho).mp (h1 p7) with z | ⟨z1, z2⟩
      · exact Or.inl z
      · exact Or.inr ⟨z1, p7, z2.imp id (pt o ho e p7).mp⟩
    · exact Or.inl ((hun o ho).mp (h2 p7))
  · intro h o ho e
    refine ⟨fun p7 => (hcl o ho).mpr ?_, fun p7 => (hun o ho).mpr ?_⟩
    · rcases h o ho e with z | ⟨z1, z2, z3⟩
      · exact Or.inl z
      · exact Or.inr ⟨z1, z3.imp id (pt o ho e p7).mpr⟩
    · rcases h o ho e with z | ⟨z1, z2, z3⟩
      · exact z
      · exact absurd z2 p7
section
variable {rg pq wd st ca iv op rd rs rt im : Int32} {he wa : Int64} {ct dt : Int32} {M V R F : Nat → Int32} {m kd : Nat} {H O : Nat → Prop}
theorem tx_openable {post : Int64 → Prop} (hm : m ≤ 32) (hw : ∀ s, s < 41 → tm_WF m (M s)) (hk : kd < 2) (C : tm_CI M H O he wa ct dt) (hR : tm_RI M kd O R) (h : ∀ r : Int64, (∀ j, j < 64 → (tm_bl r j = true ↔ j < 41 ∧ H j ∧ ¬ O j ∧ tm_Op M kd H O j)) → post r) : wpX_openable post (rg, pq, wd, st, ca, iv, op, rd, rs, rt, im, he, wa, ct, dt, M, V, R, F) (nI kd) := by
  have e6 : nI kd * 8 + 6 = nI (8 * kd + 6) := tm_ix kd 6
  have e5 : nI kd * 8 + 5 = nI (8 * kd + 5) := tm_ix kd 5
  have hun := hR 6 (by omega)
  have fin : ∀ cl : Int32, (∀ o, o < 32 → (bt cl o = true ↔ tm_Au M O o 6 ∨ (kd = 1 ∧ (tm_Au M O o 5 ∨ (bt ct o = true ∧ bt dt o = true))))) → ∃ n50, wX_openable_50 post (R (8 * kd + 6)) cl rg pq wd st ca iv op rd rs rt im he wa ct dt M V R F n50 0 0 := by
    intro cl hcl
    refine ⟨42, tx_opl hm hw (fun s => ∀ o, o < 32 → tm_ot (M s) = nI o → (tm_P (M s) 7 → bt cl o = true) ∧ (¬ tm_P (M s) 7 → bt (R (8 * kd + 6)) o = true)) (fun _ _ => Iff.rfl) (fun r hr => h r (fun j hj => (hr j hj).trans ?_)) 41 0 rfl 0 (fun j hj => ?_)⟩
    · constructor
      · intro ⟨h1, h2, h3⟩
        have hh := (C.2.1 j h1).mp h2
        exact ⟨h1, hh.1, hh.2, (tm_ask C hun hcl h1 hh.1).mp h3⟩
      · intro ⟨h1, h2, h3, h4⟩
        exact ⟨h1, (C.2.1 j h1).mpr ⟨h2, h3⟩, (tm_ask C hun hcl h1 h2).mpr h4⟩
    · rw [tm_l0]
      exact ⟨fun z => absurd z (by decide), fun z => absurd z.1 (by omega)⟩
  unfold wpX_openable
  dsimp only
  rw [e6, nI_clamp (n := 8 * kd + 6) (by omega)]
  refine And.intro (vp_in_nI (by omega) (by decide)) (nm_e (br_c (fun z => ?_) (fun z => ?_)))
  · have k1 : kd = 1 := (nI_eq (b := 1) (by omega) (by omega)).mp z
    rw [e5, nI_clamp (n := 8 * kd + 5) (by omega)]
    refine And.intro (vp_in_nI (by omega) (by decide)) (nm_e (fin _ (fun o ho => ?_)))
    rw [b_or, b_or, b_and, Bool.or_eq_true, Bool.or_eq_true, Bool.and_eq_true, hR 6 (by omega) o ho, hR 5 (by omega) o ho]
    exact ⟨fun y => y.imp id (fun y => ⟨k1, y⟩), fun y => y.imp id (fun y => y.2)⟩
  · have k1 : ¬ kd = 1 := fun e => z (by rw [e]; rfl)
    exact fin _ (fun o ho => (hun o ho).trans ⟨Or.inl, fun y => y.elim id (fun y => absurd y.1 k1)⟩)
theorem tx_grl {post : SX → Prop} {rg' pm : Int32} (hk : kd < 2) {x : Int32} (hr : ∀ a, a < 32 → (bt rg' a = true ↔ tm_In x a)) (hp : ∀ p, p < 8 → (bt pm p = true ↔ tm_P x p)) (h : ∀ R' : Nat → Int32, (∀ p, p < 8 → ∀ a, a < 32 → (bt (R' (8 * kd + p)) a = true ↔ bt (R (8 * kd + p)) a = true ∨ (tm_In x a ∧ tm_P x p))) → tm_Eo kd R R' → post (rg, pq, wd, st, ca, iv, op, rd, rs, rt, im, he, wa, ct, dt, M, V, R', F)) : ∀ d j : Nat, j + d = 8 → ∀ R1 : Nat → Int32, (∀ p, p < 8 → ∀ a, a < 32 → (bt (R1 (8 * kd + p)) a = true ↔ bt (R (8 * kd + p)) a = true ∨ (p < j ∧ tm_In x a ∧ tm_P x p))) → tm_Eo kd R R1 → wX_grant_16 post (nI kd) rg' pm rg pq wd st ca iv op rd rs rt im he wa ct dt (d + 1) (nI j) M V R1 F := by
  intro d
  induction d with
  | zero =>
    intro j hj R1 h1 h2
    have : j = 8 := by omega
    subst this
    rw [wX_grant_16]
    refine br_t (nI_le (a := 8) (by omega) (by omega)) (h R1 (fun p hp a ha => (h1 p hp a ha).trans ?_) h2)
    exact ⟨fun y => y.imp id (fun y => y.2), fun y => y.imp id (fun y => ⟨hp, y⟩)⟩
  | succ d ih =>
    intro j hj R1 h1 h2
    rw [wX_grant_16]
    refine br_f (nI_ge (b := 8) (by omega) (by omega)) (br_c (fun z => ?_) (fun z => ?_))
    · rw [tm_bz (by omega)] at z
      refine nm_r (nI_1 j) (ih (j + 1) (by omega) R1 (fun p hp' a ha => (h1 p hp' a ha).trans ?_) h2)
      refine ⟨fun y => y.imp id (fun y => ⟨by omega, y.2⟩), fun y => y.imp id (fun y => ⟨?_, y.2⟩)⟩
      have : p ≠ j := fun e => by
        have q := (hp p hp').mpr y.2.2
        rw [e, z] at q
        exact absurd q (by decide)
      omega
    · rw [tm_bz (by omega), tm_nT] at z
      have pj := (hp j (by omega)).mp z
      rw [tm_ix, nI_clamp (n := 8 * kd + j) (by omega)]
      have hin : vp_in (nI (8 * kd + j)) 16 := vp_in_nI (by omega) (by decide)
      refine And.intro hin (And.intro hin (nm_e (nm_r (nI_1 j) ?_)))
      refine ih (j + 1) (by omega) _ (fun p hp' a ha => ?_) (tm_eo_u (by omega) h2)
      by_cases e : p = j
      · subst e
        rw [pk_us, b_or, Bool.or_eq_true, h1 p hp' a ha, hr a ha]
        constructor
        · intro y
          rcases y with (y | y) | y
          · exact Or.inl y
          · exact absurd y.1 (by omega)
          · exact Or.inr ⟨by omega, y, pj⟩
        · intro y
          rcases y with y | y
          · exact Or.inl (Or.inl y)
          · exact Or.inr y.2.1
      · rw [pk_un (by omega)]
        refine (h1 p hp' a ha).trans ⟨fun y => y.imp id (fun y => ⟨by omega, y.2⟩), fun y => y.imp id (fun y => ⟨by omega, y.2⟩)⟩
theorem tx_grant {post : SX → Prop} (hm : m ≤ 32) (hk : kd < 2) {x : Int32} (hw : tm_WF m x) (h : ∀ R' : Nat → Int32, (∀ p, p < 8 → ∀ a, a < 32 → (bt (R' (8 * kd + p)) a = true ↔ bt (R (8 * kd + p)) a = true ∨ (tm_In x a ∧ tm_P x p))) → tm_Eo kd R R' → post (rg, pq, wd, st, ca, iv, op, rd, rs, rt, im, he, wa, ct, dt, M, V, R', F)) : wpX_grant post (rg, pq, wd, st, ca, iv, op, rd, rs, rt, im, he, wa, ct, dt, M, V, R, F) (nI kd) x := by
  obtain ⟨q, b, l, p, t, hq, hb, hp, ht, h0, hx, e1, e2, e3, e4, e5⟩ := tm_wf hm hw
  unfold wpX_grant
  refine tx_rangeOf e2 e3 (by omega) (fun r hr => ?_)
  unfold wpX_permsOf
  refine ⟨9, tx_grl hk (x := x) (fun a ha => ?_) (fun p hp => Iff.rfl) h 8 0 rfl R (fun p hp a ha => ⟨Or.inl, fun y => y.elim id (fun y => absurd y.1 (by omega))⟩) (tm_eo_r _ _)⟩
  rw [hr a ha, decide_eq_true_iff, tm_in_iff e2 e3 (by omega) (by omega)]
theorem tm_ri_a {O' : Nat → Prop} {R' : Nat → Int32} {s : Nat} (hR : tm_RI M kd O R) (hs : s < 41) (h1 : ∀ p, p < 8 → ∀ a, a < 32 → (bt (R' (8 * kd + p)) a = true ↔ bt (R (8 * kd + p)) a = true ∨ (tm_In (M s) a ∧ tm_P (M s) p))) (hO : ∀ j, j < 41 → (O' j ↔ O j ∨ j = s)) : tm_RI M kd O' R' := by
  intro p hp a ha
  rw [h1 p hp a ha, hR p hp a ha]
  constructor
  · intro z
    rcases z with ⟨j, j1, j2, j3⟩ | z
    · exact ⟨j, j1, (hO j j1).mpr (Or.inl j2), j3⟩
    · exact ⟨s, hs, (hO s hs).mpr (Or.inr rfl), z⟩
  · intro ⟨j, j1, j2, j3⟩
    rcases (hO j j1).mp j2 with z | z
    · exact Or.inl ⟨j, j1, z, j3⟩
    · subst z; exact Or.inr j3
theorem tm_ri_c {O' : Nat → Prop} (hR : tm_RI M kd O R) (hO : ∀ j, j < 41 → (O j ↔ O' j)) : tm_RI M kd O' R := fun p hp a ha => (hR p hp a ha).trans ⟨tm_aum (fun j hj => (hO j hj).mp), tm_aum (fun j hj => (hO j hj).mpr)⟩
end
section
variable {rg pq wd st ca iv op rd rs rt im : Int32} {he wa : Int64} {ct dt : Int32} {M V F : Nat → Int32} {m kd : Nat} {O : Nat → Prop}
theorem tx_oal {post : SX → Prop} {rdy : Int64} {R0 : Nat → Int32} (hm : m ≤ 32) (hw : ∀ s, s < 41 → tm_WF m (M s)) (hk : kd < 2) (h : ∀ R' : Nat → Int32, tm_RI M kd (fun j => O j ∨ (j < 41 ∧ tm_bl rdy j = true)) R' → tm_Eo kd R0 R' → post (rg, pq, wd, st, ca, iv, op, rd, rs, rt, im, he, wa, ct, dt, M, V, R', F)) : ∀ d s : Nat, s + d = 41 → ∀ R : Nat → Int32, tm_RI M kd (fun j => O j ∨ (j < s ∧ tm_bl rdy j = true)) R → tm_Eo kd R0 R → wX_openAll_3 post (nI kd) rdy (d + 1) (nI s) rg pq wd st ca iv op rd rs rt im he wa ct dt M V R F := by
  intro d
  induction d with
  | zero =>
    intro s hs R h1 h2
    have : s = 41 := by omega
    subst this
    rw [wX_openAll_3]
    exact br_t (nI_le (a := 41) (by omega) (by omega)) (h R h1 h2)
  | succ d ih =>
    intro s hs R h1 h2
    rw [wX_openAll_3]
    refine br_f (nI_ge (b := 41) (by omega) (by omega)) (br_c (fun z => ?_) (fun z => ?_))
    · rw [tm_ls (by omega)] at z
      refine nm_r (nI_1 s) (ih (s + 1) (by omega) R (tm_ri_c h1 (fun j hj => ?_)) h2)
      refine ⟨fun y => y.imp id (fun y => ⟨by omega, y.2⟩), fun y => y.imp id (fun y => ⟨?_, y.2⟩)⟩
      have : j ≠ s := fun e => by rw [e, z] at y; exact absurd y.2 (by decide)
      omega
    · rw [tm_ls (by omega), tm_nT] at z
      refine And.intro (vp_in_nI (by omega) (by decide)) ?_
      rw [nI_clamp (n := s) (by omega)]
      refine tx_grant hm hk (hw s (by omega)) (fun R' g1 g2 => nm_r (nI_1 s) (ih (s + 1) (by omega) R' (tm_ri_a h1 (by omega) g1 (fun j hj => ?_)) (tm_eo_t h2 g2)))
      constructor
      · intro y
        rcases y with y | y
        · exact Or.inl (Or.inl y)
        · by_cases e : j = s
          · exact Or.inr e
          · exact Or.inl (Or.inr ⟨by omega, y.2⟩)
      · intro y
        rcases y with (y | y) | y
        · exact Or.inl y
        · exact Or.inr ⟨by omega, y.2⟩
        · subst y; exact Or.inr ⟨by omega, z⟩
theorem tx_openAll {post : SX → Prop} {rdy : Int64} {R : Nat → Int32} (hm : m ≤ 32) (hw : ∀ s, s < 41 → tm_WF m (M s)) (hk : kd < 2) (hR : tm_RI M kd O R) (h : ∀ R' : Nat → Int32, tm_RI M kd (fun j => O j ∨ (j < 41 ∧ tm_bl rdy j = true)) R' → tm_Eo kd R R' → post (rg, pq, wd, st, ca, iv, op, rd, rs, rt, im, he, wa, ct, dt, M, V, R', F)) : wpX_openAll post (rg, pq, wd, st, ca, iv, op, rd, rs, rt, im, he, wa, ct, dt, M, V, R, F) (nI kd) rdy := by
  unfold wpX_openAll
  exact ⟨42, tx_oal hm hw hk h 41 0 rfl R (tm_ri_c hR (fun j hj => ⟨Or.inl, fun y => y.elim id (fun y => absurd y.1 (by omega))⟩)) (tm_eo_r _ _)⟩
end
end
section
/-! X's closure: the rounds -/
theorem tm_call {P : Nat → Prop} {n : Nat} (h : n ≤ cn P n) {j : Nat} (hj : j < n) : P j := by
  refine Classical.byContradiction fun z => ?_
  have := cn_lt (P := P) (Q := fun _ => True) (a := j) z trivial (N := n) (fun _ _ _ => trivial) hj
  have := cn_le (fun _ => True) n
  omega
def tm_Rd (M : Nat → Int32) (kd : Nat) (H O : Nat → Prop) (r : Int64) : Prop := ∀ j, j < 64 → (tm_bl r j = true ↔ j < 41 ∧ H j ∧ ¬ O j ∧ tm_Op M kd H O j)
section
variable {rg pq wd st ca iv op rd rs rt im : Int32} {M V F : Nat → Int32} {m kd : Nat}
theorem tm_rv_of {H O : Nat → Prop} {R : Nat → Int32} (hc : tm_Cl M kd H O) (hs : tm_Sb M kd H O) (hR : tm_RI M kd O R) : tm_Rv M kd R := fun p hp a ha => (hR p hp a ha).trans (tm_an hc hs).symm
theorem tx_cll {post : SX → Prop} {R0 : Nat → Int32} (hm : m ≤ 32) (hw : ∀ s, s < 41 → tm_WF m (M s)) (hk : kd < 2) (h : ∀ (R' : Nat → Int32) (he' wa' : Int64) (ct' dt' : Int32), tm_Rv M kd R' → tm_Eo kd R0 R' → post (rg, pq, wd, st, ca, iv, op, rd, rs, rt, im, he', wa', ct', dt', M, V, R', F)) : ∀ d k : Nat, k + d = 41 → ∀ (H O : Nat → Prop) (he wa : Int64) (ct dt : Int32) (R : Nat → Int32) (rdy : Int64), tm_CI M H O he wa ct dt → tm_RI M kd O R → tm_Sb M kd H O → tm_Hc M H O → tm_Rd M kd H O rdy → k ≤ cn O 41 → tm_Eo kd R0 R → wX_close_14 post (nI kd) (d + 1) rdy (nI k) rg pq wd st ca iv op rd rs rt im he wa ct dt M V R F := by
  intro d
  induction d with
  | zero =>
    intro k hd H O he wa ct dt R rdy C hR hS hH hr hc hE
    have : k = 41 := by omega
    subst this
    rw [wX_close_14]
    exact br_t (nI_le (a := 41) (by omega) (by omega)) (h R he wa ct dt (tm_rv_of ⟨hH, fun s hs _ _ => tm_call hc hs⟩ hS hR) hE)
  | succ d ih =>
    intro k hd H O he wa ct dt R rdy C hR hS hH hr hc hE
    rw [wX_close_14]
    refine br_f (nI_ge (b := 41) (by omega) (by omega)) (br_c (fun z => ?_) (fun z => nm_e ?_))
    · refine h R he wa ct dt (tm_rv_of ⟨hH, fun s hs h1 h2 => ?_⟩ hS hR) hE
      refine Classical.byContradiction fun q => ?_
      have y := (hr s (by omega)).mpr ⟨hs, h1, q, h2⟩
      rw [z, tm_l0] at y
      exact absurd y (by decide)
    · refine tx_openAll hm hw hk hR (fun R' hR' hE' => ?_)
      have C1 : tm_CI M H (fun j => O j ∨ (j < 41 ∧ tm_bl rdy j = true)) he (wa &&& (rdy ^^^ (-1))) ct dt := by
        obtain ⟨c1, c2, c3, c4, c5⟩ := C
        refine ⟨c1, fun s hs => ?_, c3, c4, fun s hs y => y.elim (c5 s hs) (fun y => ((hr s (by omega)).mp y.2).2.1)⟩
        rw [tm_land, tm_lxor, tm_lm1 s (by omega), Bool.and_eq_true, c2 s hs]
        cases hb : tm_bl rdy s
        · exact ⟨fun y => ⟨y.1.1, fun q => q.elim y.1.2 (fun q => absurd (hb.symm.trans q.2) (by decide))⟩, fun y => ⟨⟨y.1, fun q => y.2 (Or.inl q)⟩, rfl⟩⟩
        · exact ⟨fun y => absurd y.2 (by decide), fun y => absurd (Or.inr ⟨hs, hb⟩) y.2⟩
      have e2 : nI kd * 8 + 2 = nI (8 * kd + 2) := tm_ix kd 2
      dsimp only
      rw [e2, nI_clamp (n := 8 * kd + 2) (by omega)]
      refine And.intro (vp_in_nI (by omega) (by decide)) ?_
      refine tx_holdLoadable hm hw C1 (fun he' wa' ct' dt' C2 => ?_)
      have S1 : tm_Sb M kd H (fun j => O j ∨ (j < 41 ∧ tm_bl rdy j = true)) := tm_sbo hS (fun s hs y => y.imp id (fun y => have q := (hr s (by omega)).mp y.2; ⟨q.2.1, q.2.2.2⟩))
      have C3 : tm_CI M (fun j => H j ∨ (j < 32 ∧ tm_Au M (fun j => O j ∨ (j < 41 ∧ tm_bl rdy j = true)) j 2 ∧ tm_tg (M j) ≠ 0)) (fun j => O j ∨ (j < 41 ∧ tm_bl rdy j = true)) he' wa' ct' dt' := by
        refine tm_ci_c (fun j hj => ?_) (fun _ _ => Iff.rfl) C2
        constructor
        · intro y
          exact y.imp id (fun y => ⟨y.1, (hR' 2 (by omega) j y.1).mp y.2.1, y.2.2⟩)
        · intro y
          exact y.imp id (fun y => ⟨y.1, (hR' 2 (by omega) j y.1).mpr y.2.1, y.2.2⟩)
      have S2 := tm_sbh (H' := fun j => H j ∨ (j < 32 ∧ tm_Au M (fun j => O j ∨ (j < 41 ∧ tm_bl rdy j = true)) j 2 ∧ tm_tg (M j) ≠ 0)) S1 (fun s hs y => y.imp id (fun y => ⟨y.2.2, Or.inr y.2.1⟩))
      have H2 : tm_Hc M (fun j => H j ∨ (j < 32 ∧ tm_Au M (fun j => O j ∨ (j < 41 ∧ tm_bl rdy j = true)) j 2 ∧ tm_tg (M j) ≠ 0)) (fun j => O j ∨ (j < 41 ∧ tm_bl rdy j = true)) := by
        intro s hs hg y
        rcases y with y | y
        · exact Or.inl (hH s hs hg (Or.inl y))
        · have := tm_au_lt hm hw (by omega) y
          exact Or.inr ⟨by omega, y, hg⟩
      refine tx_openable hm hw hk C3 hR' (fun r' hr' => nm_r (nI_1 k) ?_)
      refine ih (k + 1) (by omega) _ _ he' wa' ct' dt' R' r' C3 hR' S2 H2 hr' ?_ (tm_eo_t hE hE')
      have ⟨j, hj, hb⟩ : ∃ j, j < 64 ∧ tm_bl rdy j = true := by
        refine Classical.byContradiction fun q => z (tm_lz.mpr (fun j hj => tm_nF.mp (fun e => q ⟨j, hj, e⟩)))
      have q := (hr j hj).mp hb
      have := cn_lt (P := O) (Q := fun j => O j ∨ (j < 41 ∧ tm_bl rdy j = true)) (a := j) q.2.2.1 (Or.inr ⟨q.1, hb⟩) (N := 41) (fun _ _ y => Or.inl y) q.1
      omega
theorem tx_close {post : SX → Prop} {he wa : Int64} {ct dt : Int32} {R : Nat → Int32} (hm : m ≤ 32) (hw : ∀ s, s < 41 → tm_WF m (M s)) (hk : kd < 2) (h : ∀ (R' : Nat → Int32) (he' wa' : Int64) (ct' dt' : Int32), tm_Rv M kd R' → tm_Eo kd R R' → post (rg, pq, wd, st, ca, iv, op, rd, rs, rt, im, he', wa', ct', dt', M, V, R', F)) : wpX_close post (rg, pq, wd, st, ca, iv, op, rd, rs, rt, im, he, wa, ct, dt, M, V, R, F) (nI kd) := by
  unfold wpX_close
  refine tx_startClosure hm hw hk (fun R' he' wa' ct' dt' hz hE C => ?_)
  have nA : ∀ a p, ¬ tm_Au M (fun _ => False) a p := fun a p ⟨_, _, z, _⟩ => z
  have hR : tm_RI M kd (fun _ => False) R' := by
    intro p hp a ha
    rw [hz p hp, b_0]
    exact ⟨fun z => absurd z (by decide), fun z => absurd z (nA a p)⟩
  have hS : tm_Sb M kd (fun j => (32 ≤ j ∧ j < 41) ∧ tm_tg (M j) ≠ 0) (fun _ => False) :=
    tm_sbh (H := fun _ => False) (tm_sb0 (fun _ _ z => z) (fun _ _ z => z)) (fun s hs z => Or.inr ⟨z.2, Or.inl z.1.1⟩)
  have hH : tm_Hc M (fun j => (32 ≤ j ∧ j < 41) ∧ tm_tg (M j) ≠ 0) (fun _ => False) := fun s hs hg y => y.elim (fun y => ⟨⟨y, hs⟩, hg⟩) (fun y => absurd y (nA _ _))
  refine tx_openable hm hw hk C hR (fun r hr => ⟨42, ?_⟩)
  exact tx_cll hm hw hk h 41 0 rfl _ _ he' wa' ct' dt' R' r C hR hS hH hr (Nat.zero_le _) hE
end
end
section
/-! Y's closure -/
def tm_yS (A : Nat → Int32) : Nat → Prop := fun s => ¬ A (tm_rw s) = 0
theorem tm_yS_i {A : Nat → Int32} {i : Nat} (hi : i < 41) : tm_yS A (tm_sl i) ↔ ¬ A i = 0 := by
  unfold tm_yS
  rw [tm_rs hi]
theorem tm_yS_u {A : Nat → Int32} {i s : Nat} (hi : i < 41) (hs : s < 41) : tm_yS (upd A i 1) s ↔ tm_yS A s ∨ s = tm_sl i := by
  unfold tm_yS
  by_cases e : s = tm_sl i
  · subst e
    rw [tm_rs hi, pk_us]
    exact ⟨fun _ => Or.inr rfl, fun _ => tm_d10⟩
  · have : tm_rw s ≠ i := fun z => e (by rw [← z, tm_sr hs])
    rw [pk_un this]
    exact ⟨Or.inl, fun y => y.elim id (fun y => absurd y e)⟩
theorem tm_16 {x y : Int32} : x &&& 16 = y &&& 16 ↔ bt x 4 = bt y 4 := by
  constructor
  · intro h
    have t := congrArg (fun z => bt z 4) h
    simp only [b_and, tm_c16 4 (by decide), decide_true, Bool.and_true] at t
    exact t
  · intro h
    apply b_ext
    intro i hi
    rw [b_and, b_and, tm_c16 i hi]
    by_cases e : i = 4
    · subst e; rw [h]
    · rw [decide_eq_false e, Bool.and_false, Bool.and_false]
def tm_YI (M : Nat → Int32) (O : Nat → Prop) (AU : Nat → Int32) : Prop := ∀ a, a < 32 → ∀ p, p < 8 → (bt (AU a) p = true ↔ tm_Au M O a p)
section
variable {ym ys yw yi : Int32} {TG BS LN PM OT VY HE OP AU : Nat → Int32} {M V : Nat → Int32} {m kd : Nat}
theorem tm_tail (hR : tm_RL m M V TG BS LN PM OT VY) {i : Nat} (h1 : 9 + m ≤ i) (hi : i < 41) : TG i = 0 := by
  obtain ⟨w, e1, _⟩ := hR.1 i hi
  obtain ⟨a, rfl⟩ : ∃ a, i = 9 + a := ⟨i - 9, by omega⟩
  rw [e1, tm_sl_hi, hR.2 a (by omega) (by omega), tm_tg0]
/-- the search for a partner -/
theorem ty_op63 {post : Int32 → Prop} {i o : Nat} (hm : m ≤ 32) (hR : tm_RL m M V TG BS LN PM OT VY) (hT : ∀ k, k < 41 → ¬ HE k = 0 → ¬ TG k = 0) (hi : i < 41) (h1 : tm_Pt M (tm_yS HE) (tm_sl i) o → post 1) (h0 : ¬ tm_Pt M (tm_yS HE) (tm_sl i) o → post 0) : ∀ d j : Nat, j + d = 9 + m → (∀ k, k < j → ¬ (¬ HE k = 0 ∧ OT k = nI o ∧ ¬ PM k &&& 128 = 0 ∧ ¬ PM k &&& 16 = PM i &&& 16)) → wY_opens_63 post (nI i) (nI o) (nI m) ys yw yi TG BS LN PM OT VY HE OP AU (d + 1) (nI j) := by
  have e9 : (9 : Int32) + nI m = nI (9 + m) := nI_add 9 m
  obtain ⟨wi, _, _, _, ei4, _, _⟩ := hR.1 i hi
  have pr : ∀ k, k < 41 → ((¬ HE k = 0 ∧ OT k = nI o ∧ ¬ PM k &&& 128 = 0 ∧ ¬ PM k &&& 16 = PM i &&& 16) ↔ (tm_yS HE (tm_sl k) ∧ tm_ot (M (tm_sl k)) = nI o ∧ tm_P (M (tm_sl k)) 7 ∧ (tm_P (M (tm_sl k)) 4 ↔ ¬ tm_P (M (tm_sl i)) 4))) := by
    intro k hk
    obtain ⟨w, e1, e2, e3, e4, e5, e6⟩ := hR.1 k hk
    rw [tm_yS_i hk, ← e5, tm_z128, tm_16]
    unfold tm_P
    rw [← e4, ← ei4]
    cases bt (PM k) 7 <;> cases bt (PM k) 4 <;> cases bt (PM i) 4 <;> simp
  have inp : vp_in (nI i) 41 := vp_in_nI hi (by decide)
  have ci : (nI i).toNatClampNeg = i := nI_clamp (by omega)
  intro d
  induction d with
  | zero =>
    intro j hj hn
    rw [wY_opens_63, e9]
    refine br_t (nI_le (by omega) (by omega)) (h0 ?_)
    intro ⟨s, hs, q⟩
    have hk := tm_rw_lt hs
    have q' := (pr (tm_rw s) hk).mpr (by rw [tm_sr hs]; exact q)
    rcases Nat.lt_or_ge (tm_rw s) j with z | z
    · exact hn _ z q'
    · exact hT _ hk q'.1 (tm_tail hR (by omega) hk)
  | succ d ih =>
    intro j hj hn
    rw [wY_opens_63, e9]
    have inj : vp_in (nI j) 41 := vp_in_nI (by omega) (by decide)
    have cj : (nI j).toNatClampNeg = j := nI_clamp (by omega)
    dsimp only
    rw [cj]
    refine br_f (nI_ge (by omega) (by omega)) (And.intro inj ?_)
    have next : ¬ (¬ HE j = 0 ∧ OT j = nI o ∧ ¬ PM j &&& 128 = 0 ∧ ¬ PM j &&& 16 = PM i &&& 16) → ∀ x4, x4 = nI j + 1 → wY_opens_63 post (nI i) (nI o) (nI m) ys yw yi TG BS LN PM OT VY HE OP AU (d + 1) x4 := by
      intro q
      refine nm_r (nI_1 j) (ih (j + 1) (by omega) (fun k hk => ?_))
      by_cases e : k = j
      · subst e; exact q
      · exact hn k (by omega)
    refine br_c (fun y1 => ?_) (fun y1 => And.intro inj (br_c (fun y2 => And.intro inj (br_c (fun y3 => ?_) (fun y3 => ?_))) (fun y2 => ?_)))
    · unfold wY_opens_114 wY_opens_115
      exact br_t rfl (next (fun q => q.1 y1))
    · unfold wY_opens_114 wY_opens_115
      exact br_t rfl (next (fun q => q.2.2.1 y3))
    · unfold wY_opens_115
      rw [cj, ci]
      refine br_f tm_d10 (And.intro inj (And.intro inp (br_c (fun y4 => next (fun q => q.2.2.2 y4)) (fun y4 => h1 ?_))))
      have q := (pr j (by omega)).mp ⟨y1, y2, y3, y4⟩
      exact ⟨tm_sl j, tm_sl_lt (by omega), q⟩
    · unfold wY_opens_114 wY_opens_115
      exact br_t rfl (next (fun q => y2 q.2.1))
theorem ty_opens {post : Int32 → Prop} {i : Nat} (hm : m ≤ 32) (hR : tm_RL m M V TG BS LN PM OT VY) (hT : ∀ k, k < 41 → ¬ HE k = 0 → ¬ TG k = 0) (hA : tm_YI M (tm_yS OP) AU) (hk : kd < 2) (hi : i < 41) (h : ∀ r : Int32, (¬ r = 0 ↔ tm_Op M kd (tm_yS HE) (tm_yS OP) (tm_sl i)) → post r) : wpY_opens post (nI m, ys, yw, yi, TG, BS, LN, PM, OT, VY, HE, OP, AU) (nI i) (nI kd) := by
  obtain ⟨w, e1, e2, e3, e4, e5, e6⟩ := hR.1 i hi
  have inp : vp_in (nI i) 41 := vp_in_nI hi (by decide)
  have ci : (nI i).toNatClampNeg = i := nI_clamp (by omega)
  unfold wpY_opens
  dsimp only
  rw [ci]
  refine And.intro inp ?_
  rcases tm_ot' hm w with z | ⟨o, ho, z⟩
  · have z' : OT i = -1 := e5.trans z
    refine nm_r z' (br_f (by decide) (h 1 ⟨fun _ o ho eo => ?_, fun _ => tm_d10⟩))
    rw [z] at eo
    have : ¬ (nI o : Int32) < 0 := nI_pos (by omega)
    rw [← eo] at this
    exact absurd tm_m1lt this
  · have z' : OT i = nI o := e5.trans z
    have eo : ∀ o', o' < 32 → tm_ot (M (tm_sl i)) = nI o' → o' = o := fun o' ho' e => by
      rw [z, nI_eq (by omega) (by omega)] at e
      exact e.symm
    refine nm_r z' (br_t (nI_pos' (by omega)) ?_)
    have ino : vp_in (nI o) 32 := vp_in_nI (by omega) (by decide)
    rw [nI_clamp (n := o) (by omega)]
    refine And.intro ino (br_c (fun y => ?_) (fun y => h 1 ⟨fun _ o' ho' e => ?_, fun _ => tm_d10⟩))
    · rw [tm_z64] at y
      have n6 : ¬ tm_Au M (tm_yS OP) o 6 := fun q => by
        rw [← hA o (by omega) 6 (by omega), y] at q
        exact absurd q (by decide)
      refine br_c (fun q => h 0 ⟨fun c => absurd rfl c, fun c => ?_⟩) (fun q => And.intro inp (br_c (fun p => h 0 ⟨fun c => absurd rfl c, fun c => ?_⟩) (fun p => And.intro ino (br_c (fun a => ?_) (fun a => h 1 ⟨fun _ o' ho' e => ?_, fun _ => tm_d10⟩)))))
      · have k0 : kd = 0 := (nI_eq (b := 0) (by omega) (by omega)).mp q
        rcases c o (by omega) z with c | c
        · exact absurd c n6
        · exact absurd c.1 (by omega)
      · rw [tm_z128, e4] at p
        rcases c o (by omega) z with c | c
        · exact absurd c n6
        · have := c.2.1
          unfold tm_P at this
          rw [p] at this
          exact absurd this (by decide)
      · have k1 : kd = 1 := by
          have : kd ≠ 0 := fun e => q (by rw [e]; rfl)
          omega
        have p7 : tm_P (M (tm_sl i)) 7 := by
          rw [tm_z128, tm_nT, e4] at p
          exact p
        rw [tm_z32] at a
        have n5 : ¬ tm_Au M (tm_yS OP) o 5 := fun q => by
          rw [← hA o (by omega) 5 (by omega), a] at q
          exact absurd q (by decide)
        refine ⟨9 + m + 1, ty_op63 hm hR hT hi (fun c => h 1 ⟨fun _ o' ho' e => ?_, fun _ => tm_d10⟩) (fun c => h 0 ⟨fun c => absurd rfl c, fun d => ?_⟩) (9 + m) 0 (by omega) (fun k hk => absurd hk (by omega))⟩
        · rw [eo o' ho' e]
          exact Or.inr ⟨k1, p7, Or.inr c⟩
        · rcases d o (by omega) z with d | d
          · exact absurd d n6
          · rcases d.2.2 with d | d
            · exact absurd d n5
            · exact absurd d c
      · have k1 : kd = 1 := by
          have : kd ≠ 0 := fun e => q (by rw [e]; rfl)
          omega
        rw [tm_z128, tm_nT, e4] at p
        rw [tm_z32, tm_nT] at a
        rw [eo o' ho' e]
        exact Or.inr ⟨k1, p, Or.inl ((hA o (by omega) 5 (by omega)).mp a)⟩
    · rw [tm_z64, tm_nT] at y
      rw [eo o' ho' e]
      exact Or.inl ((hA o (by omega) 6 (by omega)).mp y)
end
end
section
/-! Y's closure: rows and passes -/
abbrev tm_J : Type := Int32 → Int32 → (Nat → Int32) → (Nat → Int32) → (Nat → Int32) → (Nat → Int32) → (Nat → Int32) → (Nat → Int32) → (Nat → Int32) → (Nat → Int32) → (Nat → Int32) → Prop
theorem tm_vI_iff {bs ln x : Int32} : ¬ tm_vI bs ln x = 0 ↔ ¬ x < bs ∧ ¬ bs + ln ≤ x := by
  refine ⟨tm_vI0, fun h => ?_⟩
  unfold tm_vI
  rw [if_neg h.1, if_neg h.2]
  exact tm_d10
section
variable {ys yw yi : Int32} {TG BS LN PM OT VY M V : Nat → Int32} {m kd : Nat} {post : SY → Prop} {J53 J68 : tm_J} {x2 x3 : Int32}
theorem ty_175 {HE OP AU : Nat → Int32} {x1 : Int32} {i : Nat} (hm : m ≤ 32) (hR : tm_RL m M V TG BS LN PM OT VY) (hi : i < 41) (h : ∀ AU' : Nat → Int32, (∀ a, a < 32 → ∀ p, p < 8 → (bt (AU' a) p = true ↔ bt (AU a) p = true ∨ (tm_In (M (tm_sl i)) a ∧ tm_P (M (tm_sl i)) p))) → J68 x2 (nI (i + 1)) TG BS LN PM OT VY HE OP AU') : ∀ d x : Nat, x + d = m → ∀ AU1 : Nat → Int32, (∀ a, a < 32 → ∀ p, p < 8 → (bt (AU1 a) p = true ↔ bt (AU a) p = true ∨ (a < x ∧ tm_In (M (tm_sl i)) a ∧ tm_P (M (tm_sl i)) p))) → wY_close_175 post J53 J68 x1 x2 x3 (nI i) (nI m) ys yw yi (d + 1) (nI x) TG BS LN PM OT VY HE OP AU1 := by
  obtain ⟨w, e1, e2, e3, e4, e5, e6⟩ := hR.1 i hi
  have inp : vp_in (nI i) 41 := vp_in_nI hi (by decide)
  have ci : (nI i).toNatClampNeg = i := nI_clamp (by omega)
  intro d
  induction d with
  | zero =>
    intro x hx AU1 h1
    rw [wY_close_175]
    refine br_t (nI_le (by omega) (by omega)) (nm_r (nI_1 i) (h AU1 (fun a ha p hp => (h1 a ha p hp).trans ?_)))
    exact ⟨fun y => y.imp id (fun y => y.2), fun y => y.imp id (fun y => ⟨by have := tm_in_lt hm w (by omega) y.1; omega, y⟩)⟩
  | succ d ih =>
    intro x hx AU1 h1
    rw [wY_close_175]
    refine br_f (nI_ge (by omega) (by omega)) ?_
    refine ty_inside inp ?_
    rw [ci]
    refine br_c (fun z => ?_) (fun z => ?_)
    · refine nm_r (nI_1 x) (ih (x + 1) (by omega) AU1 (fun a ha p hp => (h1 a ha p hp).trans ?_))
      refine ⟨fun y => y.imp id (fun y => ⟨by omega, y.2⟩), fun y => y.imp id (fun y => ⟨?_, y.2⟩)⟩
      have : a ≠ x := fun e => by
        subst e
        have q := y.2.1
        unfold tm_In at q
        rw [← e2, ← e3] at q
        exact absurd z (tm_vI_iff.mpr q)
      omega
    · have q : tm_In (M (tm_sl i)) x := by
        unfold tm_In
        rw [← e2, ← e3]
        exact tm_vI_iff.mp z
      have inx : vp_in (nI x) 32 := vp_in_nI (by omega) (by decide)
      rw [nI_clamp (n := x) (by omega)]
      refine And.intro inx (And.intro inp (And.intro inx (nm_e (nm_r (nI_1 x) (ih (x + 1) (by omega) _ (fun a ha p hp => ?_))))))
      by_cases e : a = x
      · subst e
        rw [pk_us, b_or, Bool.or_eq_true, h1 a ha p hp, e4]
        constructor
        · intro y
          rcases y with (y | y) | y
          · exact Or.inl y
          · exact absurd y.1 (by omega)
          · exact Or.inr ⟨by omega, q, y⟩
        · intro y
          rcases y with y | y
          · exact Or.inl (Or.inl y)
          · exact Or.inr y.2.2
      · rw [pk_un e]
        exact (h1 a ha p hp).trans ⟨fun y => y.imp id (fun y => ⟨by omega, y.2⟩), fun y => y.imp id (fun y => ⟨by omega, y.2⟩)⟩
theorem ty_132 {HE OP AU : Nat → Int32} {i : Nat} (hm : m ≤ 32) (hR : tm_RL m M V TG BS LN PM OT VY) (hT : ∀ k, k < 41 → ¬ HE k = 0 → ¬ TG k = 0) (hA : tm_YI M (tm_yS OP) AU) (hk : kd < 2) (hi : i < 41)
    (hN : HE i = 0 ∨ ¬ OP i = 0 ∨ ¬ tm_Op M kd (tm_yS HE) (tm_yS OP) (tm_sl i) → J68 x2 (nI (i + 1)) TG BS LN PM OT VY HE OP AU)
    (hY : ¬ HE i = 0 → OP i = 0 → tm_Op M kd (tm_yS HE) (tm_yS OP) (tm_sl i) → ∀ AU' : Nat → Int32, (∀ a, a < 32 → ∀ p, p < 8 → (bt (AU' a) p = true ↔ bt (AU a) p = true ∨ (tm_In (M (tm_sl i)) a ∧ tm_P (M (tm_sl i)) p))) → J68 1 (nI (i + 1)) TG BS LN PM OT VY HE (upd OP i 1) AU') : wY_close_132 post J53 J68 (nI kd) x2 x3 (nI i) (nI m) ys yw yi TG BS LN PM OT VY HE OP AU := by
  have inp : vp_in (nI i) 41 := vp_in_nI hi (by decide)
  unfold wY_close_132
  rw [nI_clamp (n := i) (by omega)]
  refine And.intro inp (br_c (fun z => nm_r (nI_1 i) (hN (Or.inl z))) (fun z => And.intro inp (br_c (fun y => ?_) (fun y => nm_r (nI_1 i) (hN (Or.inr (Or.inl y)))))))
  refine ty_opens hm hR hT hA hk hi (fun r hr => br_c (fun q => nm_r (nI_1 i) (hN (Or.inr (Or.inr (fun c => hr.mpr c q))))) (fun q => And.intro inp (nm_e ⟨m + 1, ?_⟩)))
  exact ty_175 hm hR hi (hY z y (hr.mp q)) m 0 (by omega) AU (fun a ha p hp => ⟨Or.inl, fun y => y.elim id (fun y => absurd y.1 (by omega))⟩)
/-- the marks -/
noncomputable def tm_ct (A B : Nat → Int32) : Nat := cn (fun i => ¬ A i = 0) 41 + cn (fun i => ¬ B i = 0) 41
theorem tm_ct_u {A : Nat → Int32} {i : Nat} (hi : i < 41) (h : A i = 0) : cn (fun i => ¬ A i = 0) 41 < cn (fun k => ¬ upd A i 1 k = 0) 41 := by
  refine cn_lt (a := i) (fun z => z h) ?_ (fun k hk y => ?_) hi
  · show ¬ upd A i 1 i = 0
    rw [pk_us]; exact tm_d10
  · show ¬ upd A i 1 k = 0
    by_cases e : k = i
    · subst e; exact absurd h y
    · rw [pk_un e]; exact y
def tm_RC (M : Nat → Int32) (kd : Nat) (TG HE OP : Nat → Int32) (k : Nat) : Prop := (¬ TG k = 0 → k < 9 ∨ tm_Au M (tm_yS OP) (k - 9) 2 → ¬ HE k = 0) ∧ (¬ HE k = 0 → tm_Op M kd (tm_yS HE) (tm_yS OP) (tm_sl k) → ¬ OP k = 0)
def tm_YA (M : Nat → Int32) (kd : Nat) (TG HE OP AU : Nat → Int32) : Prop := tm_YI M (tm_yS OP) AU ∧ tm_Sb M kd (tm_yS HE) (tm_yS OP) ∧ (∀ k, k < 41 → ¬ HE k = 0 → ¬ TG k = 0)
def tm_PI (M : Nat → Int32) (kd : Nat) (TG : Nat → Int32) (c0 j : Nat) (x2 : Int32) (HE OP AU : Nat → Int32) : Prop := tm_YA M kd TG HE OP AU ∧ (x2 = 0 → ∀ k, k < j → tm_RC M kd TG HE OP k) ∧ (¬ x2 = 0 → c0 < tm_ct HE OP) ∧ c0 ≤ tm_ct HE OP
/-- one more is held -/
theorem tm_ya_h {HE OP AU : Nat → Int32} {i : Nat} (hR : tm_RL m M V TG BS LN PM OT VY) (hi : i < 41) (A : tm_YA M kd TG HE OP AU) (hg : ¬ TG i = 0) (h : i < 9 ∨ tm_Au M (tm_yS OP) (i - 9) 2) : tm_YA M kd TG (upd HE i 1) OP AU := by
  obtain ⟨a1, a2, a3⟩ := A
  refine ⟨a1, tm_sbh a2 (fun s hs y => ?_), fun k hk y => ?_⟩
  · rcases (tm_yS_u hi hs).mp y with y | y
    · exact Or.inl y
    · subst y
      refine Or.inr ⟨by rw [← (hR.1 i hi).2.1]; exact hg, ?_⟩
      by_cases h9 : i < 9
      · exact Or.inl (by rw [tm_sl_lo h9]; omega)
      · obtain ⟨a, rfl⟩ : ∃ a, i = 9 + a := ⟨i - 9, by omega⟩
        rw [tm_sl_hi]
        have := h.resolve_left h9
        rw [show 9 + a - 9 = a by omega] at this
        exact Or.inr this
  · by_cases e : k = i
    · subst e; exact hg
    · rw [pk_un e] at y; exact a3 k hk y
/-- one more is opened -/
theorem tm_ya_o {HE OP AU AU' : Nat → Int32} {i : Nat} (hi : i < 41) (A : tm_YA M kd TG HE OP AU) (h1 : ¬ HE i = 0) (h2 : tm_Op M kd (tm_yS HE) (tm_yS OP) (tm_sl i)) (h : ∀ a, a < 32 → ∀ p, p < 8 → (bt (AU' a) p = true ↔ bt (AU a) p = true ∨ (tm_In (M (tm_sl i)) a ∧ tm_P (M (tm_sl i)) p))) : tm_YA M kd TG HE (upd OP i 1) AU' := by
  obtain ⟨a1, a2, a3⟩ := A
  refine ⟨fun a ha p hp => ?_, tm_sbo a2 (fun s hs y => ?_), a3⟩
  · rw [h a ha p hp, a1 a ha p hp]
    constructor
    · intro z
      rcases z with ⟨j, j1, j2, j3⟩ | z
      · exact ⟨j, j1, (tm_yS_u hi j1).mpr (Or.inl j2), j3⟩
      · exact ⟨tm_sl i, tm_sl_lt hi, (tm_yS_u hi (tm_sl_lt hi)).mpr (Or.inr rfl), z⟩
    · intro ⟨j, j1, j2, j3⟩
      rcases (tm_yS_u hi j1).mp j2 with z | z
      · exact Or.inl ⟨j, j1, z, j3⟩
      · subst z; exact Or.inr j3
  · rcases (tm_yS_u hi hs).mp y with y | y
    · exact Or.inl y
    · subst y; exact Or.inr ⟨(tm_yS_i hi).mpr h1, h2⟩
theorem ty_68 {c0 : Nat} (hm : m ≤ 32) (hR : tm_RL m M V TG BS LN PM OT VY) (hk : kd < 2) (hJ : ∀ (x2' : Int32) (HE' OP' AU' : Nat → Int32), tm_PI M kd TG c0 (9 + m) x2' HE' OP' AU' → ∀ x, x = x3 + 1 → J53 x2' x TG BS LN PM OT VY HE' OP' AU') : ∀ d j : Nat, j + d = 9 + m → ∀ (x2 : Int32) (HE OP AU : Nat → Int32), tm_PI M kd TG c0 j x2 HE OP AU → wY_close_68 post J53 (nI kd) x3 (nI m) ys yw yi (d + 1) x2 (nI j) TG BS LN PM OT VY HE OP AU := by
  have e9 : (9 : Int32) + nI m = nI (9 + m) := nI_add 9 m
  intro d
  induction d with
  | zero =>
    intro j hj x2 HE OP AU I
    have : j = 9 + m := by omega
    subst this
    rw [wY_close_68]
    rw [e9]
    exact br_t (nI_le (by omega) (by omega)) (hJ x2 HE OP AU I)
  | succ d ih =>
    intro j hj x2 HE OP AU I
    obtain ⟨A, i1, i2, i3⟩ := I
    have hi : j < 41 := by omega
    have inp : vp_in (nI j) 41 := vp_in_nI hi (by decide)
    have no : ¬ (¬ TG j = 0 ∧ HE j = 0 ∧ (j < 9 ∨ tm_Au M (tm_yS OP) (j - 9) 2)) → wY_close_132 post J53 (wY_close_68 post J53 (nI kd) x3 (nI m) ys yw yi (d + 1)) (nI kd) x2 x3 (nI j) (nI m) ys yw yi TG BS LN PM OT VY HE OP AU := by
      intro z
      refine ty_132 hm hR A.2.2 A.1 hk hi (fun y => ih (j + 1) (by omega) x2 HE OP AU ⟨A, fun q k hk' => ?_, i2, i3⟩) (fun y1 y2 y3 AU' hAU => ih (j + 1) (by omega) 1 HE _ AU' ⟨tm_ya_o hi A y1 y3 hAU, fun q => absurd q tm_d10, fun _ => ?_, ?_⟩)
      · by_cases e : k = j
        · subst e
          refine ⟨fun g w u => z ⟨g, u, w⟩, fun g w => ?_⟩
          rcases y with y | y | y
          · exact absurd y g
          · exact y
          · exact absurd w y
        · exact i1 q k (by omega)
      · have := tm_ct_u hi y2
        unfold tm_ct at i3 ⊢
        omega
      · have := tm_ct_u hi y2
        unfold tm_ct at i3 ⊢
        omega
    have yes : ¬ TG j = 0 → HE j = 0 → (j < 9 ∨ tm_Au M (tm_yS OP) (j - 9) 2) → wY_close_122 post J53 (wY_close_68 post J53 (nI kd) x3 (nI m) ys yw yi (d + 1)) (nI kd) x3 (nI j) (nI m) ys yw yi TG BS LN PM OT VY HE OP AU := by
      intro z1 z2 z3
      have A' := tm_ya_h hR hi A z1 z3
      have cu := tm_ct_u hi z2
      unfold wY_close_122
      rw [nI_clamp (n := j) (by omega)]
      refine And.intro inp (nm_r (e' := upd HE j 1) rfl ?_)
      refine ty_132 hm hR A'.2.2 A'.1 hk hi (fun y => ih (j + 1) (by omega) 1 _ OP AU ⟨A', fun q => absurd q tm_d10, fun _ => ?_, ?_⟩) (fun y1 y2 y3 AU' hAU => ih (j + 1) (by omega) 1 _ _ AU' ⟨tm_ya_o hi A' y1 y3 hAU, fun q => absurd q tm_d10, fun _ => ?_, ?_⟩)
      · unfold tm_ct at i3 ⊢
        omega
      · unfold tm_ct at i3 ⊢
        omega
      · have := tm_ct_u hi y2
        unfold tm_ct at i3 ⊢
        omega
      · have := tm_ct_u hi y2
        unfold tm_ct at i3 ⊢
        omega
    rw [wY_close_68]
    rw [e9]
    refine br_f (nI_ge (by omega) (by omega)) (And.intro inp ?_)
    rw [nI_clamp (n := j) (by omega)]
    refine br_c (fun y1 => no (fun q => q.1 y1)) (fun y1 => And.intro inp (br_c (fun y2 => br_c (fun y3 => ?_) (fun y3 => ?_)) (fun y2 => no (fun q => y2 q.2.1))))
    · have : j < 9 := (nI_ltI (b := 9) (by omega) (by omega)).mp y3
      exact yes y1 y2 (Or.inl this)
    · have h9 : ¬ j < 9 := fun e => y3 (nI_lt (b := 9) e (by omega))
      have es : nI j - 9 = nI (j - 9) := pk_sub (b := 9) (by omega)
      rw [es, nI_clamp (n := j - 9) (by omega)]
      refine And.intro (vp_in_nI (by omega) (by decide)) (br_c (fun y4 => no (fun q => ?_)) (fun y4 => yes y1 y2 (Or.inr ?_)))
      · rw [tm_z4] at y4
        have := (A.1 (j - 9) (by omega) 2 (by omega)).mpr (q.2.2.resolve_left h9)
        rw [y4] at this
        exact absurd this (by decide)
      · rw [tm_z4, tm_nT] at y4
        exact (A.1 (j - 9) (by omega) 2 (by omega)).mp y4
end
end
section
/-! Y's closure: the passes and the whole -/
section
variable {ys yw yi : Int32} {TG BS LN PM OT VY M V : Nat → Int32} {m kd : Nat} {post : SY → Prop}
theorem tm_ycl {HE OP AU : Nat → Int32} (hR : tm_RL m M V TG BS LN PM OT VY) (A : tm_YA M kd TG HE OP AU) (h : ∀ k, k < 9 + m → tm_RC M kd TG HE OP k) : tm_Cl M kd (tm_yS HE) (tm_yS OP) := by
  have low : ∀ s, s < 41 → tm_tg (M s) ≠ 0 → tm_rw s < 9 + m := by
    intro s hs hg
    rcases Nat.lt_or_ge (tm_rw s) (9 + m) with z | z
    · exact z
    · have hk := tm_rw_lt hs
      have := tm_tail hR z hk
      rw [(hR.1 _ hk).2.1, tm_sr hs] at this
      exact absurd this hg
  refine ⟨fun s hs hg y => ?_, fun s hs h1 h2 => ?_⟩
  · have hk := tm_rw_lt hs
    refine (h _ (low s hs hg)).1 ?_ ?_
    · rw [(hR.1 _ hk).2.1, tm_sr hs]; exact hg
    · by_cases z : s < 32
      · have e : tm_rw s = 9 + s := if_pos z
        rw [e, show 9 + s - 9 = s by omega]
        exact Or.inr (y.resolve_left (by omega))
      · have e : tm_rw s = s - 32 := if_neg z
        exact Or.inl (by omega)
  · have hk := tm_rw_lt hs
    have hg : tm_tg (M s) ≠ 0 := by
      have := A.2.2 _ hk h1
      rw [(hR.1 _ hk).2.1, tm_sr hs] at this
      exact this
    exact (h _ (low s hs hg)).2 h1 (by rw [tm_sr hs]; exact h2)
theorem tm_ct_le (A B : Nat → Int32) : tm_ct A B ≤ 82 := by
  have h1 := cn_le (fun i => ¬ A i = 0) 41
  have h2 := cn_le (fun i => ¬ B i = 0) 41
  unfold tm_ct
  omega
theorem ty_53 (hm : m ≤ 32) (hR : tm_RL m M V TG BS LN PM OT VY) (hk : kd < 2) (h : ∀ HE' OP' AU' : Nat → Int32, (∀ a, a < 32 → ∀ p, p < 8 → (bt (AU' a) p = true ↔ tm_An M kd a p)) → post (nI m, ys, yw, yi, TG, BS, LN, PM, OT, VY, HE', OP', AU')) : ∀ d k : Nat, k + d = 100 → ∀ (x2 : Int32) (HE OP AU : Nat → Int32), tm_YA M kd TG HE OP AU → (x2 = 0 → ∀ i, i < 9 + m → tm_RC M kd TG HE OP i) → (¬ x2 = 0 → k ≤ tm_ct HE OP) → wY_close_53 post (nI kd) (nI m) ys yw yi (d + 1) x2 (nI k) TG BS LN PM OT VY HE OP AU := by
  have fin : ∀ HE OP AU : Nat → Int32, tm_YA M kd TG HE OP AU → (∀ i, i < 9 + m → tm_RC M kd TG HE OP i) → post (nI m, ys, yw, yi, TG, BS, LN, PM, OT, VY, HE, OP, AU) := fun HE OP AU A z => h HE OP AU (fun a ha p hp => (A.1 a ha p hp).trans (tm_an (tm_ycl hR A z) A.2.1).symm)
  intro d
  induction d with
  | zero =>
    intro k hd x2 HE OP AU A h1 h2
    rw [wY_close_53]
    refine br_t (nI_le (a := 100) (by omega) (by omega)) (fin HE OP AU A (h1 ?_))
    refine Classical.byContradiction fun z => ?_
    have := h2 z
    have := tm_ct_le HE OP
    omega
  | succ d ih =>
    intro k hd x2 HE OP AU A h1 h2
    rw [wY_close_53]
    refine br_f (nI_ge (b := 100) (by omega) (by omega)) (br_c (fun z => fin HE OP AU A (h1 z)) (fun z => ⟨9 + m + 1, ?_⟩))
    refine ty_68 (c0 := tm_ct HE OP) hm hR hk (fun x2' HE' OP' AU' I => nm_r (nI_1 k) (ih (k + 1) (by omega) x2' HE' OP' AU' I.1 I.2.1 (fun q => ?_))) (9 + m) 0 (by omega) 0 HE OP AU ⟨A, fun _ k hk => absurd hk (by omega), fun q => absurd rfl q, Nat.le_refl _⟩
    have a := I.2.2.1 q
    have b := h2 z
    omega
theorem ty_30 {HE OP : Nat → Int32} (h : ∀ AU' : Nat → Int32, (∀ a, a < 32 → AU' a = 0) → ∃ n53, wY_close_53 post (nI kd) (nI m) ys yw yi n53 1 0 TG BS LN PM OT VY HE OP AU') : ∀ d j : Nat, j + d = 32 → ∀ AU : Nat → Int32, (∀ a, a < j → AU a = 0) → wY_close_30 post (nI kd) (nI m) ys yw yi (d + 1) (nI j) TG BS LN PM OT VY HE OP AU := by
  intro d
  induction d with
  | zero =>
    intro j hj AU hA
    have : j = 32 := by omega
    subst this
    rw [wY_close_30]
    exact br_t (nI_le (a := 32) (by omega) (by omega)) (h AU hA)
  | succ d ih =>
    intro j hj AU hA
    rw [wY_close_30]
    refine br_f (nI_ge (b := 32) (by omega) (by omega)) (And.intro (vp_in_nI (by omega) (by decide)) ?_)
    rw [nI_clamp (n := j) (by omega)]
    refine nm_e (nm_r (nI_1 j) (ih (j + 1) (by omega) _ (fun a ha => ?_)))
    by_cases e : a = j
    · subst e; exact pk_us
    · rw [pk_un e]; exact hA a (by omega)
theorem ty_2 {AU : Nat → Int32} (h : ∀ HE' OP' : Nat → Int32, (∀ i, i < 41 → HE' i = 0) → (∀ i, i < 41 → OP' i = 0) → ∃ n30, wY_close_30 post (nI kd) (nI m) ys yw yi n30 0 TG BS LN PM OT VY HE' OP' AU) : ∀ d j : Nat, j + d = 41 → ∀ HE OP : Nat → Int32, (∀ i, i < j → HE i = 0) → (∀ i, i < j → OP i = 0) → wY_close_2 post (nI kd) (nI m) ys yw yi (d + 1) (nI j) TG BS LN PM OT VY HE OP AU := by
  intro d
  induction d with
  | zero =>
    intro j hj HE OP h1 h2
    have : j = 41 := by omega
    subst this
    rw [wY_close_2]
    exact br_t (nI_le (a := 41) (by omega) (by omega)) (h HE OP h1 h2)
  | succ d ih =>
    intro j hj HE OP h1 h2
    rw [wY_close_2]
    have inp : vp_in (nI j) 41 := vp_in_nI (by omega) (by decide)
    refine br_f (nI_ge (b := 41) (by omega) (by omega)) (And.intro inp ?_)
    rw [nI_clamp (n := j) (by omega)]
    refine nm_e (And.intro inp (nm_e (nm_r (nI_1 j) (ih (j + 1) (by omega) _ _ (fun a ha => ?_) (fun a ha => ?_)))))
    · by_cases e : a = j
      · subst e; rw [pk_us]; rfl
      · rw [pk_un e]; exact h1 a (by omega)
    · by_cases e : a = j
      · subst e; rw [pk_us]; rfl
      · rw [pk_un e]; exact h2 a (by omega)
theorem ty_close {HE OP AU : Nat → Int32} (hm : m ≤ 32) (hR : tm_RL m M V TG BS LN PM OT VY) (hk : kd < 2) (h : ∀ HE' OP' AU' : Nat → Int32, (∀ a, a < 32 → ∀ p, p < 8 → (bt (AU' a) p = true ↔ tm_An M kd a p)) → post (nI m, ys, yw, yi, TG, BS, LN, PM, OT, VY, HE', OP', AU')) : wpY_close post (nI m, ys, yw, yi, TG, BS, LN, PM, OT, VY, HE, OP, AU) (nI kd) := by
  unfold wpY_close
  refine ⟨42, ty_2 (fun HE' OP' h1 h2 => ⟨33, ty_30 (fun AU' h3 => ⟨101, ?_⟩) 32 0 rfl AU (fun a ha => absurd ha (by omega))⟩) 41 0 rfl HE OP (fun a ha => absurd ha (by omega)) (fun a ha => absurd ha (by omega))⟩
  have nH : ∀ s, s < 41 → ¬ tm_yS HE' s := fun s hs z => z (h1 _ (tm_rw_lt hs))
  have nO : ∀ s, s < 41 → ¬ tm_yS OP' s := fun s hs z => z (h2 _ (tm_rw_lt hs))
  refine ty_53 hm hR hk h 100 0 rfl 1 HE' OP' AU' ⟨fun a ha p hp => ?_, tm_sb0 nH nO, fun k hk z => absurd (h1 k hk) z⟩ (fun z => absurd z tm_d10) (fun _ => Nat.zero_le _)
  rw [h3 a ha, b_0]
  exact ⟨fun z => absurd z (by decide), fun ⟨s, hs, z, _⟩ => absurd z (nO s hs)⟩
end
end
section
/-! the questions of authority -/
def tm_Cq (M : Nat → Int32) (kd : Nat) (p : Int32) (a : Nat) : Prop := ¬ p < 1 ∧ p ≤ 255 ∧ ∀ q, q < 8 → bt p q = true → tm_An M kd a q
theorem tm_hi {p : Int32} (h0 : ¬ p < 1) (h1 : p ≤ 255) {q : Nat} (hq : 8 ≤ q) (h32 : q < 32) : bt p q = false := by
  have z : ¬ p < 0 := fun z => h0 (Int32.lt_of_lt_of_le z (by decide))
  obtain ⟨n, hn, rfl⟩ := nI_of2 (n := 255) (show (255 : Int32).toInt = (255 : Nat) by decide) z h1
  rw [tm_bn _ h32]
  exact tm_tz (k := 8) (by omega) hq
theorem tm_some {p : Int32} (h0 : ¬ p < 1) (h1 : p ≤ 255) : ∃ q, q < 8 ∧ bt p q = true := by
  refine Classical.byContradiction fun z => ?_
  have e : p = 0 := by
    apply b_ext
    intro i hi
    rw [b_0]
    rcases Nat.lt_or_ge i 8 with y | y
    · exact tm_nF.mp (fun e => z ⟨i, y, e⟩)
    · exact tm_hi h0 h1 y hi
  rw [e] at h0
  exact h0 (by decide)
theorem tm_cq_lt {M : Nat → Int32} {m kd a : Nat} {p : Int32} (hm : m ≤ 32) (hw : ∀ s, s < 41 → tm_WF m (M s)) (ha : a < 2 ^ 31) (h : tm_Cq M kd p a) : a < m := by
  obtain ⟨q, hq, e⟩ := tm_some h.1 h.2.1
  exact tm_an_lt hm hw ha (h.2.2 q hq e)
theorem tm_cqn {M : Nat → Int32} {m kd : Nat} {p : Int32} (hm : m ≤ 32) (hw : ∀ s, s < 41 → tm_WF m (M s)) : cn (tm_Cq M kd p) 32 = cn (tm_Cq M kd p) m := by
  have a := tm_cs (tm_Cq M kd p) m (32 - m)
  rw [show m + (32 - m) = 32 by omega] at a
  rw [a, tm_c0 (P := fun i => tm_Cq M kd p (m + i)) (32 - m) (fun i hi z => by have := tm_cq_lt hm hw (by omega) z; omega)]
  rfl
theorem tm_all {y p : Int32} (h0 : ¬ p < 1) (h1 : p ≤ 255) : y &&& p = p ↔ ∀ q, q < 8 → bt p q = true → bt y q = true := by
  constructor
  · intro h q hq e
    have t := congrArg (fun z => bt z q) h
    simp only [b_and, e, Bool.and_true] at t
    exact t
  · intro h
    apply b_ext
    intro i hi
    rw [b_and]
    cases e : bt p i
    · rw [Bool.and_false]
    · rcases Nat.lt_or_ge i 8 with z | z
      · rw [h i z e]; rfl
      · rw [tm_hi h0 h1 z hi] at e
        exact absurd e (by decide)
theorem tm_rv_e {M R R' : Nat → Int32} {kd k' : Nat} (hE : tm_Eo kd R R') (hn : k' ≠ kd) (h : tm_Rv M k' R) : tm_Rv M k' R' := by
  intro p hp a ha
  rw [hE (8 * k' + p) (by omega)]
  exact h p hp a ha
section
variable {rg pq wd st ca iv op rd rs rt im : Int32} {he wa : Int64} {ct dt : Int32} {M V R F : Nat → Int32} {m kd : Nat}
theorem tx_rml {post : Int32 → SX → Prop} {p : Int32} (hk : kd < 2) (h : ∀ mask : Int32, (∀ a, a < 32 → (bt mask a = true ↔ ∀ q, q < 8 → bt p q = true → bt (R (8 * kd + q)) a = true)) → post mask (rg, pq, wd, st, ca, iv, op, rd, rs, rt, im, he, wa, ct, dt, M, V, R, F)) : ∀ d j : Nat, j + d = 8 → ∀ mask : Int32, (∀ a, a < 32 → (bt mask a = true ↔ ∀ q, q < j → bt p q = true → bt (R (8 * kd + q)) a = true)) → wX_reachMask_40 post (nI kd) p rg pq wd st ca iv op rd rs rt im he wa ct dt M V R F (d + 1) mask (nI j) := by
  intro d
  induction d with
  | zero =>
    intro j hj mask h1
    have : j = 8 := by omega
    subst this
    rw [wX_reachMask_40]
    exact br_t (nI_le (a := 8) (by omega) (by omega)) (h mask h1)
  | succ d ih =>
    intro j hj mask h1
    rw [wX_reachMask_40]
    refine br_f (nI_ge (b := 8) (by omega) (by omega)) (br_c (fun z => ?_) (fun z => ?_))
    · rw [tm_bz (by omega)] at z
      refine nm_r (nI_1 j) (ih (j + 1) (by omega) mask (fun a ha => (h1 a ha).trans ⟨fun y q hq e => ?_, fun y q hq e => y q (by omega) e⟩))
      have : q ≠ j := fun w => by rw [w, z] at e; exact absurd e (by decide)
      exact y q (by omega) e
    · rw [tm_bz (by omega), tm_nT] at z
      rw [tm_ix, nI_clamp (n := 8 * kd + j) (by omega)]
      refine And.intro (vp_in_nI (by omega) (by decide)) (nm_e (nm_r (nI_1 j) (ih (j + 1) (by omega) _ (fun a ha => ?_))))
      rw [b_and, Bool.and_eq_true, h1 a ha]
      constructor
      · intro y q hq e
        by_cases w : q = j
        · subst w; exact y.2
        · exact y.1 q (by omega) e
      · intro y
        exact ⟨fun q hq e => y q (by omega) e, y j (by omega) z⟩
theorem tx_reachMask {post : Int32 → SX → Prop} {p : Int32} (hm : m ≤ 32) (hw : ∀ s, s < 41 → tm_WF m (M s)) (hk : kd < 2) (hF : ∀ kd, kd < 2 → F kd = 0 ∨ tm_Rv M kd R) (h : ∀ (mask : Int32) (he' wa' : Int64) (ct' dt' : Int32) (R' F' : Nat → Int32), (∀ kd, kd < 2 → F' kd = 0 ∨ tm_Rv M kd R') → (∀ a, a < 32 → (bt mask a = true ↔ tm_Cq M kd p a)) → post mask (rg, pq, wd, st, ca, iv, op, rd, rs, rt, im, he', wa', ct', dt', M, V, R', F')) : wpX_reachMask post (rg, pq, wd, st, ca, iv, op, rd, rs, rt, im, he, wa, ct, dt, M, V, R, F) (nI kd) p := by
  have z0 : (p < 1 ∨ ¬ p ≤ 255) → post 0 (rg, pq, wd, st, ca, iv, op, rd, rs, rt, im, he, wa, ct, dt, M, V, R, F) := fun q => h 0 he wa ct dt R F hF (fun a ha => by
    rw [b_0]
    exact ⟨fun z => absurd z (by decide), fun z => q.elim (fun y => absurd y z.1) (fun y => absurd z.2.1 y)⟩)
  unfold wpX_reachMask
  refine br_c (fun q => z0 (Or.inl q)) (fun q1 => br_c (fun q2 => And.intro (vp_in_nI (by omega) (by decide)) ?_) (fun q => z0 (Or.inr q)))
  have go : ∀ (he' wa' : Int64) (ct' dt' : Int32) (R' F' : Nat → Int32), (∀ kd, kd < 2 → F' kd = 0 ∨ tm_Rv M kd R') → tm_Rv M kd R' → ∃ n40, wX_reachMask_40 post (nI kd) p rg pq wd st ca iv op rd rs rt im he' wa' ct' dt' M V R' F' n40 (-1) 0 := by
    intro he' wa' ct' dt' R' F' hF' hv
    refine ⟨9, tx_rml hk (fun mask h1 => h mask he' wa' ct' dt' R' F' hF' (fun a ha => (h1 a ha).trans ?_)) 8 0 rfl (-1) (fun a ha => ⟨fun _ q hq => absurd hq (by omega), fun _ => b_m1 a ha⟩)⟩
    exact ⟨fun y => ⟨q1, q2, fun q hq e => (hv q hq a ha).mp (y q hq e)⟩, fun y q hq e => (hv q hq a ha).mpr (y.2.2 q hq e)⟩
  rw [nI_clamp (n := kd) (by omega)]
  refine br_c (fun z => ?_) (fun z => go he wa ct dt R F hF ((hF kd hk).resolve_left z))
  refine tx_close hm hw hk (fun R' he' wa' ct' dt' hv hE => And.intro (vp_in_nI (by omega) (by decide)) (nm_e (go he' wa' ct' dt' R' _ (fun k' hk' => ?_) hv)))
  by_cases e : k' = kd
  · subst e; exact Or.inr hv
  · rw [pk_un e]
    exact (hF k' hk').imp id (tm_rv_e hE e)
theorem tx_cnl {post : Int32 → SX → Prop} {mask : Int32} {Z : Nat → Prop} (hZ : ∀ a, a < 32 → (bt mask a = true ↔ Z a)) (h : post (nI (cn Z 32)) (rg, pq, wd, st, ca, iv, op, rd, rs, rt, im, he, wa, ct, dt, M, V, R, F)) : ∀ d j : Nat, j + d = 32 → wX_countReached_13 post mask rg pq wd st ca iv op rd rs rt im he wa ct dt M V R F (d + 1) (nI (cn Z j)) (nI j) := by
  intro d
  induction d with
  | zero =>
    intro j hj
    have : j = 32 := by omega
    subst this
    rw [wX_countReached_13]
    exact br_t (nI_le (a := 32) (by omega) (by omega)) h
  | succ d ih =>
    intro j hj
    rw [wX_countReached_13]
    refine br_f (nI_ge (b := 32) (by omega) (by omega)) (nm_r (e' := nI (cn Z (j + 1))) ?_ (nm_r (nI_1 j) (ih (j + 1) (by omega))))
    rw [tm_bv (by omega), nI_add]
    refine congrArg nI ?_
    have : b01 (bt mask j = true) = b01 (Z j) := Nat.le_antisymm (b01_mono (hZ j (by omega)).mp) (b01_mono (hZ j (by omega)).mpr)
    rw [this]
    rfl
theorem tx_countReached {post : Int32 → SX → Prop} {p : Int32} (hm : m ≤ 32) (hw : ∀ s, s < 41 → tm_WF m (M s)) (hk : kd < 2) (hF : ∀ kd, kd < 2 → F kd = 0 ∨ tm_Rv M kd R) (h : ∀ (he' wa' : Int64) (ct' dt' : Int32) (R' F' : Nat → Int32), (∀ kd, kd < 2 → F' kd = 0 ∨ tm_Rv M kd R') → post (nI (cn (tm_Cq M kd p) m)) (rg, pq, wd, st, ca, iv, op, rd, rs, rt, im, he', wa', ct', dt', M, V, R', F')) : wpX_countReached post (rg, pq, wd, st, ca, iv, op, rd, rs, rt, im, he, wa, ct, dt, M, V, R, F) (nI kd) p := by
  unfold wpX_countReached
  refine tx_reachMask hm hw hk hF (fun mask he' wa' ct' dt' R' F' hF' hz => ⟨33, tx_cnl hz ?_ 32 0 rfl⟩)
  rw [tm_cqn hm hw]
  exact h he' wa' ct' dt' R' F' hF'
theorem tx_reaches {post : Int32 → SX → Prop} {p x : Int32} (hm : m ≤ 32) (hw : ∀ s, s < 41 → tm_WF m (M s)) (hk : kd < 2) (hF : ∀ kd, kd < 2 → F kd = 0 ∨ tm_Rv M kd R) (h : ∀ (r : Int32) (he' wa' : Int64) (ct' dt' : Int32) (R' F' : Nat → Int32), (∀ kd, kd < 2 → F' kd = 0 ∨ tm_Rv M kd R') → (r = 0 ∨ r = 1) → (r = 1 ↔ ∃ a, a < m ∧ x = nI a ∧ tm_Cq M kd p a) → post r (rg, pq, nI m, st, ca, iv, op, rd, rs, rt, im, he', wa', ct', dt', M, V, R', F')) : wpX_reaches post (rg, pq, nI m, st, ca, iv, op, rd, rs, rt, im, he, wa, ct, dt, M, V, R, F) (nI kd) x p := by
  unfold wpX_reaches
  rcases tm_ad hm x with z | ⟨j, hj, rfl⟩
  · refine tx_addr0 z (br_t rfl (h 0 he wa ct dt R F hF (Or.inl rfl) ⟨fun e => absurd e (by decide), fun ⟨a, ha, e, _⟩ => ?_⟩))
    subst e
    rcases z with z | z
    · exact absurd z (nI_pos (by omega))
    · exact absurd z (nI_ge ha (by omega))
  · refine tx_addr1 hm hj (br_f tm_d10 (tx_reachMask hm hw hk hF (fun mask he' wa' ct' dt' R' F' hF' hz => ?_)))
    have ej : (∃ a, a < m ∧ nI j = nI a ∧ tm_Cq M kd p a) ↔ bt mask j = true := by
      rw [hz j (by omega)]
      constructor
      · intro ⟨a, ha, e, c⟩
        rw [nI_eq (by omega) (by omega)] at e
        rw [e]; exact c
      · intro c
        exact ⟨j, hj, rfl, c⟩
    refine br_c (fun y => h 0 he' wa' ct' dt' R' F' hF' (Or.inl rfl) ?_) (fun y => h 1 he' wa' ct' dt' R' F' hF' (Or.inr rfl) ?_)
    · rw [tm_bz (by omega)] at y
      rw [ej, y]
      exact ⟨fun e => absurd e (by decide), fun e => absurd e (by decide)⟩
    · rw [tm_bz (by omega), tm_nT] at y
      rw [ej, y]
      exact ⟨fun _ => rfl, fun _ => rfl⟩
end
section
variable {ys yw yi : Int32} {TG BS LN PM OT VY M V : Nat → Int32} {m kd : Nat}
theorem ty_reach {HE OP AU : Nat → Int32} {post : Int32 → SY → Prop} {p x : Int32} (hm : m ≤ 32) (hR : tm_RL m M V TG BS LN PM OT VY) (hk : kd < 2) (h : ∀ (r : Int32) (HE' OP' AU' : Nat → Int32), (r = 0 ∨ r = 1) → (r = 1 ↔ ∃ a, a < m ∧ x = nI a ∧ tm_Cq M kd p a) → post r (nI m, ys, yw, yi, TG, BS, LN, PM, OT, VY, HE', OP', AU')) : wpY_reach post (nI m, ys, yw, yi, TG, BS, LN, PM, OT, VY, HE, OP, AU) x p (nI kd) := by
  have z0 : (¬ ∃ a, a < m ∧ x = nI a ∧ tm_Cq M kd p a) → post 0 (nI m, ys, yw, yi, TG, BS, LN, PM, OT, VY, HE, OP, AU) := fun q => h 0 HE OP AU (Or.inl rfl) ⟨fun e => absurd e (by decide), fun e => absurd e q⟩
  unfold wpY_reach
  rcases tm_ad hm x with z | ⟨j, hj, rfl⟩
  · have n0 : ¬ ∃ a, a < m ∧ x = nI a ∧ tm_Cq M kd p a := by
      intro ⟨a, ha, e, _⟩
      subst e
      rcases z with z | z
      · exact absurd z (nI_pos (by omega))
      · exact absurd z (nI_ge ha (by omega))
    exact br_c (fun _ => z0 n0) (fun y => br_t (z.resolve_left y) (z0 n0))
  · refine br_f (nI_pos (by omega)) (br_f (nI_ge hj (by omega)) (br_c (fun q => z0 (fun ⟨a, _, _, c⟩ => c.1 q)) (fun q1 => br_c (fun q2 => ?_) (fun q => z0 (fun ⟨a, _, _, c⟩ => q c.2.1)))))
    refine ty_close hm hR hk (fun HE' OP' AU' hA => And.intro (vp_in_nI (by omega) (by decide)) ?_)
    rw [nI_clamp (n := j) (by omega)]
    have ej : (∃ a, a < m ∧ nI j = nI a ∧ tm_Cq M kd p a) ↔ AU' j &&& p = p := by
      rw [tm_all q1 q2]
      constructor
      · intro ⟨a, ha, e, c⟩ q hq eq
        rw [nI_eq (by omega) (by omega)] at e
        rw [hA j (by omega) q hq, e]
        exact c.2.2 q hq eq
      · intro c
        exact ⟨j, hj, rfl, q1, q2, fun q hq eq => (hA j (by omega) q hq).mp (c q hq eq)⟩
    refine br_c (fun y => h 1 HE' OP' AU' (Or.inr rfl) ⟨fun _ => ej.mpr y, fun _ => rfl⟩) (fun y => h 0 HE' OP' AU' (Or.inl rfl) ⟨fun e => absurd e (by decide), fun e => absurd (ej.mp e) y⟩)
theorem ty_cnl {post : Int32 → SY → Prop} {p : Int32} (hm : m ≤ 32) (hR : tm_RL m M V TG BS LN PM OT VY) (hk : kd < 2) (h : ∀ HE' OP' AU' : Nat → Int32, post (nI (cn (tm_Cq M kd p) m)) (nI m, ys, yw, yi, TG, BS, LN, PM, OT, VY, HE', OP', AU')) : ∀ d j : Nat, j + d = m → ∀ HE OP AU : Nat → Int32, wY_count_5 post p (nI kd) (d + 1) (nI (cn (tm_Cq M kd p) j)) (nI j) (nI m) ys yw yi TG BS LN PM OT VY HE OP AU := by
  intro d
  induction d with
  | zero =>
    intro j hj HE OP AU
    have : j = m := by omega
    subst this
    rw [wY_count_5]
    exact br_t (nI_le (by omega) (by omega)) (h HE OP AU)
  | succ d ih =>
    intro j hj HE OP AU
    rw [wY_count_5]
    refine br_f (nI_ge (by omega) (by omega)) (ty_reach hm hR hk (fun r HE' OP' AU' hr hc => ?_))
    have ej : (∃ a, a < m ∧ nI j = nI a ∧ tm_Cq M kd p a) ↔ tm_Cq M kd p j := by
      constructor
      · intro ⟨a, ha, e, c⟩
        rw [nI_eq (by omega) (by omega)] at e
        rw [e]; exact c
      · intro c
        exact ⟨j, by omega, rfl, c⟩
    have hn := ih (j + 1) (by omega) HE' OP' AU'
    have hcn : cn (tm_Cq M kd p) (j + 1) = cn (tm_Cq M kd p) j + b01 (tm_Cq M kd p j) := rfl
    rw [ej] at hc
    refine br_c (fun z => ?_) (fun z => ?_)
    · rw [hcn, b01_f (fun c => by have := hc.mpr c; rw [z] at this; exact absurd this (by decide))] at hn
      exact nm_r (nI_1 j) hn
    · rw [hcn, b01_t (hc.mp (hr.resolve_left z))] at hn
      exact nm_r (nI_1 _) (nm_r (nI_1 j) hn)
theorem ty_count {HE OP AU : Nat → Int32} {post : Int32 → SY → Prop} {p : Int32} (hm : m ≤ 32) (hR : tm_RL m M V TG BS LN PM OT VY) (hk : kd < 2) (h : ∀ HE' OP' AU' : Nat → Int32, post (nI (cn (tm_Cq M kd p) m)) (nI m, ys, yw, yi, TG, BS, LN, PM, OT, VY, HE', OP', AU')) : wpY_count post (nI m, ys, yw, yi, TG, BS, LN, PM, OT, VY, HE, OP, AU) p (nI kd) := by
  unfold wpY_count
  exact ⟨m + 1, ty_cnl hm hR hk h m 0 (by omega) HE OP AU⟩
end
end
section
/-! what is owed -/
theorem i_vc_size {k : Nat} {u : SX} {v : SY} (I : i_Rel k u v) (hk : k + 5 ≤ 2561) : wpX_size (fun r => wpY_size (fun r' => r' = r ∧ i_Rel (k + 5) u v) v) u := by
  refine tm_el (P := fun u v => wpX_size (fun r => wpY_size (fun r' => r' = r ∧ i_Rel (k + 5) u v) v) u) ?_ I
  intro rg pq wd st ca iv op rd rs rt im he wa ct dt M V R F ym ys yw yi TG BS LN PM OT VY HE OP AU m hr
  obtain ⟨h16, hm, rfl, rfl, rfl, rfl, rfl, hR, hF⟩ := hr
  exact ⟨rfl, tm_rel_mk ⟨h16, hm, rfl, rfl, rfl, rfl, rfl, hR, hF⟩⟩
theorem i_vc_status {k : Nat} {u : SX} {v : SY} (I : i_Rel k u v) (hk : k + 5 ≤ 2561) : wpX_status (fun r => wpY_status (fun r' => r' = r ∧ i_Rel (k + 5) u v) v) u := by
  refine tm_el (P := fun u v => wpX_status (fun r => wpY_status (fun r' => r' = r ∧ i_Rel (k + 5) u v) v) u) ?_ I
  intro rg pq wd st ca iv op rd rs rt im he wa ct dt M V R F ym ys yw yi TG BS LN PM OT VY HE OP AU m hr
  obtain ⟨h16, hm, rfl, rfl, rfl, rfl, rfl, hR, hF⟩ := hr
  exact ⟨rfl, tm_rel_mk ⟨h16, hm, rfl, rfl, rfl, rfl, rfl, hR, hF⟩⟩
theorem i_vc_invokes {k : Nat} {u : SX} {v : SY} (I : i_Rel k u v) (hk : k + 5 ≤ 2561) : wpX_invokes (fun r => wpY_invokes (fun r' => r' = r ∧ i_Rel (k + 5) u v) v) u := by
  refine tm_el (P := fun u v => wpX_invokes (fun r => wpY_invokes (fun r' => r' = r ∧ i_Rel (k + 5) u v) v) u) ?_ I
  intro rg pq wd st ca iv op rd rs rt im he wa ct dt M V R F ym ys yw yi TG BS LN PM OT VY HE OP AU m hr
  obtain ⟨h16, hm, rfl, rfl, rfl, rfl, rfl, hR, hF⟩ := hr
  exact ⟨rfl, tm_rel_mk ⟨h16, hm, rfl, rfl, rfl, rfl, rfl, hR, hF⟩⟩
theorem i_vc_cause {k : Nat} {u : SX} {v : SY} (I : i_Rel k u v) (hk : k + 5 ≤ 2561) : wpX_cause (fun r => wpY_cause (fun r' => r' = r ∧ i_Rel (k + 5) u v) v) u := by
  refine tm_el (P := fun u v => wpX_cause (fun r => wpY_cause (fun r' => r' = r ∧ i_Rel (k + 5) u v) v) u) ?_ I
  intro rg pq wd st ca iv op rd rs rt im he wa ct dt M V R F ym ys yw yi TG BS LN PM OT VY HE OP AU m hr
  obtain ⟨h16, hm, rfl, rfl, rfl, rfl, rfl, hR, hF⟩ := hr
  exact br_c (fun z => br_t z ⟨rfl, tm_rel_mk ⟨h16, hm, rfl, rfl, rfl, rfl, rfl, hR, hF⟩⟩) (fun z => br_f z ⟨rfl, tm_rel_mk ⟨h16, hm, rfl, rfl, rfl, rfl, rfl, hR, hF⟩⟩)
theorem i_vc_boot {k : Nat} {u : SX} {v : SY} (I : i_Rel k u v) (hk : k + 5 ≤ 2561) (v1 : Int32) : wpX_boot (fun r u' => wpY_boot (fun r' v' => r' = r ∧ i_Rel (k + 5) u' v') v v1) u v1 := by
  obtain ⟨r, u', v', I', hx, hy⟩ := tm_boot I v1
  exact hx _ (hy _ ⟨rfl, I'⟩)
theorem i_vc_poke {k : Nat} {u : SX} {v : SY} (I : i_Rel k u v) (hk : k + 5 ≤ 2561) (v1 : Int32) (v2 : Int32) : wpX_poke (fun r u' => wpY_poke (fun r' v' => r' = r ∧ i_Rel (k + 5) u' v') v v1 v2) u v1 v2 := by
  obtain ⟨r, u', v', h01, I', hx, hy⟩ := tm_poke I v1 v2
  exact hx _ (hy _ ⟨rfl, I'⟩)
theorem i_vc_setReg {k : Nat} {u : SX} {v : SY} (I : i_Rel k u v) (hk : k + 5 ≤ 2561) (v1 : Int32) (v2 : Int32) : wpX_setReg (fun r u' => wpY_setReg (fun r' v' => r' = r ∧ i_Rel (k + 5) u' v') v v1 v2) u v1 v2 := by
  obtain ⟨r, u', v', I', hx, hy⟩ := tm_setReg I v1 v2
  exact hx _ (hy _ ⟨rfl, I'⟩)
theorem i_vc_revoke {k : Nat} {u : SX} {v : SY} (I : i_Rel k u v) (hk : k + 5 ≤ 2561) (v1 : Int32) (v2 : Int32) : wpX_revoke (fun r u' => wpY_revoke (fun r' v' => r' = r ∧ i_Rel (k + 5) u' v') v v1 v2) u v1 v2 := by
  obtain ⟨r, u', v', I', hx, hy⟩ := tm_revoke I v1 v2
  exact hx _ (hy _ ⟨rfl, I'⟩)
theorem i_vc_put {k : Nat} {u : SX} {v : SY} (I : i_Rel k u v) (hk : k + 5 ≤ 2561) (v1 : Int32) (v2 : Int32) (v3 : Int32) (v4 : Int32) : wpX_put (fun r u' => wpY_put (fun r' v' => r' = r ∧ i_Rel (k + 5) u' v') v v1 v2 v3 v4) u v1 v2 v3 v4 := by
  obtain ⟨r, u', v', h01, I', hx, hy⟩ := tm_poke I v1 ((v2 + (32 * v3)) + (16384 * v4))
  have hn : narrow .boolean (.int r) = .int r := by
    rcases h01 with e | e
    · rw [e]; rfl
    · rw [e]; rfl
  obtain ⟨rg, pq, wd, st, ca, iv, op, rd, rs, rt, im, he, wa, ct, dt, M, V, R, F⟩ := u
  obtain ⟨ym, ys, yw, yi, TG, BS, LN, PM, OT, VY, HE, OP, AU⟩ := v
  unfold wpX_put wpY_put
  refine br_c (fun z1 => br_t z1 ⟨rfl, I⟩) (fun z1 => br_c (fun z2 => br_f z1 (br_t z2 ⟨rfl, I⟩)) (fun z2 => br_c (fun z3 => br_f z1 (br_f z2 (br_t z3 ⟨rfl, I⟩))) (fun z3 => br_c (fun z4 => ?_) (fun z4 => br_f z1 (br_f z2 (br_f z3 (br_t (Int32.not_le.mp z4) ⟨rfl, I⟩)))))))
  have z4' : ¬ 511 < v3 := Int32.not_lt.mpr z4
  refine br_c (fun z5 => br_f z1 (br_f z2 (br_f z3 (br_f z4' (br_t z5 ⟨rfl, I⟩))))) (fun z5 => br_c (fun z6 => ?_) (fun z6 => br_f z1 (br_f z2 (br_f z3 (br_f z4' (br_f z5 (br_f z6 ⟨rfl, I⟩)))))))
  refine hx _ (And.intro hn ?_)
  exact br_f z1 (br_f z2 (br_f z3 (br_f z4' (br_f z5 (br_t z6 (hy _ (And.intro hn ⟨rfl, I'⟩)))))))
theorem i_vc_run {k : Nat} {u : SX} {v : SY} (I : i_Rel k u v) (hk : k + 5 ≤ 2561) (v1 : Int32) : wpX_run (fun r u' => wpY_run (fun r' v' => r' = r ∧ i_Rel (k + 5) u' v') v v1) u v1 := by
  obtain ⟨rg, pq, wd, st, ca, iv, op, rd, rs, rt, im, he, wa, ct, dt, M, V, R, F⟩ := u
  obtain ⟨ym, ys, yw, yi, TG, BS, LN, PM, OT, VY, HE, OP, AU⟩ := v
  obtain ⟨r, u', v', I', hx, hy⟩ := tm_runs v1 500 0 rfl I
  exact ⟨501, hx _ ⟨501, hy _ ⟨rfl, I'⟩⟩⟩
theorem i_vc_regField {k : Nat} {u : SX} {v : SY} (I : i_Rel k u v) (hk : k + 5 ≤ 2561) (v1 : Int32) (v2 : Int32) : wpX_regField (fun r => wpY_regField (fun r' => r' = r ∧ i_Rel (k + 5) u v) v v1 v2) u v1 v2 := by
  refine tm_el (P := fun u v => wpX_regField (fun r => wpY_regField (fun r' => r' = r ∧ i_Rel (k + 5) u v) v v1 v2) u v1 v2) ?_ I
  intro rg pq wd st ca iv op rd rs rt im he wa ct dt M V R F ym ys yw yi TG BS LN PM OT VY HE OP AU m hr
  obtain ⟨h16, hm, rfl, rfl, rfl, rfl, rfl, hR, hF⟩ := hr
  have rel := tm_rel_mk (rg := rg) (pq := pq) (op := op) (rd := rd) (rs := rs) (rt := rt) (im := im) (he := he) (wa := wa) (ct := ct) (dt := dt) (HE := HE) (OP := OP) (AU := AU) (wd := nI m) (ym := nI m) (st := st) (ys := st) (ca := ca) (yw := ca) (iv := iv) (yi := iv) ⟨h16, hm, rfl, rfl, rfl, rfl, rfl, hR, hF⟩
  unfold wpX_regField
  refine br_c (fun z1 => ?_) (fun z1 => br_c (fun z2 => ?_) (fun z2 => ?_))
  · unfold wpY_regField
    exact br_t z1 ⟨rfl, rel⟩
  · obtain ⟨j, hj, rfl⟩ := nI_of2 tm_n8 z1 z2
    obtain ⟨w, e1, e2, e3, e4, e5, e6⟩ := tm_row hR (s := j) (by omega)
    rw [tm_32]
    refine tx_field (vp_in_nI (by omega) (by decide)) ?_
    unfold wpY_regField
    refine br_f z1 (br_t z2 (ty_field (vp_in_nI (by omega) (by decide)) ?_ ⟨?_, rel⟩))
    · rw [nI_clamp (n := j) (by omega)]; exact tm_tgv hm hR (by omega)
    · rw [nI_clamp (n := j) (by omega), nI_clamp (n := 32 + j) (by omega), e1, e2, e3, e4, e5, e6]
  · unfold wpY_regField
    exact br_f z1 (br_f z2 ⟨rfl, rel⟩)
theorem i_vc_memField {k : Nat} {u : SX} {v : SY} (I : i_Rel k u v) (hk : k + 5 ≤ 2561) (v1 : Int32) (v2 : Int32) : wpX_memField (fun r => wpY_memField (fun r' => r' = r ∧ i_Rel (k + 5) u v) v v1 v2) u v1 v2 := by
  refine tm_el (P := fun u v => wpX_memField (fun r => wpY_memField (fun r' => r' = r ∧ i_Rel (k + 5) u v) v v1 v2) u v1 v2) ?_ I
  intro rg pq wd st ca iv op rd rs rt im he wa ct dt M V R F ym ys yw yi TG BS LN PM OT VY HE OP AU m hr
  obtain ⟨h16, hm, rfl, rfl, rfl, rfl, rfl, hR, hF⟩ := hr
  have rel := tm_rel_mk (rg := rg) (pq := pq) (op := op) (rd := rd) (rs := rs) (rt := rt) (im := im) (he := he) (wa := wa) (ct := ct) (dt := dt) (HE := HE) (OP := OP) (AU := AU) (wd := nI m) (ym := nI m) (st := st) (ys := st) (ca := ca) (yw := ca) (iv := iv) (yi := iv) ⟨h16, hm, rfl, rfl, rfl, rfl, rfl, hR, hF⟩
  unfold wpX_memField
  rcases tm_ad hm v1 with z | ⟨j, hj, rfl⟩
  · refine tx_addr0 z (br_t rfl ?_)
    unfold wpY_memField
    exact ty_addr0 z ⟨rfl, rel⟩
  · refine tx_addr1 hm hj (br_f tm_d10 ?_)
    obtain ⟨w, e1, e2, e3, e4, e5, e6⟩ := tm_rowm hR (a := j) (by omega)
    refine tx_field (vp_in_nI (by omega) (by decide)) ?_
    unfold wpY_memField
    refine ty_addr1 hm hj ?_
    rw [show (9 : Int32) + nI j = nI (9 + j) from nI_add 9 j]
    refine ty_field (vp_in_nI (by omega) (by decide)) ?_ ⟨?_, rel⟩
    · rw [nI_clamp (n := 9 + j) (by omega)]; exact tm_tgv hm hR (by omega)
    · rw [nI_clamp (n := 9 + j) (by omega), nI_clamp (n := j) (by omega), e1, e2, e3, e4, e5, e6]
theorem i_vc_canReach {k : Nat} {u : SX} {v : SY} (I : i_Rel k u v) (hk : k + 5 ≤ 2561) (v1 : Int32) (v2 : Int32) : wpX_canReach (fun r u' => wpY_canReach (fun r' v' => r' = r ∧ i_Rel (k + 5) u' v') v v1 v2) u v1 v2 := by
  refine tm_el (P := fun u v => wpX_canReach (fun r u' => wpY_canReach (fun r' v' => r' = r ∧ i_Rel (k + 5) u' v') v v1 v2) u v1 v2) ?_ I
  intro rg pq wd st ca iv op rd rs rt im he wa ct dt M V R F ym ys yw yi TG BS LN PM OT VY HE OP AU m hr
  obtain ⟨h16, hm, rfl, rfl, rfl, rfl, rfl, hR, hF⟩ := hr
  unfold wpX_canReach
  refine tx_reaches (kd := 0) hm (fun s hs => tm_rlw hR hs) (by omega) hF (fun r he' wa' ct' dt' R' F' hF' h01 hc => And.intro ?_ ?_)
  · rcases h01 with e | e
    · rw [e]; rfl
    · rw [e]; rfl
  unfold wpY_canReach
  refine ty_reach (kd := 0) hm hR (by omega) (fun r' HE' OP' AU' h01' hc' => And.intro ?_ ⟨?_, tm_rel_mk ⟨h16, hm, rfl, rfl, rfl, rfl, rfl, hR, hF'⟩⟩)
  · rcases h01' with e | e
    · rw [e]; rfl
    · rw [e]; rfl
  · rcases h01 with e | e
    · rcases h01' with e' | e'
      · rw [e, e']
      · have := hc.mpr (hc'.mp e')
        rw [e] at this
        exact absurd this (by decide)
    · rw [e]
      exact hc'.mpr (hc.mp e)
theorem i_vc_mayReach {k : Nat} {u : SX} {v : SY} (I : i_Rel k u v) (hk : k + 5 ≤ 2561) (v1 : Int32) (v2 : Int32) : wpX_mayReach (fun r u' => wpY_mayReach (fun r' v' => r' = r ∧ i_Rel (k + 5) u' v') v v1 v2) u v1 v2 := by
  refine tm_el (P := fun u v => wpX_mayReach (fun r u' => wpY_mayReach (fun r' v' => r' = r ∧ i_Rel (k + 5) u' v') v v1 v2) u v1 v2) ?_ I
  intro rg pq wd st ca iv op rd rs rt im he wa ct dt M V R F ym ys yw yi TG BS LN PM OT VY HE OP AU m hr
  obtain ⟨h16, hm, rfl, rfl, rfl, rfl, rfl, hR, hF⟩ := hr
  unfold wpX_mayReach
  refine tx_reaches (kd := 1) hm (fun s hs => tm_rlw hR hs) (by omega) hF (fun r he' wa' ct' dt' R' F' hF' h01 hc => And.intro ?_ ?_)
  · rcases h01 with e | e
    · rw [e]; rfl
    · rw [e]; rfl
  unfold wpY_mayReach
  refine ty_reach (kd := 1) hm hR (by omega) (fun r' HE' OP' AU' h01' hc' => And.intro ?_ ⟨?_, tm_rel_mk ⟨h16, hm, rfl, rfl, rfl, rfl, rfl, hR, hF'⟩⟩)
  · rcases h01' with e | e
    · rw [e]; rfl
    · rw [e]; rfl
  · rcases h01 with e | e
    · rcases h01' with e' | e'
      · rw [e, e']
      · have := hc.mpr (hc'.mp e')
        rw [e] at this
        exact absurd this (by decide)
    · rw [e]
      exact hc'.mpr (hc.mp e)
theorem i_vc_canCount {k : Nat} {u : SX} {v : SY} (I : i_Rel k u v) (hk : k + 5 ≤ 2561) (v1 : Int32) : wpX_canCount (fun r u' => wpY_canCount (fun r' v' => r' = r ∧ i_Rel (k + 5) u' v') v v1) u v1 := by
  refine tm_el (P := fun u v => wpX_canCount (fun r u' => wpY_canCount (fun r' v' => r' = r ∧ i_Rel (k + 5) u' v') v v1) u v1) ?_ I
  intro rg pq wd st ca iv op rd rs rt im he wa ct dt M V R F ym ys yw yi TG BS LN PM OT VY HE OP AU m hr
  obtain ⟨h16, hm, rfl, rfl, rfl, rfl, rfl, hR, hF⟩ := hr
  unfold wpX_canCount
  refine tx_countReached (kd := 0) hm (fun s hs => tm_rlw hR hs) (by omega) hF (fun he' wa' ct' dt' R' F' hF' => ?_)
  unfold wpY_canCount
  exact ty_count (kd := 0) hm hR (by omega) (fun HE' OP' AU' => ⟨rfl, tm_rel_mk ⟨h16, hm, rfl, rfl, rfl, rfl, rfl, hR, hF'⟩⟩)
theorem i_vc_mayCount {k : Nat} {u : SX} {v : SY} (I : i_Rel k u v) (hk : k + 5 ≤ 2561) (v1 : Int32) : wpX_mayCount (fun r u' => wpY_mayCount (fun r' v' => r' = r ∧ i_Rel (k + 5) u' v') v v1) u v1 := by
  refine tm_el (P := fun u v => wpX_mayCount (fun r u' => wpY_mayCount (fun r' v' => r' = r ∧ i_Rel (k + 5) u' v') v v1) u v1) ?_ I
  intro rg pq wd st ca iv op rd rs rt im he wa ct dt M V R F ym ys yw yi TG BS LN PM OT VY HE OP AU m hr
  obtain ⟨h16, hm, rfl, rfl, rfl, rfl, rfl, hR, hF⟩ := hr
  unfold wpX_mayCount
  refine tx_countReached (kd := 1) hm (fun s hs => tm_rlw hR hs) (by omega) hF (fun he' wa' ct' dt' R' F' hF' => ?_)
  unfold wpY_mayCount
  exact ty_count (kd := 1) hm hR (by omega) (fun HE' OP' AU' => ⟨rfl, tm_rel_mk ⟨h16, hm, rfl, rfl, rfl, rfl, rfl, hR, hF'⟩⟩)
end
