section
/-! pure rows to paste: stores, nI and lN arithmetic, masks, shifts, narrowing, branches by naturals (pk_le, pk_lt, pk_eq), loops (lp1 .. lp16: the measure of the state; rp1 ..: recursion), negatives. Take what you need -/
theorem pk_us {f : Nat → Int32} {k : Nat} {x : Int32} : upd f k x k = x := if_pos rfl
theorem pk_un {f : Nat → Int32} {k j : Nat} {x : Int32} (h : j ≠ k) : upd f k x j = f j := if_neg h
theorem pk_uLs {f : Nat → Int64} {k : Nat} {x : Int64} : vp_updL f k x k = x := if_pos rfl
theorem pk_uLn {f : Nat → Int64} {k j : Nat} {x : Int64} (h : j ≠ k) : vp_updL f k x j = f j := if_neg h
theorem pk_sub {a b : Nat} (h : b ≤ a) : nI a - nI b = nI (a - b) := by
  obtain ⟨c, rfl⟩ : ∃ c, a = c + b := ⟨a - b, by omega⟩
  rw [← nI_add, Int32.add_sub_cancel, Nat.add_sub_cancel]
theorem pk_m1 (n : Nat) : nI (n + 1) + (-1) = nI n := by
  rw [← nI_1, Int32.add_assoc, show (1 : Int32) + (-1) = 0 from rfl, Int32.add_zero]
theorem pk_mul (a b : Nat) : nI a * nI b = nI (a * b) := (Int32.ofNat_mul a b).symm
theorem pk_div {a d : Nat} (ha : a < 2 ^ 31) (h0 : 0 < d) (hd : d < 2 ^ 31) : nI a / nI d = nI (a / d) := by
  apply Int32.toInt_inj.mp
  rw [lg_idiv_nonneg (by rw [nI_toInt ha]; omega) (by rw [nI_toInt hd]; omega), nI_toInt ha, nI_toInt hd, nI_toInt (Nat.lt_of_le_of_lt (Nat.div_le_self a d) ha)]
  first | rfl | exact (Int.natCast_ediv _ _).symm
theorem pk_rem {a d : Nat} (ha : a < 2 ^ 31) (h0 : 0 < d) (hd : d < 2 ^ 31) : nI a - nI a / nI d * nI d = nI (a % d) := by
  rw [pk_div ha h0 hd, pk_mul, pk_sub (Nat.div_mul_le_self a d)]
  exact congrArg nI (by have := Nat.div_add_mod' a d; omega)
theorem pk_sub_toInt {a b : Nat} (ha : a < 2 ^ 30) (hb : b < 2 ^ 30) : (nI a - nI b).toInt = (a : Int) - b := by
  rw [Int32.toInt_sub, nI_toInt (by omega), nI_toInt (by omega)]
  exact Int.bmod_eq_of_le (by omega) (by omega)
theorem pk_sneg {a b : Nat} (hb : b < 2 ^ 30) (h : a < b) : nI a - nI b < 0 := by
  rw [Int32.lt_iff_toInt_lt, pk_sub_toInt (by omega) hb, show (0 : Int32).toInt = 0 from by decide]
  omega
theorem pk_ix (x : Int32) {n : Nat} (hn : n < 2 ^ 31) : x < 0 ∨ nI n ≤ x ∨ ∃ j : Nat, j < n ∧ x = nI j := by
  by_cases h : x < 0
  · exact Or.inl h
  · obtain ⟨j, hj, rfl⟩ := nI_of h
    by_cases h2 : j < n
    · exact Or.inr (Or.inr ⟨j, h2, rfl⟩)
    · exact Or.inr (Or.inl (nI_le (by omega) hj))
theorem pk_le {x y : Int32} {A B : Prop} (a b : Nat) (f : a ≤ b → A) (g : b < a → B) (hx : x = nI a := by rfl) (hy : y = nI b := by rfl) (ha : a < 2 ^ 31 := by omega) (hb : b < 2 ^ 31 := by omega) : (x ≤ y → A) ∧ (¬ x ≤ y → B) := by
  subst hx hy
  rw [nI_leI ha hb]
  exact ⟨f, fun z => g (by omega)⟩
theorem pk_lt {x y : Int32} {A B : Prop} (a b : Nat) (f : a < b → A) (g : b ≤ a → B) (hx : x = nI a := by rfl) (hy : y = nI b := by rfl) (ha : a < 2 ^ 31 := by omega) (hb : b < 2 ^ 31 := by omega) : (x < y → A) ∧ (¬ x < y → B) := by
  subst hx hy
  rw [nI_ltI ha hb]
  exact ⟨f, fun z => g (by omega)⟩
theorem pk_eq {x y : Int32} {A B : Prop} (a b : Nat) (f : a = b → A) (g : a ≠ b → B) (hx : x = nI a := by rfl) (hy : y = nI b := by rfl) (ha : a < 2 ^ 31 := by omega) (hb : b < 2 ^ 31 := by omega) : (x = y → A) ∧ (¬ x = y → B) := by
  subst hx hy
  rw [nI_eq ha hb]
  exact ⟨f, g⟩
theorem pk_in {x : Int32} (n N : Nat) (h : n < N) (hx : x = nI n := by rfl) (hN : N < 2 ^ 31 := by omega) : vp_in x N := by
  subst hx
  exact vp_in_nI h hN
theorem pk_cl {x : Int32} (n : Nat) (hx : x = nI n := by rfl) (h : n < 2 ^ 31 := by omega) : x.toNatClampNeg = n := by
  subst hx
  exact nI_clamp h
theorem pk_tn {n : Nat} (h : n < 2 ^ 32) : (nI n).toBitVec.toNat = n := Nat.mod_eq_of_lt h
theorem pk_and (x : Int32) {m : Int32} (k : Nat) (hm : m.toBitVec.toNat = 2 ^ k - 1) : x &&& m = nI (x.toBitVec.toNat % 2 ^ k) := by
  apply Int32.toBitVec_inj.mp
  apply BitVec.eq_of_toNat_eq
  rw [Int32.toBitVec_and, BitVec.toNat_and, hm, Nat.and_two_pow_sub_one_eq_mod]
  show _ = (BitVec.ofNat 32 _).toNat
  rw [BitVec.toNat_ofNat]
  exact (Nat.mod_eq_of_lt (Nat.lt_of_le_of_lt (Nat.mod_le _ _) x.toBitVec.isLt)).symm
theorem pk_andN {n : Nat} (h : n < 2 ^ 32) {m : Int32} (k : Nat) (hm : m.toBitVec.toNat = 2 ^ k - 1) : nI n &&& m = nI (n % 2 ^ k) := by
  rw [pk_and _ k hm, pk_tn h]
theorem pk_andE (x : Int32) {m : Int32} (k : Nat) (hm : m.toBitVec.toNat = 2 ^ k - 1) : ∃ j : Nat, j < 2 ^ k ∧ x &&& m = nI j := ⟨_, Nat.mod_lt _ (Nat.two_pow_pos k), pk_and x k hm⟩
theorem pk_andIn (x : Int32) {m : Int32} (k : Nat) (hm : m.toBitVec.toNat = 2 ^ k - 1) (hk : k ≤ 30) : vp_in (x &&& m) (2 ^ k) := by
  obtain ⟨j, hj, e⟩ := pk_andE x k hm
  rw [e]
  exact vp_in_nI hj (Nat.lt_of_le_of_lt (Nat.pow_le_pow_right (by decide) hk) (by decide))
theorem pk_shl (a s : Int32) (k : Nat) (hs : (s.toBitVec.smod 32).toNat = k) : (a <<< s).toBitVec.toNat = a.toBitVec.toNat * 2 ^ k % 2 ^ 32 := by
  show (a.toBitVec <<< (s.toBitVec.smod 32).toNat).toNat = _
  rw [hs, BitVec.toNat_shiftLeft, Nat.shiftLeft_eq]
theorem pk_shlN {n : Nat} (s : Int32) (k : Nat) (hs : (s.toBitVec.smod 32).toNat = k) (h : n * 2 ^ k < 2 ^ 32) : nI n <<< s = nI (n * 2 ^ k) := by
  apply Int32.toBitVec_inj.mp
  apply BitVec.eq_of_toNat_eq
  have hn : n < 2 ^ 32 := Nat.lt_of_le_of_lt (Nat.le_mul_of_pos_right n (Nat.two_pow_pos k)) h
  rw [pk_shl _ _ k hs, pk_tn hn, pk_tn h, Nat.mod_eq_of_lt h]
theorem pk_shr (a s : Int32) (k : Nat) (hs : (s.toBitVec.smod 32).toNat = k) : (a >>> s).toInt = a.toInt >>> k := by
  show (a.toBitVec.sshiftRight (s.toBitVec.smod 32).toNat).toInt = _
  rw [hs, BitVec.toInt_sshiftRight]
  rfl
theorem pk_shrN {n : Nat} (h : n < 2 ^ 31) (s : Int32) (k : Nat) (hs : (s.toBitVec.smod 32).toNat = k) : nI n >>> s = nI (n / 2 ^ k) := by
  apply Int32.toInt_inj.mp
  have h2 : n / 2 ^ k ≤ n := Nat.div_le_self _ _
  rw [pk_shr _ _ k hs, nI_toInt h, nI_toInt (by omega), Int.shiftRight_eq_div_pow]
  rfl
theorem pk_ushr (x s : Int32) (k : Nat) (hs : ((s.toUInt32 &&& Int32.toUInt32 31).toBitVec % 32).toNat = k) : (x.toUInt32 >>> (s.toUInt32 &&& Int32.toUInt32 31)).toInt32.toBitVec.toNat = x.toBitVec.toNat / 2 ^ k := by
  have e : (x.toUInt32 >>> (s.toUInt32 &&& Int32.toUInt32 31)).toInt32.toBitVec = x.toBitVec >>> k := by
    rw [← hs]
    exact UInt32.toBitVec_shiftRight _ _
  rw [e, BitVec.toNat_ushiftRight, Nat.shiftRight_eq_div_pow]
theorem pk_ushrN {n : Nat} (hn : n < 2 ^ 32) (s : Int32) (k : Nat) (hs : ((s.toUInt32 &&& Int32.toUInt32 31).toBitVec % 32).toNat = k) : ((nI n).toUInt32 >>> (s.toUInt32 &&& Int32.toUInt32 31)).toInt32 = nI (n / 2 ^ k) := by
  apply Int32.toBitVec_inj.mp
  apply BitVec.eq_of_toNat_eq
  rw [pk_ushr _ s k hs, pk_tn hn, pk_tn (Nat.lt_of_le_of_lt (Nat.div_le_self _ _) hn)]
theorem pk_nb (z : Int32) : narrow .byte (.int z.toInt8.toInt32) = .int z.toInt8.toInt32 := congrArg Value.int (by simp)
theorem pk_ns (z : Int32) : narrow .short (.int z.toInt16.toInt32) = .int z.toInt16.toInt32 := congrArg Value.int (by simp)
theorem pk_fb (r : Int32) : fits .byte (.int r.toInt8.toInt32) = true := by
  have ⟨a, b⟩ := lg_i2b_range r
  have h1 : (-128 : Int32).toInt = -128 := by decide
  have h2 : (127 : Int32).toInt = 127 := by decide
  simp only [fits, Bool.and_eq_true, decide_eq_true_eq, Int32.le_iff_toInt_le, h1, h2]
  omega
theorem pk_fs (r : Int32) : fits .short (.int r.toInt16.toInt32) = true := by
  have ⟨a, b⟩ := lg_i2s_range r
  have h1 : (-32768 : Int32).toInt = -32768 := by decide
  have h2 : (32767 : Int32).toInt = 32767 := by decide
  simp only [fits, Bool.and_eq_true, decide_eq_true_eq, Int32.le_iff_toInt_le, h1, h2]
  omega
theorem pk_charN {q : Nat} (hq : q < 65536) : narrow .char (.int (nI q)) = .int (nI q) ∧ fits .char (.int (nI q)) = true := by
  constructor
  · have e : (nI q).toUInt32.toUInt16.toUInt32.toInt32 = nI q := by
      apply Int32.toBitVec_inj.mp
      apply BitVec.eq_of_toNat_eq
      show (nI q).toUInt32.toUInt16.toUInt32.toNat = q % 2 ^ 32
      rw [UInt16.toNat_toUInt32, UInt32.toNat_toUInt16, show (nI q).toUInt32.toNat = q % 2 ^ 32 from rfl]
      omega
    exact congrArg Value.int e
  · have a : (0 : Int32) ≤ nI q := nI_pos' (by omega)
    have b : nI q ≤ 65535 := nI_le (b := 65535) (by omega) (by decide)
    show (decide ((0 : Int32) ≤ nI q) && decide (nI q ≤ 65535)) = true
    rw [decide_eq_true a, decide_eq_true b]
    rfl
theorem pk_char (x : Int32) : (x.toUInt32 % 65536).toInt32 = nI (x.toBitVec.toNat % 65536) := by
  apply Int32.toBitVec_inj.mp
  apply BitVec.eq_of_toNat_eq
  rw [pk_tn (by omega)]
  show (x.toUInt32 % 65536).toNat = _
  rw [UInt32.toNat_mod]
  rfl
theorem pk_nc (x : Int32) : narrow .char (.int (x.toUInt32 % 65536).toInt32) = .int (x.toUInt32 % 65536).toInt32 := by
  rw [pk_char]
  exact (pk_charN (Nat.mod_lt _ (by decide))).1
theorem pk_fc (x : Int32) : fits .char (.int (x.toUInt32 % 65536).toInt32) = true := by
  rw [pk_char]
  exact (pk_charN (Nat.mod_lt _ (by decide))).2
theorem pk_vb (z : Int32) : vp_nar .byte z.toInt8.toInt32 = z.toInt8.toInt32 := by rw [vp_nar_byte]; simp
theorem pk_vs (z : Int32) : vp_nar .short z.toInt16.toInt32 = z.toInt16.toInt32 := by rw [vp_nar_short]; simp
theorem pk_vc (z : Int32) : vp_nar .char (z.toUInt32 % 65536).toInt32 = (z.toUInt32 % 65536).toInt32 := Value.int.inj (pk_nc z)
/-! ===== Int32 by its bits: bt x i ===== -/
def bt (x : Int32) (i : Nat) : Bool := x.toBitVec.getLsbD i
theorem b_ext {x y : Int32} (h : ∀ i, i < 32 → bt x i = bt y i) : x = y := Int32.toBitVec_inj.mp (BitVec.eq_of_getLsbD_eq (fun i hi => h i hi))
theorem b_or (x y : Int32) (i : Nat) : bt (x ||| y) i = (bt x i || bt y i) := by unfold bt; rw [Int32.toBitVec_or, BitVec.getLsbD_or]
theorem b_and (x y : Int32) (i : Nat) : bt (x &&& y) i = (bt x i && bt y i) := by unfold bt; rw [Int32.toBitVec_and, BitVec.getLsbD_and]
theorem b_xor (x y : Int32) (i : Nat) : bt (x ^^^ y) i = (bt x i ^^ bt y i) := by unfold bt; rw [Int32.toBitVec_xor, BitVec.getLsbD_xor]
theorem b_big {x : Int32} {i : Nat} (h : 32 ≤ i) : bt x i = false := BitVec.getLsbD_of_ge _ _ h
theorem b_255 (i : Nat) : bt 255 i = decide (i < 8) := by
  rcases Nat.lt_or_ge i 32 with h | h
  · exact (by decide +kernel : ∀ i, i < 32 → bt 255 i = decide (i < 8)) i h
  · rw [b_big h, decide_eq_false (by omega)]
theorem b_65535 (i : Nat) : bt 65535 i = decide (i < 16) := by
  rcases Nat.lt_or_ge i 32 with h | h
  · exact (by decide +kernel : ∀ i, i < 32 → bt 65535 i = decide (i < 16)) i h
  · rw [b_big h, decide_eq_false (by omega)]
theorem b_m1 : ∀ i, i < 32 → bt (-1) i = true := by decide +kernel
theorem b_0 (i : Nat) : bt 0 i = false := BitVec.getLsbD_zero
theorem s_l : ∀ n, n < 32 → ((nI n &&& 31).toBitVec.smod 32).toNat = n := by decide +kernel
theorem s_u : ∀ n, n < 32 → (((nI n).toUInt32 &&& Int32.toUInt32 31).toBitVec % 32).toNat = n := by decide +kernel
theorem b_shl (n : Nat) (hn : n < 32) (x : Int32) {i : Nat} (hi : i < 32) : bt (x <<< (nI n &&& 31)) i = (decide (n ≤ i) && bt x (i - n)) := by
  unfold bt
  rw [Int32.toBitVec_shiftLeft]
  show (x.toBitVec <<< ((nI n &&& 31).toBitVec.smod 32).toNat).getLsbD i = _
  rw [s_l n hn, BitVec.getLsbD_shiftLeft]
  rcases Nat.lt_or_ge i n with h | h
  · simp [h, Nat.not_le.mpr h]
  · simp [hi, h, Nat.not_lt.mpr h]
theorem b_ushr (n : Nat) (hn : n < 32) (x : Int32) (i : Nat) : bt ((x.toUInt32 >>> ((nI n).toUInt32 &&& Int32.toUInt32 31)).toInt32) i = bt x (n + i) := by
  show (x.toUInt32 >>> ((nI n).toUInt32 &&& Int32.toUInt32 31)).toBitVec.getLsbD i = x.toUInt32.toBitVec.getLsbD (n + i)
  rw [UInt32.toBitVec_shiftRight]
  show (x.toUInt32.toBitVec >>> (((nI n).toUInt32 &&& Int32.toUInt32 31).toBitVec % 32).toNat).getLsbD i = _
  rw [s_u n hn, BitVec.getLsbD_ushiftRight]
theorem b_sshr (n : Nat) (hn : n < 32) (x : Int32) {i : Nat} (hi : i < 32) : bt (x >>> (nI n &&& 31)) i = if n + i < 32 then bt x (n + i) else bt x 31 := by
  unfold bt
  rw [Int32.toBitVec_shiftRight]
  show (x.toBitVec.sshiftRight ((nI n &&& 31).toBitVec.smod 32).toNat).getLsbD i = _
  rw [s_l n hn, BitVec.getLsbD_sshiftRight, BitVec.msb_eq_getLsbD_last]
  simp [hi]
end
section
/-! counting (turned from a worked proof) -/
noncomputable def cn_b (P : Prop) : Nat := @ite Nat P (Classical.propDecidable P) 1 0
theorem cn_bt {P : Prop} (h : P) : cn_b P = 1 := by unfold cn_b; rw [if_pos h]
theorem cn_bf {P : Prop} (h : ¬ P) : cn_b P = 0 := by unfold cn_b; rw [if_neg h]
theorem cn_ble (P : Prop) : cn_b P ≤ 1 := by
  rcases Classical.em P with h | h
  · rw [cn_bt h]; omega
  · rw [cn_bf h]; omega
theorem cn_bm {P Q : Prop} (h : P → Q) : cn_b P ≤ cn_b Q := by
  rcases Classical.em P with hp | hp
  · rw [cn_bt hp, cn_bt (h hp)]; omega
  · rw [cn_bf hp]; omega
noncomputable def cn_c (P : Nat → Prop) : Nat → Nat
  | 0 => 0
  | k + 1 => cn_c P k + cn_b (P k)
theorem cn_mono {P Q : Nat → Prop} : ∀ {N : Nat}, (∀ k, k < N → P k → Q k) → cn_c P N ≤ cn_c Q N
  | 0, _ => Nat.le_refl _
  | N + 1, h => by
    have a := cn_mono (P := P) (Q := Q) (N := N) (fun k hk => h k (by omega))
    have b := cn_bm (h N (by omega))
    simp only [cn_c]; omega
theorem cn_lt {P Q : Nat → Prop} {a : Nat} (hp : ¬ P a) (hq : Q a) : ∀ {N : Nat}, (∀ k, k < N → P k → Q k) → a < N → cn_c P N < cn_c Q N
  | 0, _, h => by omega
  | N + 1, h, ha => by
    simp only [cn_c]
    rcases Nat.lt_or_ge a N with z | z
    · have x := cn_lt hp hq (N := N) (fun k hk => h k (by omega)) z
      have b := cn_bm (h N (by omega))
      omega
    · have e : a = N := by omega
      subst e
      have x := cn_mono (P := P) (Q := Q) (N := a) (fun k hk => h k (by omega))
      rw [cn_bt hq, cn_bf hp]; omega
theorem cn_le (P : Nat → Prop) : ∀ N, cn_c P N ≤ N
  | 0 => Nat.le_refl _
  | N + 1 => by have := cn_le P N; have := cn_ble (P N); simp only [cn_c]; omega
theorem cn_eq {P Q : Nat → Prop} {N : Nat} (h : ∀ k, k < N → (P k ↔ Q k)) : cn_c P N = cn_c Q N :=
  Nat.le_antisymm (cn_mono fun k hk => (h k hk).mp) (cn_mono fun k hk => (h k hk).mpr)
theorem cn_add {P : Nat → Prop} {a : Nat} (hp : ¬ P a) : ∀ {N : Nat}, a < N → cn_c (fun k => P k ∨ k = a) N = cn_c P N + 1
  | 0, h => by omega
  | N + 1, h => by
    simp only [cn_c]
    rcases Nat.lt_or_ge a N with z | z
    · rw [cn_add hp z]
      have : cn_b (P N ∨ N = a) = cn_b (P N) := Nat.le_antisymm (cn_bm fun q => q.elim id (fun e => by omega)) (cn_bm Or.inl)
      omega
    · have e : a = N := by omega
      subst e
      rw [cn_eq (P := fun k => P k ∨ k = a) (Q := P) (fun k hk => ⟨fun q => q.elim id (fun e => by omega), Or.inl⟩), cn_bt (Or.inr rfl), cn_bf hp]
theorem cn_sub {P : Nat → Prop} {a N : Nat} (hp : P a) (ha : a < N) : cn_c (fun k => P k ∧ k ≠ a) N + 1 = cn_c P N := by
  rw [← cn_add (P := fun k => P k ∧ k ≠ a) (a := a) (fun h => h.2 rfl) ha]
  refine cn_eq (fun k _ => ⟨fun q => q.elim And.left (fun e => e ▸ hp), fun q => ?_⟩)
  rcases Nat.decEq k a with h | h
  · exact Or.inl ⟨q, h⟩
  · exact Or.inr h
theorem cn_zero {P : Nat → Prop} : ∀ {N : Nat}, (∀ k, k < N → ¬ P k) → cn_c P N = 0
  | 0, _ => rfl
  | N + 1, h => by
    simp only [cn_c]
    rw [cn_zero (N := N) (fun k hk => h k (by omega)), cn_bf (h N (by omega))]
theorem cn_full {P : Nat → Prop} : ∀ {N : Nat}, (∀ k, k < N → P k) → cn_c P N = N
  | 0, _ => rfl
  | N + 1, h => by
    simp only [cn_c]
    rw [cn_full (N := N) (fun k hk => h k (by omega)), cn_bt (h N (by omega))]
theorem cn_ex {P : Nat → Prop} {N : Nat} (h : cn_c P N < N) : ∃ k, k < N ∧ ¬ P k := by
  rcases Classical.em (∃ k, k < N ∧ ¬ P k) with z | z
  · exact z
  · have := cn_full (P := P) (N := N) (fun k hk => Classical.byContradiction fun q => z ⟨k, hk, q⟩)
    omega
theorem cn_pos {P : Nat → Prop} {N a : Nat} (ha : a < N) (h : P a) : 0 < cn_c P N := by
  have := cn_sub h ha
  omega
theorem cn_0 {P : Nat → Prop} {N : Nat} (h : cn_c P N = 0) : ∀ k, k < N → ¬ P k := by
  intro k hk hp
  have := cn_pos hk hp
  omega
/-! the greatest feasible potential from s: the distance, at most 1000000 -/
def gd_fe (W : Nat → Nat → Nat) (s : Nat) (F : Nat → Nat) : Prop :=
  F s = 0 ∧ (∀ v, v < 12 → F v ≤ 1000000) ∧ ∀ u v, u < 12 → v < 12 → F v ≤ F u + W u v
theorem gd_max (P : Nat → Prop) (h0 : ∃ n, P n) : ∀ b, (∀ n, P n → n ≤ b) → ∃ m, P m ∧ ∀ n, P n → n ≤ m := by
  intro b
  induction b with
  | zero =>
    intro hb
    obtain ⟨n, hn⟩ := h0
    have : n = 0 := by have := hb n hn; omega
    subst this
    exact ⟨0, hn, hb⟩
  | succ b ih =>
    intro hb
    rcases Classical.em (P (b + 1)) with h | h
    · exact ⟨b + 1, h, hb⟩
    · refine ih (fun n hn => ?_)
      have h1 := hb n hn
      rcases Nat.lt_or_ge b n with z | z
      · have e : n = b + 1 := by omega
        exact absurd (e ▸ hn) h
      · exact z
theorem gd_ex (W : Nat → Nat → Nat) (s : Nat) : ∃ D : Nat → Nat, gd_fe W s D ∧ ∀ F, gd_fe W s F → ∀ t, t < 12 → F t ≤ D t := by
  have h : ∀ t, ∃ m, (∃ F, gd_fe W s F ∧ min (F t) 1000000 = m) ∧ ∀ F, gd_fe W s F → min (F t) 1000000 ≤ m := by
    intro t
    obtain ⟨m, hm, hx⟩ := gd_max (fun m => ∃ F, gd_fe W s F ∧ min (F t) 1000000 = m) ⟨_, fun _ => 0, ⟨rfl, fun _ _ => Nat.zero_le _, fun _ _ _ _ => Nat.zero_le _⟩, rfl⟩ 1000000 (fun n ⟨F, _, e⟩ => by omega)
    exact ⟨m, hm, fun F hF => hx _ ⟨F, hF, rfl⟩⟩
  obtain ⟨D, hD⟩ := Classical.axiomOfChoice h
  refine ⟨D, ⟨?_, ?_, ?_⟩, ?_⟩
  · obtain ⟨⟨F, hF, e⟩, _⟩ := hD s
    have := hF.1
    omega
  · intro v hv
    obtain ⟨⟨F, hF, e⟩, _⟩ := hD v
    omega
  · intro u v hu hv
    obtain ⟨⟨F, hF, e⟩, _⟩ := hD v
    have h1 := (hD u).2 F hF
    have h2 := hF.2.2 u v hu hv
    have h3 := hF.2.1 u hu
    omega
  · intro F hF t ht
    have h1 := (hD t).2 F hF
    have h3 := hF.2.1 t ht
    omega
noncomputable def gd_d (W : Nat → Nat → Nat) (s : Nat) : Nat → Nat := Classical.choose (gd_ex W s)
theorem gd_self (W : Nat → Nat → Nat) (s : Nat) : gd_fe W s (gd_d W s) := (Classical.choose_spec (gd_ex W s)).1
theorem gd_top {W : Nat → Nat → Nat} {s : Nat} {F : Nat → Nat} (h : gd_fe W s F) {t : Nat} (ht : t < 12) : F t ≤ gd_d W s t := (Classical.choose_spec (gd_ex W s)).2 F h t ht
theorem gd_ss (W : Nat → Nat → Nat) (s : Nat) : gd_d W s s = 0 := (gd_self W s).1
theorem gd_le (W : Nat → Nat → Nat) (s : Nat) {v : Nat} (hv : v < 12) : gd_d W s v ≤ 1000000 := (gd_self W s).2.1 v hv
theorem gd_st (W : Nat → Nat → Nat) (s : Nat) {u v : Nat} (hu : u < 12) (hv : v < 12) : gd_d W s v ≤ gd_d W s u + W u v := (gd_self W s).2.2 u v hu hv
theorem gd_eq {W : Nat → Nat → Nat} {s : Nat} {F : Nat → Nat} (h : gd_fe W s F) (hl : ∀ v, v < 12 → gd_d W s v ≤ F v) : ∀ v, v < 12 → F v = gd_d W s v :=
  fun v hv => Nat.le_antisymm (gd_top h hv) (hl v hv)
theorem gd_tri (W : Nat → Nat → Nat) (s : Nat) {v t : Nat} (hv : v < 12) (ht : t < 12) : gd_d W s t ≤ gd_d W s v + gd_d W v t := by
  have h : gd_fe W v (fun x => gd_d W s x - gd_d W s v) := by
    refine ⟨Nat.sub_self _, fun x hx => ?_, fun x y hx hy => ?_⟩
    · have := gd_le W s hx
      show gd_d W s x - gd_d W s v ≤ 1000000
      omega
    · have := gd_st W s hx hy
      show gd_d W s y - gd_d W s v ≤ gd_d W s x - gd_d W s v + W x y
      omega
  have := gd_top h ht
  omega
theorem gd_ed (W : Nat → Nat → Nat) {s v : Nat} (hs : s < 12) (hv : v < 12) : gd_d W s v ≤ W s v := by
  have := gd_st W s hs hv
  rw [gd_ss] at this
  omega
theorem gd_pre (W : Nat → Nat → Nat) {s u : Nat} (hu : u < 12) (hus : u ≠ s) (hk : gd_d W s u < 1000000) : ∃ w, w < 12 ∧ gd_d W s w + W w u ≤ gd_d W s u := by
  rcases Classical.em (∃ w, w < 12 ∧ gd_d W s w + W w u ≤ gd_d W s u) with z | z
  · exact z
  · exfalso
    have h : gd_fe W s (fun x => if x = u then gd_d W s u + 1 else gd_d W s x) := by
      refine ⟨?_, fun x hx => ?_, fun x y hx hy => ?_⟩
      · show (if s = u then gd_d W s u + 1 else gd_d W s s) = 0
        rw [if_neg (Ne.symm hus)]; exact gd_ss W s
      · have := gd_le W s hx
        show (if x = u then gd_d W s u + 1 else gd_d W s x) ≤ 1000000
        split <;> omega
      · show (if y = u then gd_d W s u + 1 else gd_d W s y) ≤ (if x = u then gd_d W s u + 1 else gd_d W s x) + W x y
        have h1 := gd_st W s hx hy
        by_cases ey : y = u
        · subst ey
          rw [if_pos rfl]
          by_cases ex : x = y
          · rw [if_pos ex]; omega
          · rw [if_neg ex]
            have : ¬ gd_d W s x + W x y ≤ gd_d W s y := fun q => z ⟨x, hx, q⟩
            omega
        · rw [if_neg ey]
          by_cases ex : x = u
          · rw [if_pos ex]; rw [ex] at h1; rw [ex]; omega
          · rw [if_neg ex]; exact h1
    have h1 : (if u = u then gd_d W s u + 1 else gd_d W s u) ≤ gd_d W s u := gd_top h hu
    rw [if_pos rfl] at h1
    omega
theorem gd_tr1 (W : Nat → Nat → Nat) {s t : Nat} (hs : s < 12) (ht : t < 12) : gd_d (fun u v => W v u) t s ≤ gd_d W s t := by
  refine gd_top (F := fun x => gd_d (fun u v => W v u) x s) ⟨gd_ss _ s, fun x _ => gd_le _ x hs, fun x y hx hy => ?_⟩ ht
  show gd_d (fun u v => W v u) y s ≤ gd_d (fun u v => W v u) x s + W x y
  have h1 := gd_tri (fun u v => W v u) y hx hs
  have h2 := gd_ed (fun u v => W v u) hy hx
  have h3 : gd_d (fun u v => W v u) y x ≤ W x y := h2
  omega
theorem gd_tr (W : Nat → Nat → Nat) {s t : Nat} (hs : s < 12) (ht : t < 12) : gd_d (fun u v => W v u) t s = gd_d W s t :=
  Nat.le_antisymm (gd_tr1 W hs ht) (gd_tr1 (fun u v => W v u) ht hs)
theorem gd_suc (W : Nat → Nat → Nat) {x t : Nat} (hx : x < 12) (ht : t < 12) (hxt : x ≠ t) (hk : gd_d W x t < 1000000) : ∃ y, y < 12 ∧ W x y + gd_d W y t ≤ gd_d W x t := by
  rw [← gd_tr W hx ht] at hk
  obtain ⟨y, hy, h⟩ := gd_pre (fun u v => W v u) hx hxt hk
  rw [gd_tr W hx ht, gd_tr W hy ht] at h
  exact ⟨y, hy, by have h' : gd_d W y t + W x y ≤ gd_d W x t := h; omega⟩
/-! roads as a table -/
def nt_w (th : Nat → Bool) (fr to ln : Nat → Nat) : Nat → Nat → Nat → Nat
  | 0, _, _ => 1000000
  | k + 1, u, v => if th k = true ∧ fr k = u ∧ to k = v then min (nt_w th fr to ln k u v) (ln k) else nt_w th fr to ln k u v
def nt_ok (th : Nat → Bool) (fr to ln : Nat → Nat) : Prop := ∀ k, k < 28 → fr k < 12 ∧ to k < 12 ∧ ln k ≤ 30 ∧ (th k = true → 1 ≤ ln k)
abbrev nt_R (th : Nat → Bool) (fr to ln : Nat → Nat) : Nat → Nat → Nat := fun u v => nt_w th fr to ln 28 u v
section
variable {th : Nat → Bool} {fr to ln : Nat → Nat}
theorem nt_K : ∀ (n u v : Nat), nt_w th fr to ln n u v ≤ 1000000
  | 0, _, _ => Nat.le_refl _
  | n + 1, u, v => by
    have := nt_K n u v
    simp only [nt_w]
    split <;> omega
theorem nt_le : ∀ (n k : Nat), k < n → th k = true → nt_w th fr to ln n (fr k) (to k) ≤ ln k
  | 0, _, h, _ => by omega
  | n + 1, k, h, ht => by
    simp only [nt_w]
    rcases Nat.lt_or_ge k n with z | z
    · have := nt_le n k z ht
      split <;> omega
    · have e : k = n := by omega
      subst e
      rw [if_pos ⟨ht, rfl, rfl⟩]
      omega
theorem nt_ex : ∀ (n u v : Nat), nt_w th fr to ln n u v = 1000000 ∨ ∃ k, k < n ∧ th k = true ∧ fr k = u ∧ to k = v ∧ ln k = nt_w th fr to ln n u v
  | 0, _, _ => Or.inl rfl
  | n + 1, u, v => by
    simp only [nt_w]
    have ih := nt_ex n u v
    by_cases h : th n = true ∧ fr n = u ∧ to n = v
    · rw [if_pos h]
      rcases Nat.lt_or_ge (ln n) (nt_w th fr to ln n u v) with z | z
      · exact Or.inr ⟨n, by omega, h.1, h.2.1, h.2.2, by omega⟩
      · rcases ih with e | ⟨k, hk, h1, h2, h3, h4⟩
        · exact Or.inl (by omega)
        · exact Or.inr ⟨k, by omega, h1, h2, h3, by omega⟩
    · rw [if_neg h]
      rcases ih with e | ⟨k, hk, h1, h2, h3, h4⟩
      · exact Or.inl e
      · exact Or.inr ⟨k, by omega, h1, h2, h3, h4⟩
theorem nt_fe {s : Nat} {F : Nat → Nat} (h0 : F s = 0) (hK : ∀ v, v < 12 → F v ≤ 1000000) (h : ∀ k, k < 28 → th k = true → F (to k) ≤ F (fr k) + ln k) : gd_fe (nt_R th fr to ln) s F := by
  refine ⟨h0, hK, fun u v hu hv => ?_⟩
  rcases nt_ex (th := th) (fr := fr) (to := to) (ln := ln) 28 u v with e | ⟨k, hk, h1, h2, h3, h4⟩
  · have := hK v hv
    show F v ≤ F u + nt_w th fr to ln 28 u v
    omega
  · have := h k hk h1
    rw [h2, h3, h4] at this
    exact this
theorem nt_st (ok : nt_ok th fr to ln) {F : Nat → Nat} {s : Nat} (h : gd_fe (nt_R th fr to ln) s F) {k : Nat} (hk : k < 28) (ht : th k = true) : F (to k) ≤ F (fr k) + ln k := by
  have h1 := h.2.2 (fr k) (to k) (ok k hk).1 (ok k hk).2.1
  have h2 := nt_le (th := th) (fr := fr) (to := to) (ln := ln) 28 k hk ht
  have h3 : F (to k) ≤ F (fr k) + nt_w th fr to ln 28 (fr k) (to k) := h1
  omega
theorem nt_30 (ok : nt_ok th fr to ln) (u v : Nat) : nt_R th fr to ln u v = 1000000 ∨ nt_R th fr to ln u v ≤ 30 := by
  rcases nt_ex (th := th) (fr := fr) (to := to) (ln := ln) 28 u v with e | ⟨k, hk, h1, h2, h3, h4⟩
  · exact Or.inl e
  · have := (ok k hk).2.2.1
    exact Or.inr (by show nt_w th fr to ln 28 u v ≤ 30; omega)
theorem nt_1 (ok : nt_ok th fr to ln) (u v : Nat) : 1 ≤ nt_R th fr to ln u v := by
  rcases nt_ex (th := th) (fr := fr) (to := to) (ln := ln) 28 u v with e | ⟨k, hk, h1, h2, h3, h4⟩
  · show 1 ≤ nt_w th fr to ln 28 u v
    omega
  · have := (ok k hk).2.2.2 h1
    show 1 ≤ nt_w th fr to ln 28 u v
    omega
/-! a distance below 1000000 is at most 360 -/
theorem nt_gap (ok : nt_ok th fr to ln) {s b : Nat} : ∀ (n u : Nat), u < 12 → gd_d (nt_R th fr to ln) s u < n → gd_d (nt_R th fr to ln) s u < 1000000 → b < gd_d (nt_R th fr to ln) s u → ∃ v, v < 12 ∧ b < gd_d (nt_R th fr to ln) s v ∧ gd_d (nt_R th fr to ln) s v ≤ b + 30 := by
  intro n
  induction n with
  | zero => intro u _ h; omega
  | succ n ih =>
    intro u hu hn hk hb
    by_cases h : gd_d (nt_R th fr to ln) s u ≤ b + 30
    · exact ⟨u, hu, hb, h⟩
    · have hus : u ≠ s := by
        intro e
        rw [e, gd_ss] at hb
        omega
      obtain ⟨w, hw, hx⟩ := gd_pre _ hu hus hk
      have h1 := nt_1 ok w u
      have h30 := nt_30 ok w u
      have h3 := gd_st (nt_R th fr to ln) s hw hu
      have h2 : nt_R th fr to ln w u ≤ 30 := by omega
      exact ih w hw (by omega) (by omega) (by omega)
theorem nt_cnt (ok : nt_ok th fr to ln) {s u : Nat} (hs : s < 12) (hu : u < 12) (hk : gd_d (nt_R th fr to ln) s u < 1000000) : ∀ m, 30 * m < gd_d (nt_R th fr to ln) s u → m + 1 ≤ cn_c (fun v => gd_d (nt_R th fr to ln) s v ≤ 30 * m) 12 := by
  intro m
  induction m with
  | zero =>
    intro _
    have := cn_pos (P := fun v => gd_d (nt_R th fr to ln) s v ≤ 30 * 0) hs (by show gd_d (nt_R th fr to ln) s s ≤ 30 * 0; rw [gd_ss]; omega)
    omega
  | succ m ih =>
    intro h
    have h1 := ih (by omega)
    obtain ⟨v, hv, ha, hb⟩ := nt_gap ok (s := s) (b := 30 * m) _ u hu (Nat.lt_succ_self _) hk (by omega)
    have h2 := cn_lt (P := fun v => gd_d (nt_R th fr to ln) s v ≤ 30 * m) (Q := fun v => gd_d (nt_R th fr to ln) s v ≤ 30 * (m + 1)) (a := v) (by show ¬ gd_d (nt_R th fr to ln) s v ≤ 30 * m; omega) (by show gd_d (nt_R th fr to ln) s v ≤ 30 * (m + 1); omega) (N := 12) (fun k _ q => by have q' : gd_d (nt_R th fr to ln) s k ≤ 30 * m := q; show gd_d (nt_R th fr to ln) s k ≤ 30 * (m + 1); omega) hv
    omega
theorem nt_bd (ok : nt_ok th fr to ln) {s u : Nat} (hs : s < 12) (hu : u < 12) (hk : gd_d (nt_R th fr to ln) s u < 1000000) : gd_d (nt_R th fr to ln) s u ≤ 360 := by
  rcases Nat.lt_or_ge 360 (gd_d (nt_R th fr to ln) s u) with z | z
  · have h1 := nt_cnt ok hs hu hk 12 (by omega)
    have h2 := cn_le (fun v => gd_d (nt_R th fr to ln) s v ≤ 30 * 12) 12
    omega
  · exact z
end
end
section
/-! searches over a table of weights, without the program -/
def dj_I (W : Nat → Nat → Nat) (s : Nat) (S : Nat → Prop) (F : Nat → Nat) : Prop :=
  F s = 0 ∧ (∀ v, v < 12 → F v ≤ 1000000) ∧ (∀ v, v < 12 → gd_d W s v ≤ F v) ∧ (∀ u, u < 12 → S u → ∀ v, v < 12 → F v ≤ F u + W u v) ∧ (∀ u, u < 12 → S u → ∀ v, v < 12 → ¬ S v → F u ≤ F v)
def dj_rx (W : Nat → Nat → Nat) (u : Nat) (F : Nat → Nat) : Nat → Nat := fun v => min (F v) (F u + W u v)
def dj_in (s : Nat) : Nat → Nat := fun v => if v = s then 0 else 1000000
/-- what the search for the nearest says: r is -1 and none is left, or a nearest -/
def dj_N (S : Nat → Prop) (F : Nat → Nat) (r : Int32) : Prop :=
  (r = -1 ∧ ∀ p, p < 12 → ¬ S p → 1000000 ≤ F p) ∨ ∃ u, u < 12 ∧ r = nI u ∧ ¬ S u ∧ F u < 1000000 ∧ ∀ p, p < 12 → ¬ S p → F u ≤ F p
theorem dj_0 (W : Nat → Nat → Nat) {s : Nat} : dj_I W s (fun _ => False) (dj_in s) := by
  refine ⟨if_pos rfl, fun v _ => ?_, fun v hv => ?_, fun u _ h => h.elim, fun u _ h => h.elim⟩
  · unfold dj_in; split <;> omega
  · unfold dj_in
    by_cases e : v = s
    · rw [if_pos e, e, gd_ss]; omega
    · rw [if_neg e]; exact gd_le W s hv
theorem dj_up {W : Nat → Nat → Nat} {s u : Nat} {S : Nat → Prop} {F : Nat → Nat} (h : dj_I W s S F) (hu : u < 12) (hm : ∀ p, p < 12 → ¬ S p → F u ≤ F p) (hS : ¬ S u) :
    dj_I W s (fun j => S j ∨ j = u) (dj_rx W u F) := by
  obtain ⟨h0, hK, hl, hc, ho⟩ := h
  have e : ∀ j, j < 12 → (S j ∨ j = u) → dj_rx W u F j = F j := by
    intro j hj q
    show min (F j) (F u + W u j) = F j
    have : F j ≤ F u := by
      rcases q with q | q
      · exact ho j hj q u hu hS
      · rw [q]; omega
    omega
  refine ⟨?_, fun v hv => ?_, fun v hv => ?_, fun x hx q v hv => ?_, fun x hx q v hv n => ?_⟩
  · show min (F s) (F u + W u s) = 0
    omega
  · have := hK v hv
    show min (F v) (F u + W u v) ≤ 1000000
    omega
  · have h1 := hl v hv
    have h2 := gd_st W s hu hv
    have h3 := hl u hu
    show _ ≤ min (F v) (F u + W u v)
    omega
  · rw [e x hx q]
    show min (F v) (F u + W u v) ≤ F x + W x v
    rcases q with q | q
    · have := hc x hx q v hv
      omega
    · rw [q]; omega
  · rw [e x hx q]
    show F x ≤ min (F v) (F u + W u v)
    have n1 : ¬ S v := fun z => n (Or.inl z)
    have h1 := hm v hv n1
    rcases q with q | q
    · have h2 := ho x hx q u hu hS
      omega
    · rw [q]; omega
theorem dj_end {W : Nat → Nat → Nat} {s : Nat} {S : Nat → Prop} {F : Nat → Nat} (h : dj_I W s S F) (hm : ∀ p, p < 12 → ¬ S p → 1000000 ≤ F p) : ∀ v, v < 12 → F v = gd_d W s v := by
  obtain ⟨h0, hK, hl, hc, ho⟩ := h
  refine gd_eq ⟨h0, hK, fun u v hu hv => ?_⟩ hl
  rcases Classical.em (S u) with q | q
  · exact hc u hu q v hv
  · have h1 := hm u hu q
    have h2 := hK v hv
    omega
/-! the bound on rounds: points that are not settled -/
theorem dj_cn {S : Nat → Prop} {u n : Nat} (hu : u < 12) (hS : ¬ S u) (h : cn_c (fun j => ¬ S j) 12 < n + 1) : cn_c (fun j => ¬ (S j ∨ j = u)) 12 < n := by
  have h1 := cn_lt (P := fun j => ¬ (S j ∨ j = u)) (Q := fun j => ¬ S j) (a := u) (fun q => q (Or.inr rfl)) hS (N := 12) (fun k _ q z => q (Or.inl z)) hu
  omega
/-! engine 1: a meeting of the searches from both ends -/
def bi_B (F B : Nat → Nat) (b : Nat) : Prop := b ≤ 1000000 ∧ (∀ p, p < 12 → b ≤ F p + B p) ∧ (b = 1000000 ∨ ∃ p, p < 12 ∧ b = F p + B p)
theorem bi_lo {W : Nat → Nat → Nat} {s t b : Nat} {S Z : Nat → Prop} {F B : Nat → Nat} (hs : s < 12) (ht : t < 12) (hF : dj_I W s S F) (hB : dj_I (fun u v => W v u) t Z B) (hb : bi_B F B b) : gd_d W s t ≤ b := by
  rcases hb.2.2 with e | ⟨p, hp, e⟩
  · rw [e]; exact gd_le W s ht
  · have h1 := hF.2.2.1 p hp
    have h2 := hB.2.2.1 p hp
    rw [gd_tr W hp ht] at h2
    have h3 := gd_tri W s hp ht
    omega
theorem bi_F {W : Nat → Nat → Nat} {s t b : Nat} {S Z : Nat → Prop} {F B : Nat → Nat} (ht : t < 12) (hF : dj_I W s S F) (hB : dj_I (fun u v => W v u) t Z B) (hb : bi_B F B b) (hm : ∀ p, p < 12 → ¬ S p → 1000000 ≤ F p) : b ≤ gd_d W s t := by
  have h1 := hb.2.1 t ht
  rw [dj_end hF hm t ht, hB.1] at h1
  exact h1
theorem bi_Z {W : Nat → Nat → Nat} {s t b : Nat} {S Z : Nat → Prop} {F B : Nat → Nat} (hs : s < 12) (ht : t < 12) (hF : dj_I W s S F) (hB : dj_I (fun u v => W v u) t Z B) (hb : bi_B F B b) (hm : ∀ p, p < 12 → ¬ Z p → 1000000 ≤ B p) : b ≤ gd_d W s t := by
  have h1 := hb.2.1 s hs
  rw [dj_end hB hm s hs, hF.1, gd_tr W hs ht] at h1
  omega
noncomputable def bi_G (S : Nat → Prop) (F B : Nat → Nat) (b a : Nat) (x : Nat) : Nat := @ite Nat (S x) (Classical.propDecidable _) (min (F x) b) (min (max a (b - B x)) b)
theorem bi_Gt {S : Nat → Prop} {F B : Nat → Nat} {b a x : Nat} (h : S x) : bi_G S F B b a x = min (F x) b := by unfold bi_G; rw [if_pos h]
theorem bi_Gf {S : Nat → Prop} {F B : Nat → Nat} {b a x : Nat} (h : ¬ S x) : bi_G S F B b a x = min (max a (b - B x)) b := by unfold bi_G; rw [if_neg h]
theorem bi_up {W : Nat → Nat → Nat} {s t b u v : Nat} {S Z : Nat → Prop} {F B : Nat → Nat} (hs : s < 12) (ht : t < 12) (hF : dj_I W s S F) (hB : dj_I (fun u v => W v u) t Z B) (hb : bi_B F B b)
    (hu : u < 12) (hSu : ¬ S u) (hum : ∀ p, p < 12 → ¬ S p → F u ≤ F p) (hv : v < 12) (hvm : ∀ p, p < 12 → ¬ Z p → B v ≤ B p) (hst : b ≤ F u + B v) : b ≤ gd_d W s t := by
  obtain ⟨f0, fK, fl, fc, fo⟩ := hF
  obtain ⟨b0, bK, bl, bc, bo⟩ := hB
  obtain ⟨k1, k2, k3⟩ := hb
  have hG : gd_fe W s (bi_G S F B b (F u)) := by
    refine ⟨?_, fun x hx => ?_, fun x y hx hy => ?_⟩
    · rcases Classical.em (S s) with q | q
      · rw [bi_Gt q, f0]; omega
      · rw [bi_Gf q]
        have h1 := hum s hs q
        have h2 := k2 s hs
        omega
    · rcases Classical.em (S x) with q | q
      · rw [bi_Gt q]; omega
      · rw [bi_Gf q]; omega
    · rcases Classical.em (S x) with q | q <;> rcases Classical.em (S y) with r | r
      · rw [bi_Gt q, bi_Gt r]
        have := fc x hx q y hy
        omega
      · rw [bi_Gt q, bi_Gf r]
        have h1 := fc x hx q y hy
        have h2 := hum y hy r
        have h3 := k2 y hy
        omega
      · rw [bi_Gf q, bi_Gt r]
        have h1 := fo y hy r u hu hSu
        omega
      · rw [bi_Gf q, bi_Gf r]
        rcases Classical.em (Z y) with z | z
        · have h1 : B x ≤ B y + W x y := bc y hy z x hx
          omega
        · have h1 := hvm y hy z
          omega
  have h1 := gd_top hG ht
  have h2 := k2 t ht
  rcases Classical.em (S t) with q | q
  · rw [bi_Gt q] at h1; omega
  · rw [bi_Gf q] at h1; omega
/-! the heap's search: roads from points that aren't in the heap are done with -/
def hq_I (ok : Nat → Bool) (fr to ln : Nat → Nat) (D : Nat → Nat) (s : Nat) (M : Nat → Prop) (F : Nat → Nat) : Prop :=
  F s = 0 ∧ (∀ v, v < 12 → F v ≤ 1000000) ∧ (∀ v, v < 12 → D v ≤ F v) ∧ ∀ k, k < 28 → ok k = true → ¬ M (fr k) → F (to k) ≤ F (fr k) + ln k
def hq_J (ok : Nat → Bool) (fr to ln : Nat → Nat) (D : Nat → Nat) (s u i : Nat) (M : Nat → Prop) (F : Nat → Nat) : Prop :=
  F s = 0 ∧ (∀ v, v < 12 → F v ≤ 1000000) ∧ (∀ v, v < 12 → D v ≤ F v) ∧ ∀ k, k < 28 → ok k = true → (¬ M (fr k) ∧ fr k ≠ u ∨ fr k = u ∧ k < i) → F (to k) ≤ F (fr k) + ln k
def hq_s (F : Nat → Nat) : Nat → Nat
  | 0 => 0
  | n + 1 => hq_s F n + F n
theorem hq_eq {F G : Nat → Nat} : ∀ {n : Nat}, (∀ j, j < n → F j = G j) → hq_s F n = hq_s G n
  | 0, _ => rfl
  | n + 1, h => by simp only [hq_s]; rw [hq_eq (n := n) (fun j hj => h j (by omega)), h n (by omega)]
theorem hq_lt {F : Nat → Nat} {p w : Nat} (hw : w < F p) : ∀ {n : Nat}, p < n → hq_s (fun j => if j = p then w else F j) n < hq_s F n
  | 0, h => by omega
  | n + 1, h => by
    simp only [hq_s]
    rcases Nat.lt_or_ge p n with z | z
    · have := hq_lt hw (n := n) z
      rw [if_neg (by omega : ¬ n = p)]
      omega
    · have e : p = n := by omega
      subst e
      rw [if_pos rfl, hq_eq (n := p) (F := fun j => if j = p then w else F j) (G := F) (fun j hj => if_neg (by omega))]
      omega
section
variable {ok : Nat → Bool} {fr to ln D : Nat → Nat} {s : Nat} {M : Nat → Prop} {F : Nat → Nat}
theorem hq_0 (hD : D s = 0) (hK : ∀ v, v < 12 → D v ≤ 1000000) : hq_I ok fr to ln D s (fun j => j = s) (dj_in s) := by
  refine ⟨if_pos rfl, fun v _ => ?_, fun v hv => ?_, fun k _ _ q => ?_⟩
  · unfold dj_in; split <;> omega
  · unfold dj_in
    by_cases e : v = s
    · rw [if_pos e, e, hD]; omega
    · rw [if_neg e]; exact hK v hv
  · have h1 : dj_in s (fr k) = 1000000 := if_neg q
    have h2 : dj_in s (to k) ≤ 1000000 := by unfold dj_in; split <;> omega
    omega
theorem hq_take {u : Nat} (h : hq_I ok fr to ln D s M F) : hq_J ok fr to ln D s u 0 (fun j => M j ∧ j ≠ u) F := by
  refine ⟨h.1, h.2.1, h.2.2.1, fun k hk ht q => ?_⟩
  rcases q with ⟨q1, q2⟩ | ⟨_, q⟩
  · exact h.2.2.2 k hk ht (fun z => q1 ⟨z, q2⟩)
  · omega
theorem hq_done {u : Nat} (h : hq_J ok fr to ln D s u 28 M F) : hq_I ok fr to ln D s M F := by
  refine ⟨h.1, h.2.1, h.2.2.1, fun k hk ht q => h.2.2.2 k hk ht ?_⟩
  by_cases e : fr k = u
  · exact Or.inr ⟨e, hk⟩
  · exact Or.inl ⟨q, e⟩
theorem hq_skip {u i : Nat} (h : hq_J ok fr to ln D s u i M F) (hi : ok i = true → fr i = u → F (to i) ≤ F u + ln i) : hq_J ok fr to ln D s u (i + 1) M F := by
  refine ⟨h.1, h.2.1, h.2.2.1, fun k hk ht q => ?_⟩
  rcases q with q | ⟨q1, q2⟩
  · exact h.2.2.2 k hk ht (Or.inl q)
  · rcases Nat.lt_or_ge k i with z | z
    · exact h.2.2.2 k hk ht (Or.inr ⟨q1, z⟩)
    · have e : k = i := by omega
      subst e
      rw [q1]
      exact hi ht q1
theorem hq_reach {u i : Nat} (hl : ∀ k, k < 28 → ok k = true → D (to k) ≤ D (fr k) + ln k) (hi : i < 28) (hok : ok i = true) (hfr : fr i = u) (hu : u < 12) (hlt : F u + ln i < F (to i)) (h : hq_J ok fr to ln D s u i M F) :
    hq_J ok fr to ln D s u (i + 1) (fun j => M j ∨ j = to i) (fun j => if j = to i then F u + ln i else F j) := by
  obtain ⟨h0, hK, hL, hc⟩ := h
  have hut : u ≠ to i := by
    intro e
    rw [← e] at hlt
    omega
  have g : ∀ j, (if j = to i then F u + ln i else F j) ≤ F j := by
    intro j
    by_cases e : j = to i
    · rw [if_pos e, e]; omega
    · rw [if_neg e]; omega
  refine ⟨?_, fun v hv => ?_, fun v hv => ?_, fun k hk ht q => ?_⟩
  · have := g s
    show (if s = to i then F u + ln i else F s) = 0
    omega
  · have := g v
    have := hK v hv
    show (if v = to i then F u + ln i else F v) ≤ 1000000
    omega
  · show D v ≤ (if v = to i then F u + ln i else F v)
    by_cases e : v = to i
    · rw [if_pos e, e]
      have h1 := hl i hi hok
      have h2 := hL u hu
      rw [hfr] at h1
      omega
    · rw [if_neg e]; exact hL v hv
  · show (if to k = to i then F u + ln i else F (to k)) ≤ (if fr k = to i then F u + ln i else F (fr k)) + ln k
    have h1 := g (to k)
    rcases q with ⟨q1, q2⟩ | ⟨q1, q2⟩
    · have n1 : fr k ≠ to i := fun e => q1 (Or.inr e)
      rw [if_neg n1]
      have := hc k hk ht (Or.inl ⟨fun z => q1 (Or.inl z), q2⟩)
      omega
    · have n1 : fr k ≠ to i := by rw [q1]; exact hut
      rw [if_neg n1, q1]
      rcases Nat.lt_or_ge k i with z | z
      · have := hc k hk ht (Or.inr ⟨q1, z⟩)
        rw [q1] at this
        omega
      · have e : k = i := by omega
        subst e
        rw [if_pos rfl]
        omega
theorem hq_end (h : hq_I ok fr to ln D s M F) (hM : ∀ j, ¬ M j) : ∀ k, k < 28 → ok k = true → F (to k) ≤ F (fr k) + ln k := fun k hk ht => h.2.2.2 k hk ht (hM _)
end
/-! engine 5: flagged roads are enough -/
theorem fl_up {th ok : Nat → Bool} {fr to ln : Nat → Nat} (K : nt_ok th fr to ln) {s t : Nat} {F : Nat → Nat} (hs : s < 12) (ht : t < 12) (h0 : F s = 0) (hK : F t ≤ 1000000)
    (hc : ∀ k, k < 28 → ok k = true → F (to k) ≤ F (fr k) + ln k)
    (hok : ∀ k, k < 28 → th k = true → gd_d (nt_R th fr to ln) (to k) t < 1000000 → gd_d (nt_R th fr to ln) (fr k) t = ln k + gd_d (nt_R th fr to ln) (to k) t → ok k = true) : F t ≤ gd_d (nt_R th fr to ln) s t := by
  have key : ∀ n x, x < 12 → gd_d (nt_R th fr to ln) x t < n → gd_d (nt_R th fr to ln) x t < 1000000 → F t ≤ F x + gd_d (nt_R th fr to ln) x t := by
    intro n
    induction n with
    | zero => intro x _ h; omega
    | succ n ih =>
      intro x hx hn hk
      by_cases e : x = t
      · rw [e]; omega
      · obtain ⟨y, hy, h⟩ := gd_suc _ hx ht e hk
        have h1 := nt_1 K x y
        rcases nt_ex (th := th) (fr := fr) (to := to) (ln := ln) 28 x y with z | ⟨k, hk2, k1, k2, k3, k4⟩
        · have z' : nt_R th fr to ln x y = 1000000 := z
          omega
        · have k4' : ln k = nt_R th fr to ln x y := k4
          have h2 := gd_tri (nt_R th fr to ln) x hy ht
          have h3 := gd_ed (nt_R th fr to ln) hx hy
          have g := hc k hk2 (hok k hk2 k1 (by rw [k3]; omega) (by rw [k2, k3]; omega))
          rw [k2, k3] at g
          have := ih y hy (by omega) (by omega)
          omega
  rcases Nat.lt_or_ge (gd_d (nt_R th fr to ln) s t) 1000000 with z | z
  · have := key _ s hs (Nat.lt_succ_self _) z
    omega
  · omega
/-! engine 4: a potential that is consistent along roads to points that reach the goal -/
def as_I (W : Nat → Nat → Nat) (p : Nat → Nat) (s t : Nat) (S : Nat → Prop) (F : Nat → Nat) : Prop :=
  F s = 0 ∧ (∀ v, v < 12 → F v ≤ 1000000) ∧ (∀ v, v < 12 → gd_d W s v ≤ F v) ∧ (∀ u, u < 12 → gd_d W u t < 1000000 → S u → ∀ v, v < 12 → gd_d W v t < 1000000 → F v ≤ F u + W u v) ∧
  (∀ u, u < 12 → gd_d W u t < 1000000 → S u → ∀ v, v < 12 → gd_d W v t < 1000000 → ¬ S v → F u + p u ≤ F v + p v)
theorem as_0 (W : Nat → Nat → Nat) (p : Nat → Nat) {s t : Nat} : as_I W p s t (fun _ => False) (dj_in s) := by
  obtain ⟨h0, hK, hl, _, _⟩ := dj_0 W (s := s)
  exact ⟨h0, hK, hl, fun u _ _ h => h.elim, fun u _ _ h => h.elim⟩
theorem as_up {W : Nat → Nat → Nat} {p : Nat → Nat} {s t u : Nat} {S : Nat → Prop} {F : Nat → Nat}
    (hp : ∀ x y, x < 12 → y < 12 → gd_d W y t < 1000000 → p x ≤ W x y + p y) (hr : ∀ x y, x < 12 → y < 12 → gd_d W y t < 1000000 → W x y < 1000000 → gd_d W x t < 1000000)
    (h : as_I W p s t S F) (hu : u < 12) (hFu : F u < 1000000) (hS : ¬ S u) (hm : ∀ q, q < 12 → ¬ S q → F q < 1000000 → F u + p u ≤ F q + p q) (hpb : ∀ q, q < 12 → F u + p u ≤ 1000000) :
    as_I W p s t (fun j => S j ∨ j = u) (dj_rx W u F) := by
  obtain ⟨h0, hK, hl, hc, ho⟩ := h
  have hm2 : ∀ q, q < 12 → ¬ S q → F u + p u ≤ F q + p q := by
    intro q hq n
    by_cases z : F q < 1000000
    · exact hm q hq n z
    · have := hpb q hq
      omega
  have e : ∀ j, j < 12 → gd_d W j t < 1000000 → (S j ∨ j = u) → dj_rx W u F j = F j := by
    intro j hj hjt q
    show min (F j) (F u + W u j) = F j
    by_cases z : W u j < 1000000
    · have hut := hr u j hu hj hjt z
      have h1 := hp u j hu hj hjt
      rcases q with q | q
      · have := ho j hj hjt q u hu hut hS
        omega
      · rw [q]; omega
    · have := hK j hj
      omega
  refine ⟨?_, fun v hv => ?_, fun v hv => ?_, fun x hx hxt q v hv hvt => ?_, fun x hx hxt q v hv hvt n => ?_⟩
  · show min (F s) (F u + W u s) = 0
    omega
  · have := hK v hv
    show min (F v) (F u + W u v) ≤ 1000000
    omega
  · have h1 := hl v hv
    have h2 := gd_st W s hu hv
    have h3 := hl u hu
    show _ ≤ min (F v) (F u + W u v)
    omega
  · rw [e x hx hxt q]
    show min (F v) (F u + W u v) ≤ F x + W x v
    rcases q with q | q
    · have := hc x hx hxt q v hv hvt
      omega
    · rw [q]; omega
  · rw [e x hx hxt q]
    show F x + p x ≤ min (F v) (F u + W u v) + p v
    have n1 : ¬ S v := fun z => n (Or.inl z)
    have h1 := hm2 v hv n1
    have h4 := hp u v hu hv hvt
    rcases q with q | q
    · have h5 := ho x hx hxt q v hv hvt n1
      by_cases z : W u v < 1000000
      · have hut := hr u v hu hv hvt z
        have h2 := ho x hx hxt q u hu hut hS
        omega
      · have := hK v hv
        omega
    · rw [q]; omega
noncomputable def as_G (W : Nat → Nat → Nat) (p : Nat → Nat) (t : Nat) (S : Nat → Prop) (F : Nat → Nat) (c : Nat) (x : Nat) : Nat := @ite Nat (gd_d W x t < 1000000) (Classical.propDecidable _) (@ite Nat (S x) (Classical.propDecidable _) (F x) (c - p x)) 0
theorem as_G0 {W : Nat → Nat → Nat} {p : Nat → Nat} {t c x : Nat} {S : Nat → Prop} {F : Nat → Nat} (h : ¬ gd_d W x t < 1000000) : as_G W p t S F c x = 0 := by unfold as_G; rw [if_neg h]
theorem as_G1 {W : Nat → Nat → Nat} {p : Nat → Nat} {t c x : Nat} {S : Nat → Prop} {F : Nat → Nat} (h : gd_d W x t < 1000000) (q : S x) : as_G W p t S F c x = F x := by unfold as_G; rw [if_pos h, if_pos q]
theorem as_G2 {W : Nat → Nat → Nat} {p : Nat → Nat} {t c x : Nat} {S : Nat → Prop} {F : Nat → Nat} (h : gd_d W x t < 1000000) (q : ¬ S x) : as_G W p t S F c x = c - p x := by unfold as_G; rw [if_pos h, if_neg q]
/-- the bound c: the goal's own way where it is taken, or any c where nothing is left -/
theorem as_end {W : Nat → Nat → Nat} {p : Nat → Nat} {s t c : Nat} {S : Nat → Prop} {F : Nat → Nat}
    (hp : ∀ x y, x < 12 → y < 12 → gd_d W y t < 1000000 → p x ≤ W x y + p y) (hr : ∀ x y, x < 12 → y < 12 → gd_d W y t < 1000000 → W x y < 1000000 → gd_d W x t < 1000000)
    (h : as_I W p s t S F) (hs : s < 12) (ht : t < 12) (hpt : p t = 0) (hSt : ¬ S t) (hc : c ≤ 1000000)
    (hm : ∀ q, q < 12 → ¬ S q → gd_d W q t < 1000000 → c ≤ F q + p q) (hmo : ∀ q, q < 12 → S q → gd_d W q t < 1000000 → F q + p q ≤ c) : c ≤ gd_d W s t := by
  rcases Nat.lt_or_ge (gd_d W s t) 1000000 with hst | hst
  · obtain ⟨h0, hK, hl, hcl, ho⟩ := h
    have hG : gd_fe W s (as_G W p t S F c) := by
      refine ⟨?_, fun x hx => ?_, fun x y hx hy => ?_⟩
      · rcases Classical.em (S s) with q | q
        · rw [as_G1 hst q, h0]
        · rw [as_G2 hst q]
          have := hm s hs q hst
          omega
      · by_cases hx' : gd_d W x t < 1000000
        · rcases Classical.em (S x) with q | q
          · rw [as_G1 hx' q]; exact hK x hx
          · rw [as_G2 hx' q]; omega
        · rw [as_G0 hx']; omega
      · by_cases hy' : gd_d W y t < 1000000
        · by_cases z : W x y < 1000000
          · have hx' := hr x y hx hy hy' z
            have h1 := hp x y hx hy hy'
            rcases Classical.em (S x) with q | q <;> rcases Classical.em (S y) with r | r
            · rw [as_G1 hx' q, as_G1 hy' r]; exact hcl x hx hx' q y hy hy'
            · rw [as_G1 hx' q, as_G2 hy' r]
              have h2 := hcl x hx hx' q y hy hy'
              have h3 := hm y hy r hy'
              omega
            · rw [as_G2 hx' q, as_G1 hy' r]
              have h2 := hmo y hy r hy'
              omega
            · rw [as_G2 hx' q, as_G2 hy' r]
              omega
          · have : as_G W p t S F c y ≤ 1000000 := by
              rcases Classical.em (S y) with q | q
              · rw [as_G1 hy' q]; exact hK y hy
              · rw [as_G2 hy' q]; omega
            omega
        · rw [as_G0 hy']; omega
    have h1 := gd_top hG ht
    rw [as_G2 (by rw [gd_ss]; omega) hSt, hpt] at h1
    omega
  · omega
end
section
/-! a least value, at most 1000000 -/
def mk_m (f : Nat → Nat) : Nat → Nat
  | 0 => 1000000
  | n + 1 => min (mk_m f n) (f n)
theorem mk_K (f : Nat → Nat) : ∀ n, mk_m f n ≤ 1000000
  | 0 => Nat.le_refl _
  | n + 1 => by have := mk_K f n; simp only [mk_m]; omega
theorem mk_le (f : Nat → Nat) : ∀ n j, j < n → mk_m f n ≤ f j
  | 0, _, h => by omega
  | n + 1, j, h => by
    simp only [mk_m]
    rcases Nat.lt_or_ge j n with z | z
    · have := mk_le f n j z; omega
    · have e : j = n := by omega
      subst e; omega
theorem mk_ex (f : Nat → Nat) : ∀ n, mk_m f n = 1000000 ∨ ∃ j, j < n ∧ mk_m f n = f j
  | 0 => Or.inl rfl
  | n + 1 => by
    simp only [mk_m]
    rcases Nat.lt_or_ge (f n) (mk_m f n) with z | z
    · exact Or.inr ⟨n, by omega, by omega⟩
    · rcases mk_ex f n with e | ⟨j, hj, e⟩
      · exact Or.inl (by omega)
      · exact Or.inr ⟨j, by omega, by omega⟩
theorem mk_eq {f g : Nat → Nat} : ∀ {n : Nat}, (∀ j, j < n → f j = g j) → mk_m f n = mk_m g n
  | 0, _ => rfl
  | n + 1, h => by simp only [mk_m]; rw [mk_eq (n := n) (fun j hj => h j (by omega)), h n (by omega)]
theorem mk_cap {f g : Nat → Nat} : ∀ {n : Nat}, (∀ j, j < n → f j = g j ∨ (1000000 ≤ f j ∧ 1000000 ≤ g j)) → mk_m f n = mk_m g n
  | 0, _ => rfl
  | n + 1, h => by
    have h1 := mk_K g n
    have h2 := h n (by omega)
    simp only [mk_m]
    rw [mk_cap (n := n) (fun j hj => h j (by omega))]
    omega
theorem bi_mk (F B : Nat → Nat) : bi_B F B (mk_m (fun p => F p + B p) 12) := by
  refine ⟨mk_K _ _, fun p hp => mk_le (fun p => F p + B p) 12 p hp, ?_⟩
  rcases mk_ex (fun p => F p + B p) 12 with e | ⟨p, hp, e⟩
  · exact Or.inl e
  · exact Or.inr ⟨p, hp, e⟩
theorem mn_ex (P : Nat → Prop) (f : Nat → Nat) : ∀ n, ∃ m, m ≤ 1000000 ∧ (∀ a, a < n → P a → m ≤ f a) ∧ (m = 1000000 ∨ ∃ a, a < n ∧ P a ∧ m = f a)
  | 0 => ⟨1000000, Nat.le_refl _, fun a h => by omega, Or.inl rfl⟩
  | n + 1 => by
    obtain ⟨m, h1, h2, h3⟩ := mn_ex P f n
    rcases Classical.em (P n ∧ f n < m) with ⟨z, y⟩ | z
    · refine ⟨f n, by omega, fun a ha q => ?_, Or.inr ⟨n, by omega, z, rfl⟩⟩
      rcases Nat.lt_or_ge a n with w | w
      · have := h2 a w q; omega
      · have e : a = n := by omega
        rw [e]; omega
    · refine ⟨m, h1, fun a ha q => ?_, ?_⟩
      · rcases Nat.lt_or_ge a n with w | w
        · exact h2 a w q
        · have e : a = n := by omega
          subst e
          rcases Nat.lt_or_ge (f a) m with v | v
          · exact absurd ⟨q, v⟩ z
          · exact v
      · rcases h3 with e | ⟨a, ha, q, e⟩
        · exact Or.inl e
        · exact Or.inr ⟨a, by omega, q, e⟩
/-! engine 2: points taken out, one by one -/
def ch_fe (L : Nat → Prop) (E : Nat → Nat → Nat) (F : Nat → Nat) : Prop := (∀ v, v < 12 → F v ≤ 1000000) ∧ ∀ u v, u < 12 → v < 12 → L u → L v → F v ≤ F u + E u v
def ch_A (R : Nat → Nat → Nat) (L : Nat → Prop) (E : Nat → Nat → Nat) : Prop := ∀ u, u < 12 → L u → ∀ F, F u = 0 → ch_fe L E F → ∀ v, v < 12 → L v → F v ≤ gd_d R u v
def ch_S (R E : Nat → Nat → Nat) : Prop := ∀ u v, u < 12 → v < 12 → gd_d R u v ≤ E u v ∧ E u v ≤ 1000000
def ch_U (rk : Nat → Nat) (E : Nat → Nat → Nat) : Nat → Nat → Nat := fun u v => if rk u < rk v then E u v else 1000000
def ch_V (rk : Nat → Nat) (E : Nat → Nat → Nat) : Nat → Nat → Nat := fun u v => if rk u < rk v then E v u else 1000000
def ch_C (R : Nat → Nat → Nat) (rk : Nat → Nat) (E : Nat → Nat → Nat) (L : Nat → Prop) : Prop :=
  ∀ s t, s < 12 → t < 12 → L s → L t → gd_d R s t < 1000000 → ∃ p, p < 12 ∧ gd_d (ch_U rk E) s p + gd_d (ch_V rk E) t p ≤ gd_d R s t
def ch_F (R : Nat → Nat → Nat) (r : Nat) (L : Nat → Prop) (E : Nat → Nat → Nat) (rk : Nat → Nat) : Prop :=
  ∀ (E' : Nat → Nat → Nat) (rk' : Nat → Nat), (∀ u, u < 12 → ¬ L u → rk' u = rk u ∧ ∀ v, v < 12 → E' u v = E u v ∧ E' v u = E v u) → (∀ u, u < 12 → L u → r ≤ rk' u) → ch_C R rk' E' L → ch_C R rk' E' (fun _ => True)
/-- what taking x out gives: lower edges between the points left, and for each pair a way that is no longer than over x -/
def ch_X (R : Nat → Nat → Nat) (L : Nat → Prop) (x : Nat) (E E' : Nat → Nat → Nat) : Prop :=
  (∀ u v, u < 12 → v < 12 → E' u v ≤ E u v) ∧ ch_S R E' ∧ (∀ u v, u < 12 → v < 12 → ¬ ((L u ∧ u ≠ x) ∧ (L v ∧ v ≠ x)) → E' u v = E u v) ∧
  ∀ a b, a < 12 → b < 12 → (L a ∧ a ≠ x) → (L b ∧ b ≠ x) → a ≠ b → ∀ F, ch_fe (fun j => L j ∧ j ≠ x) E' F → F b ≤ F a + (E a x + E x b)
section
variable {R E E' : Nat → Nat → Nat} {L : Nat → Prop} {x r : Nat} {rk : Nat → Nat}
theorem ch_A0 : ch_A R (fun _ => True) R := by
  intro u hu _ F h0 hF v hv _
  exact gd_top ⟨h0, hF.1, fun a b ha hb => hF.2 a b ha hb trivial trivial⟩ hv
theorem ch_S0 (hR : ∀ u v, R u v ≤ 1000000) : ch_S R R := fun u v hu hv => ⟨gd_ed R hu hv, hR u v⟩
theorem ch_F0 : ch_F R 0 (fun _ => True) E rk := fun _ _ _ _ h => h
theorem ch_A1 (hx : x < 12) (h : ch_A R L E) (X : ch_X R L x E E') : ch_A R (fun j => L j ∧ j ≠ x) E' := by
  intro u hu hL F h0 hF v hv hv'
  obtain ⟨X1, X2, X3, X4⟩ := X
  obtain ⟨m, m1, m2, m3⟩ := mn_ex (fun a => L a ∧ a ≠ x) (fun a => F a + E a x) 12
  have g := h u hu hL.1 (fun y => if y = x then m else F y) (by rw [if_neg hL.2]; exact h0) ?_ v hv hv'.1
  · rw [if_neg hv'.2] at g; exact g
  · refine ⟨fun y hy => ?_, fun a b ha hb La Lb => ?_⟩
    · have := hF.1 y hy
      show (if y = x then m else F y) ≤ 1000000
      split <;> omega
    · show (if b = x then m else F b) ≤ (if a = x then m else F a) + E a b
      by_cases eb : b = x
      · rw [if_pos eb]
        by_cases ea : a = x
        · rw [if_pos ea]; omega
        · rw [if_neg ea, eb]; exact m2 a ha ⟨La, ea⟩
      · rw [if_neg eb]
        by_cases ea : a = x
        · rw [if_pos ea, ea]
          rcases m3 with e | ⟨c, hc, Lc, e⟩
          · have := hF.1 b hb; omega
          · by_cases cb : c = b
            · rw [cb] at e; omega
            · have := X4 c b hc hb Lc ⟨Lb, eb⟩ cb F hF
              omega
        · rw [if_neg ea]
          have h1 := hF.2 a b ha hb ⟨La, ea⟩ ⟨Lb, eb⟩
          have h2 := X1 a b ha hb
          omega
theorem ch_out (hx : x < 12) (Lx : L x) (h : ch_A R L E) (S : ch_S R E) {t : Nat} (ht : t < 12) (Lt : L t) (htx : t ≠ x) (hk : gd_d R x t < 1000000) :
    ∃ v, v < 12 ∧ (L v ∧ v ≠ x) ∧ E x v + gd_d R v t ≤ gd_d R x t := by
  rcases Classical.em (∃ v, v < 12 ∧ (L v ∧ v ≠ x) ∧ E x v + gd_d R v t ≤ gd_d R x t) with z | z
  · exact z
  · exfalso
    have g := h x hx Lx (fun y => if y = x then 0 else gd_d R x t + 1 - gd_d R y t) (if_pos rfl) ?_ t ht Lt
    · rw [if_neg htx, gd_ss] at g; omega
    · refine ⟨fun y hy => ?_, fun a b ha hb La Lb => ?_⟩
      · show (if y = x then 0 else gd_d R x t + 1 - gd_d R y t) ≤ 1000000
        split <;> omega
      · show (if b = x then 0 else gd_d R x t + 1 - gd_d R b t) ≤ (if a = x then 0 else gd_d R x t + 1 - gd_d R a t) + E a b
        by_cases eb : b = x
        · rw [if_pos eb]; omega
        · rw [if_neg eb]
          by_cases ea : a = x
          · rw [if_pos ea, ea]
            have : ¬ E x b + gd_d R b t ≤ gd_d R x t := fun q => z ⟨b, hb, ⟨Lb, eb⟩, q⟩
            omega
          · rw [if_neg ea]
            have h1 := gd_tri R a hb ht
            have h2 := (S a b ha hb).1
            omega
theorem ch_inn (hx : x < 12) (Lx : L x) (h : ch_A R L E) (S : ch_S R E) {s : Nat} (hs : s < 12) (Ls : L s) (hsx : s ≠ x) (hk : gd_d R s x < 1000000) :
    ∃ v, v < 12 ∧ (L v ∧ v ≠ x) ∧ gd_d R s v + E v x ≤ gd_d R s x := by
  rcases Classical.em (∃ v, v < 12 ∧ (L v ∧ v ≠ x) ∧ gd_d R s v + E v x ≤ gd_d R s x) with z | z
  · exact z
  · exfalso
    have g := h s hs Ls (fun y => if y = x then gd_d R s x + 1 else gd_d R s y) (by rw [if_neg hsx]; exact gd_ss R s) ?_ x hx Lx
    · rw [if_pos rfl] at g; omega
    · refine ⟨fun y hy => ?_, fun a b ha hb La Lb => ?_⟩
      · have := gd_le R s hy
        show (if y = x then gd_d R s x + 1 else gd_d R s y) ≤ 1000000
        split <;> omega
      · show (if b = x then gd_d R s x + 1 else gd_d R s b) ≤ (if a = x then gd_d R s x + 1 else gd_d R s a) + E a b
        have h1 := gd_tri R s ha hb
        have h2 := (S a b ha hb).1
        by_cases eb : b = x
        · rw [if_pos eb, eb]
          by_cases ea : a = x
          · rw [if_pos ea]; omega
          · rw [if_neg ea]
            have : ¬ gd_d R s a + E a x ≤ gd_d R s x := fun q => z ⟨a, ha, ⟨La, ea⟩, q⟩
            omega
        · rw [if_neg eb]
          by_cases ea : a = x
          · rw [if_pos ea]; rw [ea] at h1 h2 ⊢; omega
          · rw [if_neg ea]; omega
theorem ch_F1 (hx : x < 12) (Lx : L x) (hA : ch_A R L E) (S : ch_S R E) (X : ch_X R L x E E') (hF : ch_F R r L E rk) :
    ch_F R (r + 1) (fun j => L j ∧ j ≠ x) E' (fun j => if j = x then r else rk j) := by
  intro Es rs hag hrk hC
  obtain ⟨X1, X2, X3, X4⟩ := X
  have ex := hag x hx (fun q => q.2 rfl)
  have rx : rs x = r := ex.1.trans (if_pos rfl)
  refine hF Es rs ?_ ?_ ?_
  · intro u hu nL
    have hne : u ≠ x := fun e => nL (e ▸ Lx)
    have h1 := hag u hu (fun q => nL q.1)
    refine ⟨h1.1.trans (if_neg hne), fun v hv => ?_⟩
    have h2 := h1.2 v hv
    rw [X3 u v hu hv (fun q => nL q.1.1), X3 v u hv hu (fun q => nL q.2.1)] at h2
    exact h2
  · intro u hu Lu
    by_cases e : u = x
    · rw [e, rx]; omega
    · have := hrk u hu ⟨Lu, e⟩
      omega
  · intro s t hs ht Ls Lt hk
    by_cases es : s = x
    · by_cases et : t = x
      · refine ⟨x, hx, ?_⟩
        rw [es, et, gd_ss, gd_ss]; omega
      · rw [es] at hk ⊢
        obtain ⟨v, hv, Lv, h1⟩ := ch_out hx Lx hA S ht Lt et hk
        obtain ⟨p, hp, h2⟩ := hC v t hv ht Lv ⟨Lt, et⟩ (by omega)
        refine ⟨p, hp, ?_⟩
        have h3 := gd_tri (ch_U rs Es) x hv hp
        have h4 := gd_ed (ch_U rs Es) hx hv
        have h5 : ch_U rs Es x v = Es x v := if_pos (by have := hrk v hv Lv; omega)
        have h6 := (ex.2 v hv).1
        rw [X3 x v hx hv (fun q => q.1.2 rfl)] at h6
        omega
    · by_cases et : t = x
      · rw [et] at hk ⊢
        obtain ⟨v, hv, Lv, h1⟩ := ch_inn hx Lx hA S hs Ls es hk
        obtain ⟨p, hp, h2⟩ := hC s v hs hv ⟨Ls, es⟩ Lv (by omega)
        refine ⟨p, hp, ?_⟩
        have h3 := gd_tri (ch_V rs Es) x hv hp
        have h4 := gd_ed (ch_V rs Es) hx hv
        have h5 : ch_V rs Es x v = Es v x := if_pos (by have := hrk v hv Lv; omega)
        have h6 := (ex.2 v hv).2
        rw [X3 v x hv hx (fun q => q.2.2 rfl)] at h6
        omega
      · exact hC s t hs ht ⟨Ls, es⟩ ⟨Lt, et⟩ hk
theorem ch_end (S : ch_S R E) (hC : ch_C R rk E (fun _ => True)) {s t b : Nat} (hs : s < 12) (ht : t < 12) (hb : bi_B (gd_d (ch_U rk E) s) (gd_d (ch_V rk E) t) b) : b = gd_d R s t := by
  have U : ∀ p, p < 12 → gd_d R s p ≤ gd_d (ch_U rk E) s p := fun p hp => gd_top ⟨gd_ss R s, fun v hv => gd_le R s hv, fun u v hu hv => by
    have h1 := gd_tri R s hu hv
    have h2 := (S u v hu hv).1
    have h3 := gd_le R s hv
    unfold ch_U
    split <;> omega⟩ hp
  have V : ∀ p, p < 12 → gd_d R p t ≤ gd_d (ch_V rk E) t p := fun p hp => gd_top (F := fun p => gd_d R p t) ⟨gd_ss R t, fun v hv => gd_le R v ht, fun u v hu hv => by
    have h1 := gd_tri R v hu ht
    have h2 := (S v u hv hu).1
    have h3 := gd_le R v ht
    show gd_d R v t ≤ gd_d R u t + ch_V rk E u v
    unfold ch_V
    split <;> omega⟩ hp
  obtain ⟨b1, b2, b3⟩ := hb
  apply Nat.le_antisymm
  · rcases Nat.lt_or_ge (gd_d R s t) 1000000 with z | z
    · obtain ⟨p, hp, h⟩ := hC s t hs ht trivial trivial z
      have := b2 p hp
      omega
    · omega
  · rcases b3 with e | ⟨p, hp, e⟩
    · rw [e]; exact gd_le R s ht
    · have h1 := U p hp
      have h2 := V p hp
      have h3 := gd_tri R s hp ht
      omega
end
/-! the pairs gone through while x is taken out -/
def sc_I (R : Nat → Nat → Nat) (L : Nat → Prop) (x : Nat) (E0 E : Nat → Nat → Nat) (D : Nat → Nat → Prop) : Prop :=
  (∀ u v, u < 12 → v < 12 → E u v ≤ E0 u v) ∧ ch_S R E ∧ (∀ u v, u < 12 → v < 12 → ¬ ((L u ∧ u ≠ x) ∧ (L v ∧ v ≠ x)) → E u v = E0 u v) ∧
  ∀ a b, a < 12 → b < 12 → D a b → (L a ∧ a ≠ x) → (L b ∧ b ≠ x) → a ≠ b → ∀ F, ch_fe (fun j => L j ∧ j ≠ x) E F → F b ≤ F a + (E0 a x + E0 x b)
theorem sc_D {R : Nat → Nat → Nat} {L : Nat → Prop} {x : Nat} {E0 E : Nat → Nat → Nat} {D D' : Nat → Nat → Prop} (h : sc_I R L x E0 E D)
    (hD : ∀ a b, a < 12 → b < 12 → D' a b → (L a ∧ a ≠ x) → (L b ∧ b ≠ x) → a ≠ b → D a b ∨ ∀ F, ch_fe (fun j => L j ∧ j ≠ x) E F → F b ≤ F a + (E0 a x + E0 x b)) : sc_I R L x E0 E D' := by
  refine ⟨h.1, h.2.1, h.2.2.1, fun a b ha hb q La Lb n F hF => ?_⟩
  rcases hD a b ha hb q La Lb n with z | z
  · exact h.2.2.2 a b ha hb z La Lb n F hF
  · exact z F hF
theorem sc_E {R : Nat → Nat → Nat} {L : Nat → Prop} {x u v : Nat} {E0 E E' : Nat → Nat → Nat} {D D' : Nat → Nat → Prop} (h : sc_I R L x E0 E D) (hx : x < 12) (hu : u < 12) (hv : v < 12) (Lu : L u ∧ u ≠ x) (Lv : L v ∧ v ≠ x)
    (he : ∀ a b, a < 12 → b < 12 → ¬ (a = u ∧ b = v) → E' a b = E a b) (he2 : E' u v = E0 u x + E0 x v) (hl : E0 u x + E0 x v ≤ E u v)
    (hD : ∀ a b, a < 12 → b < 12 → D' a b → D a b ∨ (a = u ∧ b = v)) : sc_I R L x E0 E' D' := by
  obtain ⟨h1, h2, h3, h4⟩ := h
  have g : ∀ a b, a < 12 → b < 12 → E' a b ≤ E a b := by
    intro a b ha hb
    by_cases e : a = u ∧ b = v
    · rw [e.1, e.2, he2]; exact hl
    · rw [he a b ha hb e]; omega
  refine ⟨fun a b ha hb => ?_, fun a b ha hb => ?_, fun a b ha hb q => ?_, fun a b ha hb q La Lb n F hF => ?_⟩
  · have := g a b ha hb
    have := h1 a b ha hb
    omega
  · have g1 := g a b ha hb
    have g2 := h2 a b ha hb
    by_cases e : a = u ∧ b = v
    · rw [e.1, e.2, he2]
      have g3 := (h2 u v hu hv).2
      have e1 := h3 u x hu hx (fun q => q.2.2 rfl)
      have e2 := h3 x v hx hv (fun q => q.1.2 rfl)
      have k1 := (h2 u x hu hx).1
      have k2 := (h2 x v hx hv).1
      have k3 := gd_tri R u hx hv
      omega
    · rw [he a b ha hb e]; exact g2
  · have e : ¬ (a = u ∧ b = v) := fun e => q (by rw [e.1, e.2]; exact ⟨Lu, Lv⟩)
    rw [he a b ha hb e]
    exact h3 a b ha hb q
  · rcases hD a b ha hb q with z | ⟨z1, z2⟩
    · exact h4 a b ha hb z La Lb n F ⟨hF.1, fun c d hc hd Lc Ld => by
        have k1 := hF.2 c d hc hd Lc Ld
        have k2 := g c d hc hd
        omega⟩
    · have k1 := hF.2 u v hu hv Lu Lv
      rw [z1, z2]
      omega
end
section
/-! engine 3: labels -/
def lb_I (R : Nat → Nat → Nat) (H : Nat → Prop) (TH FH : Nat → Nat → Nat) : Prop :=
  (∀ x h, x < 12 → h < 12 → TH x h ≤ 1000000 ∧ (TH x h < 1000000 → H h ∧ TH x h = gd_d R x h)) ∧
  (∀ x h, x < 12 → h < 12 → FH x h ≤ 1000000 ∧ (FH x h < 1000000 → H h ∧ FH x h = gd_d R h x)) ∧
  ∀ j s t, j < 12 → s < 12 → t < 12 → H j → gd_d R s j + gd_d R j t < 1000000 → ∃ h, h < 12 ∧ TH s h + FH t h ≤ gd_d R s j + gd_d R j t
def lb_q (TH FH : Nat → Nat → Nat) (s t : Nat) : Nat := mk_m (fun h => TH s h + FH t h) 12
/-- the search from h that leaves points out; Q: what earlier labels say -/
def ls_I (W : Nat → Nat → Nat) (s : Nat) (Q : Nat → Nat) (S P : Nat → Prop) (F : Nat → Nat) : Prop :=
  F s = 0 ∧ (∀ v, v < 12 → F v ≤ 1000000) ∧ (∀ v, v < 12 → gd_d W s v ≤ F v) ∧ (∀ u, u < 12 → P u → ∀ v, v < 12 → F v ≤ F u + W u v) ∧ (∀ u, u < 12 → S u → ∀ v, v < 12 → ¬ S v → F u ≤ F v) ∧
  (∀ u, u < 12 → P u → S u ∧ F u < Q u) ∧ (∀ u, u < 12 → S u → ¬ P u → Q u ≤ F u)
theorem ls_0 (W : Nat → Nat → Nat) {s : Nat} (Q : Nat → Nat) : ls_I W s Q (fun _ => False) (fun _ => False) (dj_in s) := by
  obtain ⟨h0, hK, hl, _, _⟩ := dj_0 W (s := s)
  exact ⟨h0, hK, hl, fun u _ h => h.elim, fun u _ h => h.elim, fun u _ h => h.elim, fun u _ h => h.elim⟩
section
variable {W : Nat → Nat → Nat} {s u : Nat} {Q : Nat → Nat} {S P : Nat → Prop} {F : Nat → Nat}
theorem ls_cut (h : ls_I W s Q S P F) (hu : u < 12) (hS : ¬ S u) (hm : ∀ p, p < 12 → ¬ S p → F u ≤ F p) (hQ : Q u ≤ F u) : ls_I W s Q (fun j => S j ∨ j = u) P F := by
  obtain ⟨h0, hK, hl, hc, ho, hP, hn⟩ := h
  refine ⟨h0, hK, hl, hc, fun x hx q v hv n => ?_, fun x hx q => ⟨Or.inl (hP x hx q).1, (hP x hx q).2⟩, fun x hx q n => ?_⟩
  · have n1 : ¬ S v := fun z => n (Or.inl z)
    rcases q with q | q
    · exact ho x hx q v hv n1
    · rw [q]; exact hm v hv n1
  · rcases q with q | q
    · exact hn x hx q n
    · rw [q]; exact hQ
theorem ls_keep (h : ls_I W s Q S P F) (hu : u < 12) (hS : ¬ S u) : ∀ j, j < 12 → (S j ∨ j = u) → dj_rx W u F j = F j := by
  intro j hj q
  show min (F j) (F u + W u j) = F j
  have : F j ≤ F u := by
    rcases q with q | q
    · exact h.2.2.2.2.1 j hj q u hu hS
    · rw [q]; omega
  omega
theorem ls_up (h : ls_I W s Q S P F) (hu : u < 12) (hS : ¬ S u) (hm : ∀ p, p < 12 → ¬ S p → F u ≤ F p) (hQ : F u < Q u) : ls_I W s Q (fun j => S j ∨ j = u) (fun j => P j ∨ j = u) (dj_rx W u F) := by
  have e := ls_keep h hu hS
  obtain ⟨h0, hK, hl, hc, ho, hP, hn⟩ := h
  refine ⟨?_, fun v hv => ?_, fun v hv => ?_, fun x hx q v hv => ?_, fun x hx q v hv n => ?_, fun x hx q => ?_, fun x hx q n => ?_⟩
  · show min (F s) (F u + W u s) = 0
    omega
  · have := hK v hv
    show min (F v) (F u + W u v) ≤ 1000000
    omega
  · have h1 := hl v hv
    have h2 := gd_st W s hu hv
    have h3 := hl u hu
    show _ ≤ min (F v) (F u + W u v)
    omega
  · have q' : S x ∨ x = u := q.elim (fun z => Or.inl (hP x hx z).1) Or.inr
    rw [e x hx q']
    show min (F v) (F u + W u v) ≤ F x + W x v
    rcases q with q | q
    · have := hc x hx q v hv
      omega
    · rw [q]; omega
  · rw [e x hx q]
    show F x ≤ min (F v) (F u + W u v)
    have n1 : ¬ S v := fun z => n (Or.inl z)
    have h1 := hm v hv n1
    rcases q with q | q
    · have h2 := ho x hx q u hu hS
      omega
    · rw [q]; omega
  · have q' : S x ∨ x = u := q.elim (fun z => Or.inl (hP x hx z).1) Or.inr
    rw [e x hx q']
    refine ⟨q', ?_⟩
    rcases q with q | q
    · exact (hP x hx q).2
    · rw [q]; exact hQ
  · rw [e x hx q]
    rcases q with q | q
    · exact hn x hx q (fun z => n (Or.inl z))
    · exact absurd (Or.inr q) n
theorem ls_end (h1W : ∀ a b, 1 ≤ W a b) (h : ls_I W s Q S P F) (hm : ∀ p, p < 12 → ¬ S p → 1000000 ≤ F p)
    (hq : ∀ w u, w < 12 → u < 12 → Q w ≤ gd_d W s w → gd_d W s w + W w u ≤ gd_d W s u → gd_d W s u < 1000000 → Q u ≤ gd_d W s u) :
    ∀ u, u < 12 → gd_d W s u < 1000000 → Q u ≤ gd_d W s u ∨ (P u ∧ F u = gd_d W s u) := by
  obtain ⟨h0, hK, hl, hc, ho, hP, hn⟩ := h
  have key : ∀ n u, u < 12 → gd_d W s u < n → gd_d W s u < 1000000 → Q u ≤ gd_d W s u ∨ (P u ∧ F u = gd_d W s u) := by
    intro n
    induction n with
    | zero => intro u _ h; omega
    | succ n ih =>
      intro u hu hn' hk
      have fin : F u ≤ gd_d W s u → Q u ≤ gd_d W s u ∨ (P u ∧ F u = gd_d W s u) := by
        intro q
        rcases Classical.em (S u) with z | z
        · rcases Classical.em (P u) with y | y
          · exact Or.inr ⟨y, Nat.le_antisymm q (hl u hu)⟩
          · have := hn u hu z y
            exact Or.inl (by omega)
        · have := hm u hu z
          omega
      by_cases e : u = s
      · apply fin
        rw [e, h0]; omega
      · obtain ⟨w, hw, g⟩ := gd_pre W hu e hk
        have := h1W w u
        rcases ih w hw (by omega) (by omega) with z | ⟨z1, z2⟩
        · exact Or.inl (hq w u hw hu z g hk)
        · apply fin
          have := hc w hw z1 u hu
          omega
  exact fun u hu hk => key _ u hu (Nat.lt_succ_self _) hk
/-- a point that was noted was noted with its distance -/
theorem ls_P (h : ls_I W s Q S P F) (he : ∀ u, u < 12 → gd_d W s u < 1000000 → Q u ≤ gd_d W s u ∨ (P u ∧ F u = gd_d W s u)) (hQ : ∀ u, u < 12 → Q u ≤ 1000000) : ∀ u, u < 12 → P u → F u = gd_d W s u := by
  intro u hu p
  have h1 := h.2.2.1 u hu
  have h2 := (h.2.2.2.2.2.1 u hu p).2
  have h3 := hQ u hu
  rcases he u hu (by omega) with z | ⟨_, z⟩
  · omega
  · exact z
end
section
variable {R : Nat → Nat → Nat} {H : Nat → Prop} {TH FH TH' FH' : Nat → Nat → Nat} {h : Nat}
theorem lb_lo (I : lb_I R H TH FH) {s t : Nat} (hs : s < 12) (ht : t < 12) : gd_d R s t ≤ lb_q TH FH s t := by
  rcases mk_ex (fun h => TH s h + FH t h) 12 with e | ⟨j, hj, e⟩
  · unfold lb_q; rw [e]; exact gd_le R s ht
  · unfold lb_q; rw [e]
    show _ ≤ TH s j + FH t j
    have h1 := I.1 s j hs hj
    have h2 := I.2.1 t j ht hj
    have h3 := gd_tri R s hj ht
    have h4 := gd_le R s ht
    by_cases z : TH s j + FH t j < 1000000
    · have := (h1.2 (by omega)).2
      have := (h2.2 (by omega)).2
      omega
    · omega
theorem lb_hub (I : lb_I R H TH FH) {s t : Nat} (hs : s < 12) (ht : t < 12) (q : lb_q TH FH s t < 1000000) : ∃ j, j < 12 ∧ H j ∧ gd_d R s j + gd_d R j t = lb_q TH FH s t := by
  unfold lb_q at q ⊢
  rcases mk_ex (fun h => TH s h + FH t h) 12 with e | ⟨j, hj, e⟩
  · omega
  · have e' : mk_m (fun h => TH s h + FH t h) 12 = TH s j + FH t j := e
    have h1 := (I.1 s j hs hj).2 (by omega)
    have h2 := (I.2.1 t j ht hj).2 (by omega)
    exact ⟨j, hj, h1.1, by rw [e', h1.2, h2.2]⟩
theorem lb_up (I : lb_I R H TH FH) {j s t : Nat} (hj : j < 12) (hs : s < 12) (ht : t < 12) (Hj : H j) : lb_q TH FH s t ≤ gd_d R s j + gd_d R j t := by
  rcases Nat.lt_or_ge (gd_d R s j + gd_d R j t) 1000000 with z | z
  · obtain ⟨g, hg, q⟩ := I.2.2 j s t hj hs ht Hj z
    have := mk_le (fun h => TH s h + FH t h) 12 g hg
    unfold lb_q
    omega
  · have := mk_K (fun h => TH s h + FH t h) 12
    unfold lb_q
    omega
/-- what earlier labels tell goes on along a shortest way: forwards .. -/
theorem lb_fw (I : lb_I R H TH FH) (hh : h < 12) : ∀ w u, w < 12 → u < 12 → lb_q TH FH h w ≤ gd_d R h w → gd_d R h w + R w u ≤ gd_d R h u → gd_d R h u < 1000000 → lb_q TH FH h u ≤ gd_d R h u := by
  intro w u hw hu h1 h2 h3
  obtain ⟨j, hj, Hj, e⟩ := lb_hub I hh hw (by omega)
  have h4 := lb_up I hj hh hu Hj
  have h5 := gd_tri R j hw hu
  have h6 := gd_ed R hw hu
  omega
/-- .. and backwards -/
theorem lb_bw (I : lb_I R H TH FH) (hh : h < 12) : ∀ w u, w < 12 → u < 12 → lb_q TH FH w h ≤ gd_d (fun a b => R b a) h w → gd_d (fun a b => R b a) h w + R u w ≤ gd_d (fun a b => R b a) h u → gd_d (fun a b => R b a) h u < 1000000 → lb_q TH FH u h ≤ gd_d (fun a b => R b a) h u := by
  intro w u hw hu
  rw [gd_tr R hw hh, gd_tr R hu hh]
  intro h1 h2 h3
  obtain ⟨j, hj, Hj, e⟩ := lb_hub I hw hh (by omega)
  have h4 := lb_up I hj hu hh Hj
  have h5 := gd_tri R u hw hj
  have h6 := gd_ed R hu hw
  omega
theorem lb_step (I : lb_I R H TH FH) (hh : h < 12) (nH : ¬ H h)
    (t0 : ∀ x g, x < 12 → g < 12 → g ≠ h → TH' x g = TH x g) (f0 : ∀ x g, x < 12 → g < 12 → g ≠ h → FH' x g = FH x g)
    (t1 : ∀ x, x < 12 → TH' x h = 1000000 ∨ TH' x h = gd_d R x h) (f1 : ∀ x, x < 12 → FH' x h = 1000000 ∨ FH' x h = gd_d R h x)
    (t2 : ∀ x, x < 12 → gd_d R x h < 1000000 → lb_q TH FH x h ≤ gd_d R x h ∨ TH' x h = gd_d R x h)
    (f2 : ∀ x, x < 12 → gd_d R h x < 1000000 → lb_q TH FH h x ≤ gd_d R h x ∨ FH' x h = gd_d R h x) : lb_I R (fun j => H j ∨ j = h) TH' FH' := by
  have old : ∀ s t d, s < 12 → t < 12 → d < 1000000 → lb_q TH FH s t ≤ d → ∃ g, g < 12 ∧ TH' s g + FH' t g ≤ d := by
    intro s t d hs ht hd q
    unfold lb_q at q
    rcases mk_ex (fun h => TH s h + FH t h) 12 with e | ⟨g, hg, e⟩
    · omega
    · have e' : mk_m (fun h => TH s h + FH t h) 12 = TH s g + FH t g := e
      have h1 := ((I.1 s g hs hg).2 (by omega)).1
      have hne : g ≠ h := fun z => nH (z ▸ h1)
      refine ⟨g, hg, ?_⟩
      rw [t0 s g hs hg hne, f0 t g ht hg hne]
      omega
  refine ⟨fun x g hx hg => ?_, fun x g hx hg => ?_, fun j s t hj hs ht Hj hk => ?_⟩
  · by_cases e : g = h
    · rw [e]
      rcases t1 x hx with z | z
      · rw [z]; exact ⟨by omega, fun q => by omega⟩
      · rw [z]; exact ⟨gd_le R x hh, fun _ => ⟨Or.inr rfl, rfl⟩⟩
    · rw [t0 x g hx hg e]
      exact ⟨(I.1 x g hx hg).1, fun q => ⟨Or.inl ((I.1 x g hx hg).2 q).1, ((I.1 x g hx hg).2 q).2⟩⟩
  · by_cases e : g = h
    · rw [e]
      rcases f1 x hx with z | z
      · rw [z]; exact ⟨by omega, fun q => by omega⟩
      · rw [z]; exact ⟨gd_le R h hx, fun _ => ⟨Or.inr rfl, rfl⟩⟩
    · rw [f0 x g hx hg e]
      exact ⟨(I.2.1 x g hx hg).1, fun q => ⟨Or.inl ((I.2.1 x g hx hg).2 q).1, ((I.2.1 x g hx hg).2 q).2⟩⟩
  · rcases Classical.em (H j) with z | z
    · exact old s t _ hs ht hk (lb_up I hj hs ht z)
    · have e : j = h := Hj.elim (fun q => absurd q z) id
      rw [e] at hk ⊢
      rcases t2 s hs (by omega) with a | a
      · obtain ⟨i, hi, Hi, q⟩ := lb_hub I hs hh (by omega)
        have h1 := lb_up I hi hs ht Hi
        have h2 := gd_tri R i hh ht
        exact old s t _ hs ht hk (by omega)
      · rcases f2 t ht (by omega) with b | b
        · obtain ⟨i, hi, Hi, q⟩ := lb_hub I hh ht (by omega)
          have h1 := lb_up I hi hs ht Hi
          have h2 := gd_tri R s hh hi
          exact old s t _ hs ht hk (by omega)
        · exact ⟨h, hh, by rw [a, b]; omega⟩
theorem lb_0 : lb_I R (fun _ => False) (fun _ _ => 1000000) (fun _ _ => 1000000) :=
  ⟨fun _ _ _ _ => ⟨Nat.le_refl _, fun h => absurd h (Nat.lt_irrefl _)⟩, fun _ _ _ _ => ⟨Nat.le_refl _, fun h => absurd h (Nat.lt_irrefl _)⟩, fun _ _ _ _ _ _ h => h.elim⟩
theorem lb_end (I : lb_I R H TH FH) (hH : ∀ j, j < 12 → H j) {s t : Nat} (hs : s < 12) (ht : t < 12) : lb_q TH FH s t = gd_d R s t := by
  have h1 := lb_lo I hs ht
  have h2 := lb_up I hs hs ht (hH s hs)
  rw [gd_ss] at h2
  omega
end
/-! engine 4: what the landmarks say -/
def al_t (a b : Nat) : Nat := if a < 1000000 ∧ b < 1000000 then b - a else 0
def al_f (FM TM : Nat → Nat → Nat) (p t : Nat) : Nat → Nat
  | 0 => 0
  | l + 1 => max (max (al_f FM TM p t l) (al_t (FM l p) (FM l t))) (al_t (TM l t) (TM l p))
def lm_f (l : Nat) : Nat := l * 5 % 12
def al_M (R : Nat → Nat → Nat) (FM TM : Nat → Nat → Nat) : Prop := ∀ l p, l < 3 → p < 12 → FM l p = gd_d R (lm_f l) p ∧ TM l p = gd_d R p (lm_f l)
section
variable {R FM TM : Nat → Nat → Nat}
theorem lm_lt (l : Nat) : lm_f l < 12 := Nat.mod_lt _ (by omega)
theorem al_le (M : al_M R FM TM) {p t : Nat} (hp : p < 12) (ht : t < 12) : ∀ l, l ≤ 3 → al_f FM TM p t l ≤ gd_d R p t
  | 0, _ => Nat.zero_le _
  | l + 1, hl => by
    have ih := al_le M hp ht l (by omega)
    have m1 := M l p (by omega) hp
    have m2 := M l t (by omega) ht
    have h1 := gd_tri R (lm_f l) hp ht
    have h2 := gd_tri R p ht (lm_lt l)
    simp only [al_f, al_t]
    rw [m1.1, m1.2, m2.1, m2.2]
    split <;> split <;> omega
theorem al_tt (M : al_M R FM TM) {t : Nat} (ht : t < 12) : al_f FM TM t t 3 = 0 := by
  have := al_le M ht ht 3 (by omega)
  rw [gd_ss] at this
  omega
theorem al_bd (M : al_M R FM TM) (bd : ∀ s u, s < 12 → u < 12 → gd_d R s u < 1000000 → gd_d R s u ≤ 360) {p t : Nat} (hp : p < 12) (ht : t < 12) : ∀ l, l ≤ 3 → al_f FM TM p t l ≤ 360
  | 0, _ => Nat.zero_le _
  | l + 1, hl => by
    have ih := al_bd M bd hp ht l (by omega)
    have m1 := M l p (by omega) hp
    have m2 := M l t (by omega) ht
    have h1 := bd (lm_f l) t (lm_lt l) ht
    have h2 := bd p (lm_f l) hp (lm_lt l)
    simp only [al_f, al_t]
    rw [m1.1, m1.2, m2.1, m2.2]
    split <;> split <;> omega
theorem al_co (M : al_M R FM TM) (bd : ∀ s u, s < 12 → u < 12 → gd_d R s u < 1000000 → gd_d R s u ≤ 360) {x y t : Nat} (hx : x < 12) (hy : y < 12) (ht : t < 12) (hk : gd_d R y t < 1000000) : ∀ l, l ≤ 3 → al_f FM TM x t l ≤ R x y + al_f FM TM y t l
  | 0, _ => Nat.zero_le _
  | l + 1, hl => by
    have ih := al_co M bd hx hy ht hk l (by omega)
    have m1 := M l x (by omega) hx
    have m2 := M l t (by omega) ht
    have m3 := M l y (by omega) hy
    have h1 := gd_st R (lm_f l) hx hy
    have h2 := gd_tri R x hy (lm_lt l)
    have h2' := gd_ed R hx hy
    have h3 := gd_tri R y ht (lm_lt l)
    have b1 := bd y t hy ht hk
    have b2 := bd t (lm_f l) ht (lm_lt l)
    have k1 := gd_le R (lm_f l) hy
    have k2 := gd_le R (lm_f l) ht
    have A : al_t (FM l x) (FM l t) ≤ R x y + al_t (FM l y) (FM l t) := by
      unfold al_t
      rw [m1.1, m2.1, m3.1]
      split <;> split <;> omega
    have B : al_t (TM l t) (TM l x) ≤ R x y + al_t (TM l t) (TM l y) := by
      unfold al_t
      rw [m1.2, m2.2, m3.2]
      split <;> split <;> omega
    simp only [al_f]
    omega
end
/-! engine 6: cells -/
def fw_0 (R : Nat → Nat → Nat) : Nat → Nat → Nat := fun u v => if u = v then 0 else if u / 4 = v / 4 then R u v else 1000000
def fw_I (R : Nat → Nat → Nat) (m : Nat) (A : Nat → Nat → Nat) : Prop :=
  (∀ u, u < 12 → A u u = 0) ∧ (∀ u v, u < 12 → v < 12 → A u v ≤ 1000000 ∧ gd_d R u v ≤ A u v ∧ A u v ≤ fw_0 R u v) ∧ ∀ k, k < m → ∀ u v, u < 12 → v < 12 → A u v ≤ A u k + A k v
def fw_s (m : Nat) (A : Nat → Nat → Nat) : Nat → Nat → Nat := fun u v => min (A u v) (A u m + A m v)
theorem fw_i {R : Nat → Nat → Nat} (hR : ∀ u v, R u v ≤ 1000000) : fw_I R 0 (fw_0 R) := by
  refine ⟨fun u _ => if_pos rfl, fun u v hu hv => ?_, fun k h => by omega⟩
  have h1 := gd_ed R hu hv
  have h2 := hR u v
  have h3 := gd_le R u hv
  unfold fw_0
  by_cases e : u = v
  · rw [if_pos e, e, gd_ss]; omega
  · rw [if_neg e]; split <;> omega
theorem fw_up {R : Nat → Nat → Nat} {m : Nat} {A : Nat → Nat → Nat} (hm : m < 12) (h : fw_I R m A) : fw_I R (m + 1) (fw_s m A) := by
  obtain ⟨h1, h2, h3⟩ := h
  refine ⟨fun u hu => ?_, fun u v hu hv => ?_, fun k hk u v hu hv => ?_⟩
  · have := h1 u hu
    show min (A u u) (A u m + A m u) = 0
    omega
  · have a := h2 u v hu hv
    have b := h2 u m hu hm
    have c := h2 m v hm hv
    have d := gd_tri R u hm hv
    show min (A u v) (A u m + A m v) ≤ 1000000 ∧ gd_d R u v ≤ min (A u v) (A u m + A m v) ∧ min (A u v) (A u m + A m v) ≤ fw_0 R u v
    omega
  · show min (A u v) (A u m + A m v) ≤ min (A u k) (A u m + A m k) + min (A k v) (A k m + A m v)
    have e := h1 m hm
    rcases Nat.lt_or_ge k m with z | z
    · have a := h3 k z u v hu hv
      have b := h3 k z u m hu hm
      have c := h3 k z m v hm hv
      omega
    · have ek : k = m := by omega
      subst ek
      omega
noncomputable def ov_w (R A : Nat → Nat → Nat) (bo : Nat → Prop) (s t : Nat) : Nat → Nat → Nat := fun u v =>
  if u / 4 = v / 4 then (if u / 4 = s / 4 then R u v else if u / 4 = t / 4 then R u v else @ite Nat (bo u) (Classical.propDecidable _) (@ite Nat (bo v) (Classical.propDecidable _) (A u v) 1000000) 1000000) else R u v
section
variable {R A : Nat → Nat → Nat} {bo : Nat → Prop} {s t u v : Nat}
theorem ov_a (h : u / 4 ≠ v / 4 ∨ u / 4 = s / 4 ∨ u / 4 = t / 4) : ov_w R A bo s t u v = R u v := by
  unfold ov_w
  by_cases e : u / 4 = v / 4
  · rw [if_pos e]
    by_cases f : u / 4 = s / 4
    · rw [if_pos f]
    · rw [if_neg f]
      rcases h with h | h | h
      · exact absurd e h
      · exact absurd h f
      · rw [if_pos h]
  · rw [if_neg e]
theorem ov_b (e : u / 4 = v / 4) (h1 : u / 4 ≠ s / 4) (h2 : u / 4 ≠ t / 4) (b1 : bo u) (b2 : bo v) : ov_w R A bo s t u v = A u v := by
  unfold ov_w
  rw [if_pos e, if_neg h1, if_neg h2, if_pos b1, if_pos b2]
theorem ov_c (e : u / 4 = v / 4) (h1 : u / 4 ≠ s / 4) (h2 : u / 4 ≠ t / 4) (b1 : ¬ (bo u ∧ bo v)) : ov_w R A bo s t u v = 1000000 := by
  unfold ov_w
  rw [if_pos e, if_neg h1, if_neg h2]
  by_cases b : bo u
  · rw [if_pos b, if_neg (fun q => b1 ⟨b, q⟩)]
  · rw [if_neg b]
theorem ov_end (h1R : ∀ a b, 1 ≤ R a b) (hA : fw_I R 12 A) (hb : ∀ a b, a < 12 → b < 12 → a / 4 ≠ b / 4 → R a b < 1000000 → bo a ∧ bo b) (hs : s < 12) (ht : t < 12) : gd_d (ov_w R A bo s t) s t = gd_d R s t := by
  obtain ⟨a1, a2, a3⟩ := hA
  apply Nat.le_antisymm
  · have key : ∀ n x, x < 12 → gd_d R s x < n → gd_d R s x < 1000000 → ((x / 4 = s / 4 ∨ x / 4 = t / 4) → gd_d (ov_w R A bo s t) s x ≤ gd_d R s x) ∧ (¬ (x / 4 = s / 4 ∨ x / 4 = t / 4) → ∃ b, b < 12 ∧ bo b ∧ b / 4 = x / 4 ∧ gd_d (ov_w R A bo s t) s b + A b x ≤ gd_d R s x) := by
      intro n
      induction n with
      | zero => intro x _ h; omega
      | succ n ih =>
        intro x hx hn hk
        by_cases e : x = s
        · rw [e, gd_ss, gd_ss]
          exact ⟨fun _ => Nat.le_refl _, fun q => absurd (Or.inl rfl) q⟩
        · obtain ⟨p, hp, g⟩ := gd_pre R hx e hk
          have g1 := h1R p x
          obtain ⟨i1, i2⟩ := ih p hp (by omega) (by omega)
          have st := gd_st (ov_w R A bo s t) s hp hx
          by_cases c : p / 4 = s / 4 ∨ p / 4 = t / 4
          · have j1 := i1 c
            rw [ov_a (Or.inr c)] at st
            refine ⟨fun _ => by omega, fun q => ?_⟩
            have hne : p / 4 ≠ x / 4 := fun z => q (z ▸ c)
            exact ⟨x, hx, (hb p x hp hx hne (by omega)).2, rfl, by rw [a1 x hx]; omega⟩
          · obtain ⟨b, hb1, hb2, hb3, hb4⟩ := i2 c
            by_cases d : p / 4 = x / 4
            · refine ⟨fun q => absurd (d ▸ q) c, fun q => ⟨b, hb1, hb2, by omega, ?_⟩⟩
              have k1 := a3 p hp b x hb1 hx
              have k2 := (a2 p x hp hx).2.2
              have k3 : fw_0 R p x ≤ R p x := by
                unfold fw_0
                split
                · omega
                · first | omega | (rw [if_pos d]; omega)
              omega
            · have bp := hb p x hp hx d (by omega)
              have st2 := gd_st (ov_w R A bo s t) s hb1 hp
              rw [ov_b hb3 (fun z => c (Or.inl (hb3 ▸ z))) (fun z => c (Or.inr (hb3 ▸ z))) hb2 bp.1] at st2
              rw [ov_a (Or.inl d)] at st
              exact ⟨fun _ => by omega, fun _ => ⟨x, hx, bp.2, rfl, by rw [a1 x hx]; omega⟩⟩
    rcases Nat.lt_or_ge (gd_d R s t) 1000000 with z | z
    · exact (key _ t ht (Nat.lt_succ_self _) z).1 (Or.inr rfl)
    · have := gd_le (ov_w R A bo s t) s ht
      omega
  · refine gd_top ⟨gd_ss R s, fun x hx => gd_le R s hx, fun a b ha hb' => ?_⟩ ht
    have k1 := gd_st R s ha hb'
    have k2 := gd_tri R s ha hb'
    have k3 := (a2 a b ha hb').2.1
    have k4 := gd_le R s hb'
    by_cases c : a / 4 ≠ b / 4 ∨ a / 4 = s / 4 ∨ a / 4 = t / 4
    · rw [ov_a c]; exact k1
    · have c1 : a / 4 = b / 4 := Classical.byContradiction fun q => c (Or.inl q)
      have c2 : a / 4 ≠ s / 4 := fun q => c (Or.inr (Or.inl q))
      have c3 : a / 4 ≠ t / 4 := fun q => c (Or.inr (Or.inr q))
      rcases Classical.em (bo a ∧ bo b) with d | d
      · rw [ov_b c1 c2 c3 d.1 d.2]; omega
      · rw [ov_c c1 c2 c3 d]; omega
end
end
section
/-! arrays as functions of naturals -/
def ar_I (n : Nat) (a : Nat → Int32) (F : Nat → Nat) : Prop := ∀ j, j < n → a j = nI (F j)
def ar_2 (n : Nat) (a : Nat → Int32) (E : Nat → Nat → Nat) : Prop := ∀ u v, u < n → v < 12 → a (u * 12 + v) = nI (E u v)
def ar_S (a : Nat → Int32) (S : Nat → Prop) : Prop := ∀ j, j < 12 → (a j = 0 ↔ ¬ S j)
theorem ar_self (a : Nat → Int32) (k : Nat) : upd a k (a k) = a := by
  funext j
  unfold upd
  split
  · rename_i h; rw [h]
  · rfl
theorem ar_cl {i : Nat} (h : i < 1000) : (nI i).toNatClampNeg = i := nI_clamp (by omega)
theorem ar_ix (a b : Nat) : nI a * 12 + nI b = nI (a * 12 + b) := by
  show nI a * nI 12 + nI b = _
  rw [pk_mul, nI_add]
theorem ar_iy (a b : Nat) : 12 * nI a + nI b = nI (a * 12 + b) := by
  show nI 12 * nI a + nI b = _
  rw [pk_mul, nI_add, Nat.mul_comm]
theorem ar_r {n i : Nat} {a : Nat → Int32} {F : Nat → Nat} (h : ar_I n a F) (hi : i < n) (hn : n < 1000 := by decide) : a (nI i).toNatClampNeg = nI (F i) := by
  rw [ar_cl (by omega)]; exact h i hi
theorem ar_r2 {n u v : Nat} {a : Nat → Int32} {E : Nat → Nat → Nat} (h : ar_2 n a E) (hu : u < n) (hv : v < 12) (hn : n ≤ 12 := by decide) : a (nI u * 12 + nI v).toNatClampNeg = nI (E u v) := by
  rw [ar_ix, ar_cl (by omega)]; exact h u v hu hv
theorem ar_n2 {n N u v : Nat} (hu : u < n) (hv : v < 12) (hN : n * 12 = N := by decide) (hn : n ≤ 12 := by decide) : vp_in (nI u * 12 + nI v) N := by
  rw [ar_ix]; exact vp_in_nI (by omega) (by omega)
theorem ar_ny {u v : Nat} (hu : u < 12) (hv : v < 12) : vp_in (12 * nI u + nI v) 144 := by
  rw [ar_iy]; exact vp_in_nI (by omega) (by omega)
theorem ar_n {n N : Nat} (h : n < N) (hN : N < 1000 := by decide) : vp_in (nI n) N := vp_in_nI h (by omega)
theorem ar_u {i : Nat} (h : i < 1000) (a : Nat → Int32) (x : Int32) : upd a (nI i).toNatClampNeg x = upd a i x := by rw [ar_cl h]
theorem ar_us {i : Nat} (h : i < 1000) (a : Nat → Int32) : upd a (nI i).toNatClampNeg (a (nI i).toNatClampNeg) = a := ar_self _ _
theorem ar_S0 {a : Nat → Int32} {S : Nat → Prop} (h : ar_S a S) {i : Nat} (hi : i < 12) (hS : ¬ S i) : a (nI i).toNatClampNeg = 0 := by
  rw [ar_cl (by omega)]; exact (h i hi).mpr hS
theorem ar_S1 {a : Nat → Int32} {S : Nat → Prop} (h : ar_S a S) {i : Nat} (hi : i < 12) (hS : S i) : ¬ a (nI i).toNatClampNeg = 0 := by
  rw [ar_cl (by omega)]; exact fun z => (h i hi).mp z hS
theorem ar_Su {a : Nat → Int32} {S : Nat → Prop} (h : ar_S a S) {u : Nat} (hu : u < 12) : ar_S (upd a (nI u).toNatClampNeg (vp_nar .boolean 1)) (fun j => S j ∨ j = u) := by
  intro j hj
  rw [ar_u (by omega)]
  by_cases e : j = u
  · rw [e, pk_us]
    exact ⟨fun z => absurd z (by decide), fun z => absurd (Or.inr rfl) z⟩
  · rw [pk_un e, h j hj]
    exact ⟨fun z q => q.elim z e, fun z q => z (Or.inl q)⟩
theorem ar_ext {n : Nat} {a : Nat → Int32} {F G : Nat → Nat} (h : ar_I n a F) (e : ∀ j, j < n → F j = G j) : ar_I n a G := fun j hj => by rw [h j hj, e j hj]
theorem ar_ex2 {n : Nat} {a : Nat → Int32} {F G : Nat → Nat → Nat} (h : ar_2 n a F) (e : ∀ u v, u < n → v < 12 → F u v = G u v) : ar_2 n a G := fun u v hu hv => by rw [h u v hu hv, e u v hu hv]
/-- a pass that goes on at i: what stands below i is new -/
def ar_mx (i : Nat) (G F : Nat → Nat) : Nat → Nat := fun j => if j < i then G j else F j
theorem ar_m0 {n : Nat} {a : Nat → Int32} {G F : Nat → Nat} (h : ar_I n a F) : ar_I n a (ar_mx 0 G F) := fun j hj => by rw [h j hj]; exact congrArg nI (if_neg (by omega)).symm
theorem ar_mn {n : Nat} {a : Nat → Int32} {G F : Nat → Nat} (h : ar_I n a (ar_mx n G F)) : ar_I n a G := fun j hj => by rw [h j hj]; exact congrArg nI (if_pos hj)
theorem ar_mi (i : Nat) (G F : Nat → Nat) : ar_mx i G F i = F i := if_neg (by omega)
theorem ar_ms {n i : Nat} {a : Nat → Int32} {G F : Nat → Nat} (h : ar_I n a (ar_mx i G F)) {x : Int32} (hx : x = nI (G i)) : ar_I n (upd a i x) (ar_mx (i + 1) G F) := by
  intro j hj
  by_cases e : j = i
  · rw [e, pk_us, hx]; exact congrArg nI (if_pos (by omega)).symm
  · rw [pk_un e, h j hj]
    refine congrArg nI ?_
    unfold ar_mx
    by_cases l : j < i
    · rw [if_pos l, if_pos (by omega)]
    · rw [if_neg l, if_neg (by omega)]
theorem ar_mk {n i : Nat} {a : Nat → Int32} {G F : Nat → Nat} (h : ar_I n a (ar_mx i G F)) (e : G i = F i) : ar_I n a (ar_mx (i + 1) G F) := by
  intro j hj
  rw [h j hj]
  refine congrArg nI ?_
  unfold ar_mx
  by_cases l : j < i
  · rw [if_pos l, if_pos (by omega)]
  · by_cases z : j = i
    · rw [if_neg l, if_pos (by omega), z, e]
    · rw [if_neg l, if_neg (by omega)]
/-! bits -/
def ob_f (th : Nat → Bool) : Nat → Int32
  | 0 => 0
  | n + 1 => if th n = true then ob_f th n ||| ((1 : Int32) <<< (nI n &&& 31)) else ob_f th n
theorem ob_t {th : Nat → Bool} {n : Nat} (h : th n = true) : ob_f th (n + 1) = ob_f th n ||| ((1 : Int32) <<< (nI n &&& 31)) := if_pos h
theorem ob_e {th : Nat → Bool} {n : Nat} (h : ¬ th n = true) : ob_f th (n + 1) = ob_f th n := if_neg h
theorem ob_b1 : ∀ i, i < 32 → bt 1 i = decide (i = 0) := by decide +kernel
theorem ob_one {k i : Nat} (hk : k < 32) (hi : i < 32) : bt ((1 : Int32) <<< (nI k &&& 31)) i = decide (i = k) := by
  rw [b_shl k hk 1 hi, ob_b1 (i - k) (by omega)]
  by_cases h : i = k
  · simp [h]
  · simp [h]; omega
theorem ob_bt {th : Nat → Bool} : ∀ {n : Nat}, n ≤ 32 → ∀ i, i < 32 → bt (ob_f th n) i = (decide (i < n) && th i)
  | 0, _, i, _ => by rw [show ob_f th 0 = 0 from rfl, b_0]; simp
  | n + 1, hn, i, hi => by
    have ih := ob_bt (th := th) (n := n) (by omega) i hi
    by_cases h : th n = true
    · rw [ob_t h, b_or, ih, ob_one (by omega) hi]
      by_cases e : i = n
      · subst e; simp [h]
      · have : (i < n + 1) ↔ (i < n) := by omega
        simp [e, this]
    · rw [ob_e h, ih]
      by_cases e : i = n
      · subst e; simp [h]
      · have : (i < n + 1) ↔ (i < n) := by omega
        simp [this]
theorem ob_test (x : Int32) {k : Nat} (hk : k < 32) : ((x >>> (nI k &&& 31)) &&& 1 = 0) ↔ bt x k = false := by
  have h0 : bt ((x >>> (nI k &&& 31)) &&& 1) 0 = bt x k := by
    rw [b_and, b_sshr k hk x (by omega), ob_b1 0 (by omega), if_pos (by omega)]
    simp
  constructor
  · intro h
    rw [h, b_0] at h0
    exact h0.symm
  · intro h
    apply b_ext
    intro i hi
    by_cases e : i = 0
    · rw [e, h0, h, b_0]
    · rw [b_and, ob_b1 i hi, b_0]
      simp [e]
theorem ob_tst {th : Nat → Bool} {n k : Nat} (hn : n ≤ 32) (hk : k < n) : ((ob_f th n >>> (nI k &&& 31)) &&& 1 = 0) ↔ th k = false := by
  rw [ob_test _ (by omega), ob_bt hn k (by omega)]
  simp [hk]
theorem ob_set {th : Nat → Bool} {n k : Nat} (hn : n ≤ 32) (hk : k < n) : ob_f th n ||| ((1 : Int32) <<< (nI k &&& 31)) = ob_f (fun j => if j = k then true else th j) n := by
  apply b_ext
  intro i hi
  rw [b_or, ob_bt hn i hi, ob_bt hn i hi, ob_one (by omega) hi]
  by_cases e : i = k
  · simp [e, hk]
  · simp [e]
theorem ob_clr {th : Nat → Bool} {n k : Nat} (hn : n ≤ 32) (hk : k < n) : ob_f th n &&& (((1 : Int32) <<< (nI k &&& 31)) ^^^ (-1)) = ob_f (fun j => if j = k then false else th j) n := by
  apply b_ext
  intro i hi
  rw [b_and, b_xor, ob_bt hn i hi, ob_bt hn i hi, ob_one (by omega) hi, b_m1 i hi]
  by_cases e : i = k
  · simp [e]
  · simp [e]
theorem ob_cg {th th' : Nat → Bool} : ∀ {n : Nat}, (∀ j, j < n → th j = th' j) → ob_f th n = ob_f th' n
  | 0, _ => rfl
  | n + 1, h => by
    have ih := ob_cg (n := n) (fun j hj => h j (by omega))
    unfold ob_f
    rw [ih, h n (by omega)]
theorem ob_or0 (x : Int32) : x ||| 0 = x := by
  apply b_ext
  intro i hi
  rw [b_or, b_0]; simp
theorem ob_zero (n : Nat) : ob_f (fun _ => false) n = 0 := by
  induction n with
  | zero => rfl
  | succ n ih => rw [ob_e (by decide), ih]
/-! small stores -/
theorem sm_b : ∀ n, n < 128 → vp_nar .byte (nI n).toInt8.toInt32 = nI n := by decide +kernel
theorem sm_b' : ∀ n, n < 128 → vp_nar .byte (nI n) = nI n := by decide +kernel
theorem sm_m1 : vp_nar .byte (-1) = -1 := by decide +kernel
theorem sm_0 : vp_nar .byte 0 = 0 := by decide +kernel
/-! what a branch takes -/
theorem br_p {c A B : Prop} (p : Prop) (e : c ↔ p) (f : p → A) (g : ¬ p → B) : (c → A) ∧ (¬ c → B) := ⟨fun h => f (e.mp h), fun h => g (fun q => h (e.mpr q))⟩
theorem br_le {x y : Int32} {A B : Prop} {a b : Nat} (hx : x = nI a) (hy : y = nI b) (ha : a < 3000000) (hb : b < 3000000) (f : a ≤ b → A) (g : b < a → B) : (x ≤ y → A) ∧ (¬ x ≤ y → B) :=
  pk_le a b f g hx hy (by omega) (by omega)
theorem br_lt {x y : Int32} {A B : Prop} {a b : Nat} (hx : x = nI a) (hy : y = nI b) (ha : a < 3000000) (hb : b < 3000000) (f : a < b → A) (g : b ≤ a → B) : (x < y → A) ∧ (¬ x < y → B) :=
  pk_lt a b f g hx hy (by omega) (by omega)
theorem br_eq {x y : Int32} {A B : Prop} {a b : Nat} (hx : x = nI a) (hy : y = nI b) (ha : a < 3000000) (hb : b < 3000000) (f : a = b → A) (g : a ≠ b → B) : (x = y → A) ∧ (¬ x = y → B) :=
  pk_eq a b f g hx hy (by omega) (by omega)
/-- an index that counts up to e -/
theorem br_i {A B : Prop} {i : Nat} (e : Nat) {y : Int32} (hy : y = nI e) (he : e < 1000) (hi : i ≤ e) (f : i = e → A) (g : i < e → B) : (y ≤ nI i → A) ∧ (¬ y ≤ nI i → B) :=
  br_le hy rfl (by omega) (by omega) (fun h => f (by omega)) g
theorem br_0 {n : Nat} (h : n < 3000000) : ¬ nI n < 0 := nI_pos (by omega)
theorem br_m1 : (-1 : Int32) < 0 := by decide
end
section
/-! the reference: rounds over all roads until no length gets less -/
def ny_I (fr to ln : Nat → Nat) (yf yo yl : Nat → Int32) : Prop := ∀ k, k < 28 → yf k = nI (fr k) ∧ yo k = nI (to k) ∧ yl k = nI (ln k)
def ye_f (d : Nat) : Int32 := if d < 1000000 then nI d else -3
def yr_F (l : Nat → Int32) (s : Nat) (F : Nat → Nat) : Prop := ∀ t, t < 12 → l (s * 12 + t) = ye_f (F t)
def yr_X (s : Nat) (l l0 : Nat → Int32) : Prop := ∀ a b, a < 12 → b < 12 → a ≠ s → l (a * 12 + b) = l0 (a * 12 + b)
def yr_I (D : Nat → Nat) (s : Nat) (F : Nat → Nat) : Prop := F s = 0 ∧ (∀ v, v < 12 → F v ≤ 1000000) ∧ (∀ v, v < 12 → D v ≤ F v) ∧ ∀ v, v < 12 → F v < 1000000 → F v ≤ 30 * cn_c (fun j => F j < 1000000) 12
def yr_J (ok : Nat → Bool) (fr to ln F0 : Nat → Nat) (r : Int32) (F : Nat → Nat) (k : Nat) : Prop :=
  (r = 0 ∧ F = F0 ∧ ∀ j, j < k → ok j = true → F (to j) ≤ F (fr j) + ln j) ∨ (r = 1 ∧ hq_s F 12 < hq_s F0 12)
theorem yr_0 {D : Nat → Nat} {s : Nat} (hD : D s = 0) (hK : ∀ v, v < 12 → D v ≤ 1000000) : yr_I D s (dj_in s) := by
  refine ⟨if_pos rfl, fun v _ => ?_, fun v hv => ?_, fun v _ h => ?_⟩
  · unfold dj_in; split <;> omega
  · unfold dj_in
    by_cases e : v = s
    · rw [if_pos e, e, hD]; omega
    · rw [if_neg e]; exact hK v hv
  · unfold dj_in at h ⊢
    by_cases e : v = s
    · rw [if_pos e]; omega
    · rw [if_neg e] at h; omega
theorem yr_up {D F : Nat → Nat} {s p q w : Nat} (h : yr_I D s F) (hp : p < 12) (hq : q < 12) (hw : w ≤ 30) (hF : F p < 1000000) (hl : F p + w < F q) (hD : D q ≤ D p + w) : yr_I D s (fun j => if j = q then F p + w else F j) := by
  obtain ⟨h0, hK, hL, hB⟩ := h
  have bp := hB p hp hF
  have c12 := cn_le (fun j => F j < 1000000) 12
  have g : ∀ j, (if j = q then F p + w else F j) ≤ F j := by
    intro j
    by_cases e : j = q
    · rw [if_pos e, e]; omega
    · rw [if_neg e]; omega
  refine ⟨?_, fun v hv => ?_, fun v hv => ?_, fun v hv hv' => ?_⟩
  · have := g s
    show (if s = q then F p + w else F s) = 0
    omega
  · have := g v
    have := hK v hv
    show (if v = q then F p + w else F v) ≤ 1000000
    omega
  · show D v ≤ (if v = q then F p + w else F v)
    by_cases e : v = q
    · rw [if_pos e, e]
      have := hL p hp
      omega
    · rw [if_neg e]; exact hL v hv
  · show (if v = q then F p + w else F v) ≤ 30 * cn_c (fun j => (if j = q then F p + w else F j) < 1000000) 12
    have hv2 : (if v = q then F p + w else F v) < 1000000 := hv'
    by_cases z : F q < 1000000
    · have e : cn_c (fun j => (if j = q then F p + w else F j) < 1000000) 12 = cn_c (fun j => F j < 1000000) 12 := by
        refine cn_eq (fun k _ => ⟨fun y => ?_, fun y => ?_⟩)
        · by_cases e : k = q
          · rw [e]; exact z
          · rw [if_neg e] at y; exact y
        · have := g k
          omega
      rw [e]
      by_cases e : v = q
      · rw [if_pos e]
        have := hB q hq z
        omega
      · rw [if_neg e] at hv2 ⊢
        exact hB v hv hv2
    · have e : cn_c (fun j => (if j = q then F p + w else F j) < 1000000) 12 = cn_c (fun j => F j < 1000000) 12 + 1 := by
        rw [← cn_add (P := fun j => F j < 1000000) (a := q) z hq]
        refine cn_eq (fun k _ => ⟨fun y => ?_, fun y => ?_⟩)
        · by_cases e : k = q
          · exact Or.inr e
          · rw [if_neg e] at y; exact Or.inl y
        · have := g k
          rcases y with y | y
          · omega
          · rw [if_pos y]; omega
      rw [e]
      by_cases e : v = q
      · rw [if_pos e]; omega
      · rw [if_neg e] at hv2 ⊢
        have := hB v hv hv2
        omega
section
variable {yt yf yo yl : Nat → Int32} {fr to ln : Nat → Nat}
theorem yw_104 {post : Int32 → SY → Prop} {J : Int32 → Int32 → (Nat → Int32) → (Nat → Int32) → (Nat → Int32) → (Nat → Int32) → (Nat → Int32) → Prop} {x1 x2 x3 x7 : Int32} {k m : Nat} {l : Nat → Int32} (hm : m < 144) (h3 : x3 = 0 ∨ x3 = 1)
    (K : J x3 (nI (k + 1)) yt yf yo yl l) : wY_round_104 post J x1 x2 x3 (nI k) (nI m) x7 yt yf yo yl l := by
  unfold wY_round_104 wY_round_105 wY_round_130
  refine br_t rfl ⟨ar_n hm, ar_n hm, nm_r (ar_us (by omega) l) ?_⟩
  rcases h3 with h3 | h3
  · rw [h3] at K
    exact br_t h3 (br_t rfl (nm_r (nI_1 k) K))
  · rw [h3] at K
    exact br_f (by rw [h3]; decide) (nm_r (nI_1 k) K)
theorem yw_100 {post : Int32 → SY → Prop} {J : Int32 → Int32 → (Nat → Int32) → (Nat → Int32) → (Nat → Int32) → (Nat → Int32) → (Nat → Int32) → Prop} {x1 x2 x3 x7 : Int32} {k m : Nat} {l : Nat → Int32} (hm : m < 144)
    (K : J 1 (nI (k + 1)) yt yf yo yl (upd l m x7)) : wY_round_100 post J x1 x2 x3 (nI k) (nI m) x7 yt yf yo yl l := by
  unfold wY_round_100 wY_round_105 wY_round_130
  refine br_f (by decide) ⟨ar_n hm, nm_r (ar_u (by omega) l x7) ?_⟩
  exact br_c (fun _ => br_f (by decide) (nm_r (nI_1 k) K)) (fun _ => nm_r (nI_1 k) K)
theorem yw_5 {post : Int32 → SY → Prop} {ok : Nat → Bool} {wo : Int32} {D F0 : Nat → Nat} {s : Nat} {l0 : Nat → Int32} (N : ny_I fr to ln yf yo yl) (OK : nt_ok ok fr to ln) (hs : s < 12)
    (hok : ∀ k, k < 28 → (ok k = true ↔ (¬ yt k = 0 ∧ ¬ nI k = wo))) (hD : ∀ k, k < 28 → ok k = true → D (to k) ≤ D (fr k) + ln k)
    (K : ∀ r F l, yr_J ok fr to ln F0 r F 28 → yr_I D s F → yr_F l s F → yr_X s l l0 → post r (yt, yf, yo, yl, l)) :
    ∀ (d k : Nat) (r : Int32) (F : Nat → Nat) (l : Nat → Int32), k + d = 28 → yr_J ok fr to ln F0 r F k → yr_I D s F → yr_F l s F → yr_X s l l0 → wY_round_5 post (nI s) wo (d + 1) r (nI k) yt yf yo yl l := by
  intro d
  induction d with
  | zero =>
    intro k r F l hk hJ hI hF hX
    have e : k = 28 := by omega
    subst e
    refine br_t (by decide) ⟨?_, K r F l hJ hI hF hX⟩
    rcases hJ with h | h
    · rw [h.1]; rfl
    · rw [h.1]; rfl
  | succ d ih =>
    intro k r F l hkd hJ hI hF hX
    have hk : k < 28 := by omega
    obtain ⟨n1, n2, n3⟩ := N k hk
    obtain ⟨o1, o2, o3, o4⟩ := OK k hk
    have ek : (nI k).toNatClampNeg = k := ar_cl (by omega)
    have hr : r = 0 ∨ r = 1 := by
      rcases hJ with h | h
      · exact Or.inl h.1
      · exact Or.inr h.1
    have hm : s * 12 + to k < 144 := by omega
    have skip : ∀ x7, (ok k = true → F (to k) ≤ F (fr k) + ln k) → wY_round_104 post (wY_round_5 post (nI s) wo (d + 1)) (nI s) wo r (nI k) (nI (s * 12 + to k)) x7 yt yf yo yl l := by
      intro x7 hc
      refine yw_104 hm hr (ih (k + 1) r F l (by omega) ?_ hI hF hX)
      rcases hJ with ⟨a, b, c⟩ | h
      · refine Or.inl ⟨a, b, fun j hj hoj => ?_⟩
        rcases Nat.lt_or_ge j k with z | z
        · exact c j z hoj
        · have e : j = k := by omega
          rw [e] at hoj ⊢
          exact hc hoj
      · exact Or.inr h
    have eT : l (nI (s * 12 + to k)).toNatClampNeg = ye_f (F (to k)) := by rw [ar_cl (by omega)]; exact hF (to k) o2
    refine br_f (nI_ge (b := 28) hk (by decide)) ⟨ar_n hk, by rw [ek, n1]; exact ar_ny hs o1, nm_r (e' := ye_f (F (fr k))) (by rw [ek, n1, ar_iy, ar_cl (by omega)]; exact hF (fr k) o1) ⟨ar_n hk, nm_r (e' := nI (s * 12 + to k)) (by rw [ek, n2, ar_iy]) ⟨ar_n hk, nm_e ⟨ar_n hk, ?_⟩⟩⟩⟩
    by_cases ht : yt k = 0
    · exact br_t (by rw [ek]; exact ht) (skip _ (fun z => absurd ht ((hok k hk).mp z).1))
    · refine br_f (by rw [ek]; exact ht) ?_
      by_cases hx : nI k = wo
      · exact br_t hx (skip _ (fun z => absurd hx ((hok k hk).mp z).2))
      · refine br_f hx ?_
        have hoK : ok k = true := (hok k hk).mpr ⟨ht, hx⟩
        by_cases hf : F (fr k) < 1000000
        · have ef : ye_f (F (fr k)) = nI (F (fr k)) := if_pos hf
          refine br_f (by rw [ef]; exact br_0 (by omega)) ⟨ar_n hm, ?_⟩
          have take : F (fr k) + ln k < F (to k) → wY_round_100 post (wY_round_5 post (nI s) wo (d + 1)) (nI s) wo r (nI k) (nI (s * 12 + to k)) (ye_f (F (fr k)) + yl (nI k).toNatClampNeg) yt yf yo yl l := by
            intro hlt
            refine yw_100 hm (ih (k + 1) 1 (fun j => if j = to k then F (fr k) + ln k else F j) _ (by omega) (Or.inr ⟨rfl, ?_⟩) (yr_up hI o1 o2 o3 hf hlt (hD k hk hoK)) ?_ ?_)
            · have g := hq_lt hlt (n := 12) o2
              rcases hJ with ⟨a, b, c⟩ | h
              · rw [← b]; exact g
              · omega
            · intro t ht'
              show upd l (s * 12 + to k) _ (s * 12 + t) = ye_f (if t = to k then F (fr k) + ln k else F t)
              by_cases e : t = to k
              · have bK := (yr_up hI o1 o2 o3 hf hlt (hD k hk hoK)).2.1 (to k) o2
                have bF := hI.2.1 (to k) o2
                rw [e, pk_us, if_pos rfl, ef, ek, n3, nI_add]
                exact (if_pos (by omega)).symm
              · rw [pk_un (by omega), if_neg e]; exact hF t ht'
            · intro a b ha hb hne
              rw [pk_un (by omega)]; exact hX a b ha hb hne
          by_cases hT : F (to k) < 1000000
          · have eT2 : ye_f (F (to k)) = nI (F (to k)) := if_pos hT
            refine br_f (by rw [eT, eT2]; exact br_0 (by omega)) ⟨ar_n hm, br_le (eT.trans eT2) (by rw [ef, ek, n3, nI_add]) (by omega) (by omega) (fun h => skip _ (fun _ => h)) take⟩
          · refine br_t (by rw [eT]; unfold ye_f; rw [if_neg hT]; decide) (take ?_)
            have bf := hI.2.2.2 (fr k) o1 hf
            have c12 := cn_le (fun j => F j < 1000000) 12
            omega
        · refine br_t (by unfold ye_f; rw [if_neg hf]; decide) (skip _ (fun _ => ?_))
          have := hI.2.1 (to k) o2
          omega
theorem yw_38 {post : SY → Prop} {ok : Nat → Bool} {wo : Int32} {D : Nat → Nat} {s : Nat} {l0 : Nat → Int32} (N : ny_I fr to ln yf yo yl) (OK : nt_ok ok fr to ln) (hs : s < 12)
    (hok : ∀ k, k < 28 → (ok k = true ↔ (¬ yt k = 0 ∧ ¬ nI k = wo))) (hD : ∀ k, k < 28 → ok k = true → D (to k) ≤ D (fr k) + ln k)
    (K : ∀ F l, (∀ k, k < 28 → ok k = true → F (to k) ≤ F (fr k) + ln k) → yr_I D s F → yr_F l s F → yr_X s l l0 → post (yt, yf, yo, yl, l)) :
    ∀ (n : Nat) (F : Nat → Nat) (l : Nat → Int32), hq_s F 12 < n → yr_I D s F → yr_F l s F → yr_X s l l0 → wY_measure_38 post (nI s) wo (n + 1) 1 yt yf yo yl l := by
  intro n
  induction n with
  | zero => intro F l h; omega
  | succ n ih =>
    intro F l hn hI hF hX
    refine br_f (by decide) ⟨28 + 1, yw_5 (F0 := F) N OK hs hok hD ?_ 28 0 0 F l rfl (Or.inl ⟨rfl, rfl, fun j h => by omega⟩) hI hF hX⟩
    intro r G m hJ hI' hF' hX'
    rcases hJ with ⟨a, b, c⟩ | ⟨a, b⟩
    · rw [a]
      exact br_t rfl (K G m c hI' hF' hX')
    · rw [a]
      exact ih G m (by omega) hI' hF' hX'
theorem yw_measure {post : SY → Prop} {ok : Nat → Bool} {wo : Int32} {s : Nat} {l0 : Nat → Int32} (N : ny_I fr to ln yf yo yl) (OK : nt_ok ok fr to ln) (hs : s < 12)
    (hok : ∀ k, k < 28 → (ok k = true ↔ (¬ yt k = 0 ∧ ¬ nI k = wo)))
    (K : ∀ l, yr_F l s (gd_d (nt_R ok fr to ln) s) → yr_X s l l0 → post (yt, yf, yo, yl, l)) : wpY_measure post (yt, yf, yo, yl, l0) (nI s) wo := by
  have key : ∀ (d i : Nat) (l : Nat → Int32), i + d = 12 → (∀ t, t < i → l (s * 12 + t) = ye_f (dj_in s t)) → yr_X s l l0 → wY_measure_2 post (nI s) wo (d + 1) (nI i) yt yf yo yl l := by
    intro d
    induction d with
    | zero =>
      intro i l hi hl hX
      have e : i = 12 := by omega
      subst e
      refine br_t (by decide) ⟨_, yw_38 (D := gd_d (nt_R ok fr to ln) s) N OK hs hok (fun k hk ht => nt_st OK (gd_self _ s) hk ht) ?_ _ (dj_in s) l (Nat.lt_succ_self _) (yr_0 (gd_ss _ s) (fun v hv => gd_le _ s hv)) hl hX⟩
      intro F m hc hI hF hX'
      refine K m (fun t ht => ?_) hX'
      rw [hF t ht, gd_eq (nt_fe hI.1 hI.2.1 hc) hI.2.2.1 t ht]
    | succ d ih =>
      intro i l hi hl hX
      have hi12 : i < 12 := by omega
      have step : ∀ x, x = ye_f (dj_in s i) → wY_measure_2 post (nI s) wo (d + 1) (nI (i + 1)) yt yf yo yl (upd l (s * 12 + i) x) := by
        intro x hx
        refine ih (i + 1) _ (by omega) (fun t ht => ?_) (fun a b ha hb hne => ?_)
        · by_cases e : t = i
          · rw [e, pk_us, hx]
          · rw [pk_un (by omega)]; exact hl t (by omega)
        · rw [pk_un (by omega)]; exact hX a b ha hb hne
      refine br_f (nI_ge (b := 12) hi12 (by decide)) (br_eq (a := s) (b := i) rfl rfl (by omega) (by omega) (fun e => ⟨ar_ny hs hi12, nm_r (e' := upd l (s * 12 + i) 0) (by rw [ar_iy, ar_u (by omega)]) (nm_r (nI_1 i) (step _ ?_))⟩) (fun e => ⟨ar_ny hs hi12, nm_r (e' := upd l (s * 12 + i) (-3)) (by rw [ar_iy, ar_u (by omega)]) (nm_r (nI_1 i) (step _ ?_))⟩))
      · rw [e]; unfold dj_in ye_f; rw [if_pos rfl, if_pos (by omega)]; rfl
      · unfold dj_in ye_f; rw [if_neg (Ne.symm e), if_neg (by omega)]
  exact ⟨12 + 1, key 12 0 l0 rfl (fun t h => by omega) (fun _ _ _ _ _ => rfl)⟩
theorem yw_m1 {k : Nat} (hk : k < 28) : ¬ nI k = -1 := by
  intro h
  have : ¬ nI k < 0 := br_0 (by omega)
  rw [h] at this
  exact this (by decide)
theorem yw_all {post : SY → Prop} {ok : Nat → Bool} {l0 : Nat → Int32} (N : ny_I fr to ln yf yo yl) (OK : nt_ok ok fr to ln) (hok : ∀ k, k < 28 → (ok k = true ↔ ¬ yt k = 0))
    (K : ∀ l, (∀ s t, s < 12 → t < 12 → l (s * 12 + t) = ye_f (gd_d (nt_R ok fr to ln) s t)) → post (yt, yf, yo, yl, l)) : wpY_measureAll post (yt, yf, yo, yl, l0) := by
  have key : ∀ (d i : Nat) (l : Nat → Int32), i + d = 12 → (∀ s t, s < i → t < 12 → l (s * 12 + t) = ye_f (gd_d (nt_R ok fr to ln) s t)) → wY_measureAll_2 post (d + 1) (nI i) yt yf yo yl l := by
    intro d
    induction d with
    | zero =>
      intro i l hi hl
      have e : i = 12 := by omega
      subst e
      exact br_t (by decide) (K l hl)
    | succ d ih =>
      intro i l hi hl
      have hi12 : i < 12 := by omega
      refine br_f (nI_ge (b := 12) hi12 (by decide)) (yw_measure N OK hi12 (fun k hk => ?_) ?_)
      · rw [hok k hk]; exact ⟨fun h => ⟨h, yw_m1 hk⟩, fun h => h.1⟩
      · intro m hm hX
        refine nm_r (nI_1 i) (ih (i + 1) m (by omega) (fun s t hs ht => ?_))
        by_cases e : s = i
        · rw [e]; exact hm t ht
        · rw [hX s t (by omega) ht e]; exact hl s t (by omega) ht
  exact ⟨12 + 1, key 12 0 l0 rfl (fun s t h => by omega)⟩
end
end
section
/-! the component: roads, the heap -/
def nx_I (th : Nat → Bool) (fr to ln : Nat → Nat) (xP : Int32) (aFr aTo aLe : Nat → Int32) : Prop := xP = ob_f th 28 ∧ ∀ k, k < 28 → aFr k = nI (fr k) ∧ aTo k = nI (to k) ∧ aLe k = nI (ln k)
def hp_X (z x : Nat) (hp pl : Nat → Int32) (M : Nat → Prop) : Prop :=
  z = cn_c M 12 ∧ (∀ j, j < z → ∃ q, q < 12 ∧ hp j = nI q ∧ M q ∧ pl q = nI j) ∧ (∀ q, q < 12 → M q → ∃ j, j < z ∧ hp j = nI q) ∧ ∀ q, q < 12 → ¬ M q → q ≠ x → pl q = -1
def hp_H (z i p x : Nat) (hp pl : Nat → Int32) (M : Nat → Prop) : Prop :=
  z = cn_c M 12 ∧ i < z ∧ p < 12 ∧ M p ∧ (∀ j, j < z → j ≠ i → ∃ q, q < 12 ∧ hp j = nI q ∧ M q ∧ q ≠ p ∧ pl q = nI j) ∧ (∀ q, q < 12 → M q → q ≠ p → ∃ j, j < z ∧ j ≠ i ∧ hp j = nI q) ∧ ∀ q, q < 12 → ¬ M q → q ≠ x → pl q = -1
theorem hp_12 {z x : Nat} {hp pl : Nat → Int32} {M : Nat → Prop} (h : hp_X z x hp pl M) : z ≤ 12 := by rw [h.1]; exact cn_le M 12
theorem hp_H12 {z i p x : Nat} {hp pl : Nat → Int32} {M : Nat → Prop} (h : hp_H z i p x hp pl M) : z ≤ 12 := by rw [h.1]; exact cn_le M 12
theorem hp_ni {a b : Nat} (ha : a < 1000) (hb : b < 1000) (h : nI a = nI b) : a = b := (nI_eq (by omega) (by omega)).mp h
theorem hp_fill {z i p x : Nat} {hp pl : Nat → Int32} {M : Nat → Prop} (h : hp_H z i p x hp pl M) : hp_X z x (upd hp i (nI p)) (upd pl p (nI i)) M := by
  obtain ⟨h1, h2, h3, h4, h5, h6, h7⟩ := h
  refine ⟨h1, fun j hj => ?_, fun q hq Mq => ?_, fun q hq nM hx => ?_⟩
  · by_cases e : j = i
    · exact ⟨p, h3, by rw [e, pk_us], h4, by rw [e, pk_us]⟩
    · obtain ⟨q, a, b, c, d, f⟩ := h5 j hj e
      exact ⟨q, a, by rw [pk_un e]; exact b, c, by rw [pk_un d]; exact f⟩
  · by_cases e : q = p
    · exact ⟨i, h2, by rw [pk_us, e]⟩
    · obtain ⟨j, a, b, c⟩ := h6 q hq Mq e
      exact ⟨j, a, by rw [pk_un b]; exact c⟩
  · rw [pk_un (fun e : q = p => nM (e ▸ h4))]
    exact h7 q hq nM hx
theorem hp_move {z i p x c q : Nat} {hp pl : Nat → Int32} {M : Nat → Prop} (h : hp_H z i p x hp pl M) (hc : c < z) (hci : c ≠ i) (hq : q < 12) (e : hp c = nI q) : hp_H z c p x (upd hp i (nI q)) (upd pl q (nI i)) M := by
  have z12 := hp_H12 h
  obtain ⟨h1, h2, h3, h4, h5, h6, h7⟩ := h
  obtain ⟨q', a, b, g, d, f⟩ := h5 c hc hci
  have eq : q' = q := hp_ni (by omega) (by omega) (b.symm.trans e)
  subst eq
  refine ⟨h1, hc, h3, h4, fun j hj hjc => ?_, fun r hr Mr hrp => ?_, fun r hr nM hx => ?_⟩
  · by_cases ej : j = i
    · exact ⟨q', hq, by rw [ej, pk_us], g, d, by rw [ej, pk_us]⟩
    · obtain ⟨r, a', b', g', d', f'⟩ := h5 j hj ej
      have hne : r ≠ q' := by
        intro er
        rw [er, f] at f'
        exact hjc (hp_ni (by omega) (by omega) f').symm
      exact ⟨r, a', by rw [pk_un ej]; exact b', g', d', by rw [pk_un hne]; exact f'⟩
  · by_cases er : r = q'
    · exact ⟨i, h2, hci.symm, by rw [pk_us, er]⟩
    · obtain ⟨j, a', b', c'⟩ := h6 r hr Mr hrp
      refine ⟨j, a', ?_, by rw [pk_un b']; exact c'⟩
      intro ej
      rw [ej, e] at c'
      exact er (hp_ni (by omega) (by omega) c').symm
  · rw [pk_un (fun er : r = q' => nM (er ▸ g))]
    exact h7 r hr nM hx
theorem hp_cg {z x : Nat} {hp pl : Nat → Int32} {M N : Nat → Prop} (h : hp_X z x hp pl M) (e : ∀ q, q < 12 → (M q ↔ N q)) : hp_X z x hp pl N := by
  obtain ⟨h1, h2, h3, h4⟩ := h
  refine ⟨h1.trans (cn_eq e), fun j hj => ?_, fun q hq n => h3 q hq ((e q hq).mpr n), fun q hq n => h4 q hq (fun m => n ((e q hq).mp m))⟩
  obtain ⟨q, a, b, c, d⟩ := h2 j hj
  exact ⟨q, a, b, (e q a).mp c, d⟩
theorem hp_lift {z i p : Nat} {hp pl : Nat → Int32} {M : Nat → Prop} (h : hp_X z 12 hp pl M) (hi : i < z) (hp' : p < 12) (e : hp i = nI p) : hp_H z i p p hp pl M := by
  have z12 := hp_12 h
  obtain ⟨h1, h2, h3, h4⟩ := h
  obtain ⟨q, a, b, c, d⟩ := h2 i hi
  have eq : q = p := hp_ni (by omega) (by omega) (b.symm.trans e)
  subst eq
  refine ⟨h1, hi, a, c, fun j hj hji => ?_, fun r hr Mr hrp => ?_, fun r hr nM _ => h4 r hr nM (by omega)⟩
  · obtain ⟨r, a', b', c', d'⟩ := h2 j hj
    refine ⟨r, a', b', c', ?_, d'⟩
    intro er
    rw [er, d] at d'
    exact hji (hp_ni (by omega) (by omega) d').symm
  · obtain ⟨j, hj, b'⟩ := h3 r hr Mr
    refine ⟨j, hj, ?_, b'⟩
    intro ej
    rw [ej, b] at b'
    exact hrp (hp_ni (by omega) (by omega) b').symm
theorem hp_one {s : Nat} {hp pl : Nat → Int32} (hs : s < 12) (e1 : hp 0 = nI s) (e2 : pl s = nI 0) (e3 : ∀ q, q < 12 → q ≠ s → pl q = -1) : hp_X 1 12 hp pl (fun j => j = s) := by
  refine ⟨?_, fun j hj => ⟨s, hs, ?_, rfl, ?_⟩, fun q _ e => ⟨0, by omega, by rw [e1, e]⟩, fun q hq n _ => e3 q hq n⟩
  · have h1 := cn_add (P := fun _ => False) (a := s) (fun h => h) hs
    rw [cn_zero (P := fun _ => False) (fun _ _ h => h)] at h1
    rw [← cn_eq (P := fun k => False ∨ k = s) (Q := fun k => k = s) (fun k _ => ⟨fun q => q.elim False.elim id, Or.inr⟩), h1]
  · have : j = 0 := by omega
    rw [this]; exact e1
  · have : j = 0 := by omega
    rw [this]; exact e2
theorem hp_ins {z p : Nat} {hp pl : Nat → Int32} {M : Nat → Prop} (h : hp_X z 12 hp pl M) (hp' : p < 12) (nM : ¬ M p) : hp_X (z + 1) 12 (upd hp z (nI p)) (upd pl p (nI z)) (fun j => M j ∨ j = p) := by
  obtain ⟨h1, h2, h3, h4⟩ := h
  refine ⟨by rw [cn_add nM hp', h1], fun j hj => ?_, fun q hq m => ?_, fun q hq n _ => ?_⟩
  · by_cases e : j = z
    · exact ⟨p, hp', by rw [e, pk_us], Or.inr rfl, by rw [e, pk_us]⟩
    · obtain ⟨q, a, b, c, d⟩ := h2 j (by omega)
      exact ⟨q, a, by rw [pk_un e]; exact b, Or.inl c, by rw [pk_un (fun z : q = p => nM (z ▸ c))]; exact d⟩
  · by_cases e : q = p
    · exact ⟨z, by omega, by rw [pk_us, e]⟩
    · obtain ⟨j, a, b⟩ := h3 q hq (m.elim id (fun z => absurd z e))
      exact ⟨j, by omega, by rw [pk_un (by omega)]; exact b⟩
  · rw [pk_un (fun e : q = p => n (Or.inr e))]
    exact h4 q hq (fun m => n (Or.inl m)) (by omega)
theorem hp_take {z b p : Nat} {hp pl : Nat → Int32} {M : Nat → Prop} (h : hp_X (z + 1) 12 hp pl M) (hz : 0 < z) (hb : b < 12) (eb : hp 0 = nI b) (hp' : p < 12) (ep : hp z = nI p) : hp_H z 0 p b hp pl (fun j => M j ∧ j ≠ b) := by
  have z12 := hp_12 h
  obtain ⟨h1, h2, h3, h4⟩ := h
  obtain ⟨q, a1, a2, a3, a4⟩ := h2 0 (by omega)
  have e1 : q = b := hp_ni (by omega) (by omega) (a2.symm.trans eb)
  subst e1
  obtain ⟨r, b1, b2, b3, b4⟩ := h2 z (by omega)
  have e2 : r = p := hp_ni (by omega) (by omega) (b2.symm.trans ep)
  subst e2
  have hrq : r ≠ q := by
    intro e
    rw [e, a4] at b4
    have := hp_ni (by omega) (by omega) b4
    omega
  have c1 := cn_sub a3 a1
  refine ⟨by omega, hz, b1, ⟨b3, hrq⟩, fun j hj hj0 => ?_, fun w hw Mw hwr => ?_, fun w hw nM hwq => ?_⟩
  · obtain ⟨w, d1, d2, d3, d4⟩ := h2 j (by omega)
    refine ⟨w, d1, d2, ⟨d3, ?_⟩, ?_, d4⟩
    · intro e
      rw [e, a4] at d4
      exact hj0 (hp_ni (by omega) (by omega) d4).symm
    · intro e
      rw [e, b4] at d4
      have := hp_ni (by omega) (by omega) d4
      omega
  · obtain ⟨j, d1, d2⟩ := h3 w hw Mw.1
    refine ⟨j, ?_, ?_, d2⟩
    · rcases Nat.lt_or_ge j z with y | y
      · exact y
      · have e : j = z := by omega
        rw [e, b2] at d2
        exact absurd (hp_ni (by omega) (by omega) d2).symm hwr
    · intro e
      rw [e, a2] at d2
      exact Mw.2 (hp_ni (by omega) (by omega) d2).symm
  · exact h4 w hw (fun m => nM ⟨m, hwq⟩) (by omega)
theorem hp_out {z b : Nat} {hp pl : Nat → Int32} {M : Nat → Prop} (h : hp_X z b hp pl M) (nM : ¬ M b) : hp_X z 12 hp (upd pl b (-1)) M := by
  obtain ⟨h1, h2, h3, h4⟩ := h
  refine ⟨h1, fun j hj => ?_, h3, fun q hq n _ => ?_⟩
  · obtain ⟨q, a, b', c, d⟩ := h2 j hj
    exact ⟨q, a, b', c, by rw [pk_un (fun e : q = b => nM (e ▸ c))]; exact d⟩
  · by_cases e : q = b
    · rw [e, pk_us]
    · rw [pk_un e]; exact h4 q hq n e
theorem hp_last {b : Nat} {hp pl : Nat → Int32} {M : Nat → Prop} (h : hp_X 1 12 hp pl M) (hb : b < 12) (Mb : M b) : hp_X 0 b hp pl (fun j => M j ∧ j ≠ b) := by
  obtain ⟨h1, h2, h3, h4⟩ := h
  have c1 := cn_sub Mb hb
  refine ⟨by omega, fun j hj => by omega, fun q hq m => ?_, fun q hq n e => h4 q hq (fun m => n ⟨m, e⟩) (by omega)⟩
  have := cn_pos hq (P := fun j => M j ∧ j ≠ b) m
  omega
theorem hd_half {i : Nat} (h0 : 0 < i) (h : i < 1000) : (nI i - 1) / 2 = nI ((i - 1) / 2) := by
  obtain ⟨k, rfl⟩ : ∃ k, i = k + 1 := ⟨i - 1, by omega⟩
  rw [nI_pred]
  exact pk_div (d := 2) (by omega) (by omega) (by omega)
section
variable {xP xZ : Int32} {aFr aTo aLe aRd aFd aKp aFa aSe aFb aSb aHp aPl aEg aRk aTH aFH aLm aFM aTM aFl aBo aAc : Nat → Int32}
variable {th : Nat → Bool} {fr to ln : Nat → Nat} {M : Nat → Prop} {F : Nat → Nat}
theorem xw_has {post : Int32 → Prop} {k : Nat} (hP : xP = ob_f th 28) (hk : k < 28) (f : th k = true → post 1) (g : ¬ th k = true → post 0) : wpX_has post (xP, xZ, aFr, aTo, aLe, aRd, aFd, aKp, aFa, aSe, aFb, aSb, aHp, aPl, aEg, aRk, aTH, aFH, aLm, aFM, aTM, aFl, aBo, aAc) (nI k) :=
  br_f (br_0 (by omega)) (br_f (nI_ge (b := 28) hk (by decide)) (br_p (th k = false) (by rw [hP]; exact ob_tst (by omega) hk) (fun h => g (by rw [h]; decide)) (fun h => f (by simpa using h))))
theorem xw_roads {post : SX → Prop} (N : nx_I th fr to ln xP aFr aTo aLe) (OK : nt_ok th fr to ln) (K : ∀ rd, ar_2 12 rd (nt_R th fr to ln) → post (xP, xZ, aFr, aTo, aLe, rd, aFd, aKp, aFa, aSe, aFb, aSb, aHp, aPl, aEg, aRk, aTH, aFH, aLm, aFM, aTM, aFl, aBo, aAc)) : wpX_layRoads post (xP, xZ, aFr, aTo, aLe, aRd, aFd, aKp, aFa, aSe, aFb, aSb, aHp, aPl, aEg, aRk, aTH, aFH, aLm, aFM, aTM, aFl, aBo, aAc) := by
  have l25 : ∀ (d k : Nat) (rd : Nat → Int32), k + d = 28 → ar_2 12 rd (nt_w th fr to ln k) → wX_layRoads_25 post xP xZ (d + 1) (nI k) aFr aTo aLe rd aFd aKp aFa aSe aFb aSb aHp aPl aEg aRk aTH aFH aLm aFM aTM aFl aBo aAc := by
    intro d
    induction d with
    | zero =>
      intro k rd hk h
      have e : k = 28 := by omega
      subst e
      exact br_t (by decide) (K rd h)
    | succ d ih =>
      intro k rd hkd h
      have hk : k < 28 := by omega
      obtain ⟨n1, n2, n3⟩ := N.2 k hk
      obtain ⟨o1, o2, o3, o4⟩ := OK k hk
      have ek : (nI k).toNatClampNeg = k := ar_cl (by omega)
      have hc : fr k * 12 + to k < 144 := by omega
      have ec : (nI (fr k * 12 + to k)).toNatClampNeg = fr k * 12 + to k := ar_cl (by omega)
      have bK := nt_K (th := th) (fr := fr) (to := to) (ln := ln) k (fr k) (to k)
      have er : rd (nI (fr k * 12 + to k)).toNatClampNeg = nI (nt_w th fr to ln k (fr k) (to k)) := by rw [ec]; exact h _ _ o1 o2
      have el : aLe (nI k).toNatClampNeg = nI (ln k) := by rw [ek]; exact n3
      refine br_f (nI_ge (b := 28) hk (by decide)) ⟨ar_n hk, ar_n hk, nm_r (e' := nI (fr k * 12 + to k)) (by rw [ek, n1, n2, ar_ix]) (xw_has N.1 hk (fun ht => ?_) (fun ht => ?_))⟩
      · refine br_f (by decide) ⟨ar_n hk, ar_n hc, br_le er el (by omega) (by omega) (fun hle => ⟨ar_n hc, ar_n hc, nm_r (ar_us (by omega) rd) (nm_r (nI_1 k) (ih (k + 1) rd (by omega) ?_))⟩) (fun hlt => ⟨ar_n hk, ar_n hc, nm_r (ar_u (by omega) rd _) (nm_r (nI_1 k) (ih (k + 1) _ (by omega) ?_))⟩)⟩
        · refine ar_ex2 h (fun u v hu hv => ?_)
          simp only [nt_w]
          split
          · rename_i q
            rw [← q.2.1, ← q.2.2]; omega
          · rfl
        · intro u v hu hv
          simp only [nt_w]
          by_cases q : fr k = u ∧ to k = v
          · rw [if_pos ⟨ht, q.1, q.2⟩, ← q.1, ← q.2, pk_us, el]
            exact congrArg nI (by omega)
          · rw [if_neg (fun z => q z.2), pk_un (by omega)]
            exact h u v hu hv
      · refine br_t rfl ⟨ar_n hc, ar_n hc, nm_r (ar_us (by omega) rd) (nm_r (nI_1 k) (ih (k + 1) rd (by omega) ?_))⟩
        refine ar_ex2 h (fun u v hu hv => ?_)
        simp only [nt_w]
        rw [if_neg (fun z => ht z.1)]
  have l2 : ∀ (d i : Nat) (rd : Nat → Int32), i + d = 144 → (∀ j, j < i → rd j = nI 1000000) → wX_layRoads_2 post xP xZ (d + 1) (nI i) aFr aTo aLe rd aFd aKp aFa aSe aFb aSb aHp aPl aEg aRk aTH aFH aLm aFM aTM aFl aBo aAc := by
    intro d
    induction d with
    | zero =>
      intro i rd hi h
      have e : i = 144 := by omega
      subst e
      exact br_t (by decide) ⟨28 + 1, l25 28 0 rd rfl (fun u v hu hv => h _ (by omega))⟩
    | succ d ih =>
      intro i rd hid h
      have hi : i < 144 := by omega
      refine br_f (nI_ge (b := 144) hi (by decide)) ⟨ar_n hi, nm_r (ar_u (by omega) rd _) (nm_r (nI_1 i) (ih (i + 1) _ (by omega) (fun j hj => ?_)))⟩
      by_cases e : j = i
      · rw [e, pk_us]; rfl
      · rw [pk_un e]; exact h j (by omega)
  exact ⟨144 + 1, l2 144 0 aRd rfl (fun j h => by omega)⟩
theorem xw_set {post : SX → Prop} {i p : Nat} (hi : i < 16) (hp : p < 12) (K : post (xP, xZ, aFr, aTo, aLe, aRd, aFd, aKp, aFa, aSe, aFb, aSb, upd aHp i (nI p), upd aPl p (nI i), aEg, aRk, aTH, aFH, aLm, aFM, aTM, aFl, aBo, aAc)) : wpX_setPlace post (xP, xZ, aFr, aTo, aLe, aRd, aFd, aKp, aFa, aSe, aFb, aSb, aHp, aPl, aEg, aRk, aTH, aFH, aLm, aFM, aTM, aFl, aBo, aAc) (nI i) (nI p) :=
  And.intro (ar_n hi) (nm_r (by rw [ar_u (by omega), sm_b p (by omega)]) (And.intro (ar_n hp) (nm_r (by rw [ar_u (by omega), sm_b i (by omega)]) K)))
theorem xw_rise9 {post : SX → Prop} {z p : Nat} (K : ∀ hp pl, hp_X z 12 hp pl M → post (xP, xZ, aFr, aTo, aLe, aRd, aFd, aKp, aFa, aSe, aFb, aSb, hp, pl, aEg, aRk, aTH, aFH, aLm, aFM, aTM, aFl, aBo, aAc)) :
    ∀ (n i : Nat) (hp pl : Nat → Int32), i < n → hp_H z i p p hp pl M → wX_rise_9 post (nI p) n (nI i) xP xZ aFr aTo aLe aRd aFd aKp aFa aSe aFb aSb hp pl aEg aRk aTH aFH aLm aFM aTM aFl aBo aAc := by
  intro n
  induction n with
  | zero => intro i hp pl h; omega
  | succ n ih =>
    intro i hp pl hn H
    have z12 := hp_H12 H
    have hi := H.2.1
    have hp12 := H.2.2.1
    have fin : wX_rise_61 post (nI i) (nI p) xP xZ aFr aTo aLe aRd aFd aKp aFa aSe aFb aSb hp pl aEg aRk aTH aFH aLm aFM aTM aFl aBo aAc := by
      unfold wX_rise_61
      refine xw_set (by omega) hp12 (K _ _ ?_)
      have h1 := hp_fill H
      exact ⟨h1.1, h1.2.1, h1.2.2.1, fun q hq nM _ => h1.2.2.2 q hq nM (fun e => nM (e ▸ H.2.2.2.1))⟩
    rcases Nat.eq_zero_or_pos i with e | h0
    · exact br_t (by rw [e]; decide) fin
    · have eh : (nI i - 1) / 2 = nI ((i - 1) / 2) := hd_half h0 (by omega)
      obtain ⟨q, q1, q2, q3, q4, q5⟩ := H.2.2.2.2.1 ((i - 1) / 2) (by omega) (by omega)
      have eq : hp ((nI i - 1) / 2).toNatClampNeg = nI q := by rw [eh, ar_cl (by omega)]; exact q2
      refine br_f (nI_nle h0 (by omega)) ⟨by decide, by rw [eh]; exact ar_n (by omega), by rw [eq]; exact ar_n q1, ar_n hp12, br_c (fun _ => fin) (fun _ => ⟨by decide, by rw [eh]; exact ar_n (by omega), ?_⟩)⟩
      rw [eq]
      refine xw_set (by omega) q1 ⟨by decide, nm_r eh (ih _ _ _ (by omega) (hp_move H (by omega) (by omega) q1 q2))⟩
theorem xw_rise {post : SX → Prop} {z i p : Nat} (H : hp_X z 12 aHp aPl M) (hi : i < z) (hp : p < 12) (e : aHp i = nI p) (K : ∀ hp pl, hp_X z 12 hp pl M → post (xP, xZ, aFr, aTo, aLe, aRd, aFd, aKp, aFa, aSe, aFb, aSb, hp, pl, aEg, aRk, aTH, aFH, aLm, aFM, aTM, aFl, aBo, aAc)) : wpX_rise post (xP, xZ, aFr, aTo, aLe, aRd, aFd, aKp, aFa, aSe, aFb, aSb, aHp, aPl, aEg, aRk, aTH, aFH, aLm, aFM, aTM, aFl, aBo, aAc) (nI i) := by
  have z12 := hp_12 H
  exact And.intro (ar_n (by omega)) (nm_r (e' := nI p) (by rw [ar_cl (by omega)]; exact e) ⟨i + 1, xw_rise9 K (i + 1) i aHp aPl (by omega) (hp_lift H hi hp e)⟩)
end
end
section
/-! taking the nearest; reaching; the search over roads -/
section
variable {xP xZ : Int32} {aFr aTo aLe aRd aFd aKp aFa aSe aFb aSb aHp aPl aEg aRk aTH aFH aLm aFM aTM aFl aBo aAc : Nat → Int32}
variable {th ok : Nat → Bool} {fr to ln D : Nat → Nat} {M : Nat → Prop} {F : Nat → Nat}
theorem xw_t168 {post : Int32 → SX → Prop} {z i p b : Nat} (hb : b < 12) (nM : ¬ M b) (hZ : xZ = nI z) (z12 : z ≤ 12) (H0 : z = 0 → hp_X 0 b aHp aPl M) (H1 : 0 < z → hp_H z i p b aHp aPl M)
    (K : ∀ hp pl, hp_X z 12 hp pl M → post (nI b) (xP, xZ, aFr, aTo, aLe, aRd, aFd, aKp, aFa, aSe, aFb, aSb, hp, pl, aEg, aRk, aTH, aFH, aLm, aFM, aTM, aFl, aBo, aAc)) : wX_takeNearest_168 post (nI b) (nI p) (nI i) xP xZ aFr aTo aLe aRd aFd aKp aFa aSe aFb aSb aHp aPl aEg aRk aTH aFH aLm aFM aTM aFl aBo aAc := by
  unfold wX_takeNearest_168
  rcases Nat.eq_zero_or_pos z with e | h0
  · have hz : xZ ≤ 0 := by rw [hZ, e]; decide
    refine br_t hz ⟨ar_n hb, nm_r (e' := upd aPl b (-1)) (by rw [ar_u (by omega), sm_m1]) (K _ _ ?_)⟩
    rw [e]
    exact hp_out (H0 e) nM
  · have H := H1 h0
    have z12' := H.2.1
    have hz : ¬ xZ ≤ 0 := by rw [hZ]; exact nI_nle h0 (by omega)
    refine br_f hz (xw_set (by omega) H.2.2.1 ⟨ar_n hb, nm_r (by rw [ar_u (by omega), sm_m1]) (K _ _ (hp_out (hp_fill H) nM))⟩)
theorem xw_t43 {post : Int32 → SX → Prop} {z p b : Nat} (hb : b < 12) (nM : ¬ M b) (hZ : xZ = nI z) (z12 : z ≤ 12)
    (K : ∀ hp pl, hp_X z 12 hp pl M → post (nI b) (xP, xZ, aFr, aTo, aLe, aRd, aFd, aKp, aFa, aSe, aFb, aSb, hp, pl, aEg, aRk, aTH, aFH, aLm, aFM, aTM, aFl, aBo, aAc)) :
    ∀ (n i : Nat) (g : Int32) (hp pl : Nat → Int32), 0 < n → (¬ g = 0 → 0 < z ∧ z < n + i) → (z = 0 → hp_X 0 b hp pl M) → (0 < z → hp_H z i p b hp pl M) → wX_takeNearest_43 post (nI b) (nI p) n (nI i) g xP xZ aFr aTo aLe aRd aFd aKp aFa aSe aFb aSb hp pl aEg aRk aTH aFH aLm aFM aTM aFl aBo aAc := by
  intro n
  induction n with
  | zero => intro i g hp pl h; omega
  | succ n ih =>
    intro i g hp pl _ hg H0 H1
    have fin : wX_takeNearest_168 post (nI b) (nI p) (nI i) xP xZ aFr aTo aLe aRd aFd aKp aFa aSe aFb aSb hp pl aEg aRk aTH aFH aLm aFM aTM aFl aBo aAc := xw_t168 hb nM hZ z12 H0 H1 K
    by_cases eg : g = 0
    · exact br_t eg fin
    · obtain ⟨hz, hn⟩ := hg eg
      have H := H1 hz
      have hi := H.2.1
      have hp12 := H.2.2.1
      have e2 : 2 * nI i + 1 = nI (2 * i + 1) := by
        show nI 2 * nI i + nI 1 = _
        rw [pk_mul, nI_add]
      have step : ∀ c, i < c → c < z → ∀ y : Int32, y = nI c → wX_takeNearest_114 post (wX_takeNearest_43 post (nI b) (nI p) n) (nI b) (nI p) (nI i) 0 y xP xZ aFr aTo aLe aRd aFd aKp aFa aSe aFb aSb hp pl aEg aRk aTH aFH aLm aFM aTM aFl aBo aAc := by
        intro c hic hcz y hy
        obtain ⟨q, q1, q2, q3, q4, q5⟩ := H.2.2.2.2.1 c hcz (by omega)
        have eq : hp (nI c).toNatClampNeg = nI q := by rw [ar_cl (by omega)]; exact q2
        unfold wX_takeNearest_114 wX_takeNearest_143
        refine nm_r (e' := nI c) (by rw [hy, Int32.add_zero]) ⟨ar_n (by omega), by rw [eq]; exact ar_n q1, ar_n hp12, br_c (fun _ => br_t rfl (ih i 0 hp pl (by omega) (fun z => absurd rfl z) H0 H1)) (fun _ => br_f (by decide) ⟨ar_n (by omega), ?_⟩)⟩
        rw [eq]
        exact xw_set (by omega) q1 (ih c 1 _ _ (by omega) (fun _ => ⟨hz, by omega⟩) (fun e => by omega) (fun _ => hp_move H hcz (by omega) q1 q2))
      have step1 : ∀ c, i < c + 1 → c + 1 < z → ∀ y : Int32, y = nI c → wX_takeNearest_114 post (wX_takeNearest_43 post (nI b) (nI p) n) (nI b) (nI p) (nI i) 1 y xP xZ aFr aTo aLe aRd aFd aKp aFa aSe aFb aSb hp pl aEg aRk aTH aFH aLm aFM aTM aFl aBo aAc := by
        intro c hic hcz y hy
        obtain ⟨q, q1, q2, q3, q4, q5⟩ := H.2.2.2.2.1 (c + 1) hcz (by omega)
        have eq : hp (nI (c + 1)).toNatClampNeg = nI q := by rw [ar_cl (by omega)]; exact q2
        unfold wX_takeNearest_114 wX_takeNearest_143
        refine nm_r (e' := nI (c + 1)) (by rw [hy, nI_1]) ⟨ar_n (by omega), by rw [eq]; exact ar_n q1, ar_n hp12, br_c (fun _ => br_t rfl (ih i 0 hp pl (by omega) (fun z => absurd rfl z) H0 H1)) (fun _ => br_f (by decide) ⟨ar_n (by omega), ?_⟩)⟩
        rw [eq]
        exact xw_set (by omega) q1 (ih (c + 1) 1 _ _ (by omega) (fun _ => ⟨hz, by omega⟩) (fun e => by omega) (fun _ => hp_move H hcz (by omega) q1 q2))
      refine br_f eg (br_le hZ e2 (by omega) (by omega) (fun _ => fin) (fun h1 => nm_r e2 (br_le hZ (by rw [nI_1]) (by omega) (by omega) (fun _ => step _ (by omega) h1 _ rfl) (fun h2 => ?_))))
      obtain ⟨q, q1, q2, _⟩ := H.2.2.2.2.1 (2 * i + 1) h1 (by omega)
      obtain ⟨r, r1, r2, _⟩ := H.2.2.2.2.1 (2 * i + 1 + 1) h2 (by omega)
      have eq : hp (nI (2 * i + 1)).toNatClampNeg = nI q := by rw [ar_cl (by omega)]; exact q2
      have er : hp (nI (2 * i + 1) + 1).toNatClampNeg = nI r := by rw [nI_1, ar_cl (by omega)]; exact r2
      exact ⟨by rw [nI_1]; exact ar_n (by omega), by rw [er]; exact ar_n r1, ar_n (by omega), by rw [eq]; exact ar_n q1, br_c (fun _ => step _ (by omega) h1 _ rfl) (fun _ => step1 _ (by omega) h2 _ rfl)⟩
theorem xw_take {post : Int32 → SX → Prop} {z : Nat} (hZ : xZ = nI (z + 1)) (H : hp_X (z + 1) 12 aHp aPl M)
    (K : ∀ b hp pl, b < 12 → M b → hp_X z 12 hp pl (fun j => M j ∧ j ≠ b) → post (nI b) (xP, nI z, aFr, aTo, aLe, aRd, aFd, aKp, aFa, aSe, aFb, aSb, hp, pl, aEg, aRk, aTH, aFH, aLm, aFM, aTM, aFl, aBo, aAc)) : wpX_takeNearest post (xP, xZ, aFr, aTo, aLe, aRd, aFd, aKp, aFa, aSe, aFb, aSb, aHp, aPl, aEg, aRk, aTH, aFH, aLm, aFM, aTM, aFl, aBo, aAc) := by
  have z12 := hp_12 H
  obtain ⟨b, b1, b2, b3, b4⟩ := H.2.1 0 (by omega)
  obtain ⟨p, p1, p2, p3, p4⟩ := H.2.1 z (by omega)
  have nb : ¬ (M b ∧ b ≠ b) := fun h => h.2 rfl
  have H0 : z = 0 → hp_X 0 b aHp aPl (fun j => M j ∧ j ≠ b) := fun e => hp_last (by rw [e] at H; exact H) b1 b3
  have H1 : 0 < z → hp_H z 0 p b aHp aPl (fun j => M j ∧ j ≠ b) := fun h0 => hp_take H h0 b1 b2 p1 p2
  have L : ∀ g : Int32, (¬ g = 0 → 0 < z) → wX_takeNearest_43 post (nI b) (nI p) (z + 1) (nI 0) g xP (nI z) aFr aTo aLe aRd aFd aKp aFa aSe aFb aSb aHp aPl aEg aRk aTH aFH aLm aFM aTM aFl aBo aAc := fun g hg => xw_t43 (M := fun j => M j ∧ j ≠ b) b1 nb rfl (by omega) (fun hp pl h => K b hp pl b1 b3 h) (z + 1) 0 g aHp aPl (by omega) (fun h => ⟨hg h, by omega⟩) H0 H1
  refine nm_r (e' := nI b) b2 (nm_r (e' := nI z) (by rw [hZ, nI_pred]) (And.intro (ar_n (by omega)) (nm_r (e' := nI p) (by rw [ar_cl (by omega)]; exact p2) ?_)))
  rcases Nat.eq_zero_or_pos z with e | h0
  · exact br_t (by rw [e]; decide) ⟨_, L 0 (fun h => absurd rfl h)⟩
  · exact br_f (nI_nle h0 (by omega)) ⟨_, L 1 (fun _ => h0)⟩
theorem xw_start {post : SX → Prop} {s : Nat} (hs : s < 12) (K : ∀ fa se hp pl, ar_I 12 fa (dj_in s) → hp_X 1 12 hp pl (fun j => j = s) → post (xP, nI 1, aFr, aTo, aLe, aRd, aFd, aKp, fa, se, aFb, aSb, hp, pl, aEg, aRk, aTH, aFH, aLm, aFM, aTM, aFl, aBo, aAc)) : wpX_startSearch post (xP, xZ, aFr, aTo, aLe, aRd, aFd, aKp, aFa, aSe, aFb, aSb, aHp, aPl, aEg, aRk, aTH, aFH, aLm, aFM, aTM, aFl, aBo, aAc) (nI s) := by
  have l : ∀ (d i : Nat) (fa se pl : Nat → Int32), i + d = 12 → (∀ j, j < i → fa j = nI 1000000 ∧ pl j = -1) → wX_startSearch_2 post (nI s) xP xZ (d + 1) (nI i) aFr aTo aLe aRd aFd aKp fa se aFb aSb aHp pl aEg aRk aTH aFH aLm aFM aTM aFl aBo aAc := by
    intro d
    induction d with
    | zero =>
      intro i fa se pl hi h
      have e : i = 12 := by omega
      subst e
      refine br_t (by decide) ⟨ar_n hs, nm_r (ar_u (by omega) fa 0) ?_⟩
      refine xw_set (i := 0) (p := s) (by omega) hs (K _ _ _ _ (fun j hj => ?_) (hp_one hs pk_us pk_us (fun q hq hne => ?_)))
      · unfold dj_in
        by_cases e : j = s
        · rw [e, pk_us, if_pos rfl]; rfl
        · rw [pk_un e, if_neg e]; exact (h j hj).1
      · rw [pk_un hne]; exact (h q hq).2
    | succ d ih =>
      intro i fa se pl hid h
      have hi : i < 12 := by omega
      refine br_f (nI_ge (b := 12) hi (by decide)) ⟨ar_n hi, nm_r (ar_u (by omega) fa _) ⟨ar_n hi, nm_e ⟨ar_n hi, nm_r (by rw [ar_u (by omega), sm_m1]) (nm_r (nI_1 i) (ih (i + 1) _ _ _ (by omega) (fun j hj => ?_)))⟩⟩⟩
      by_cases e : j = i
      · rw [e, pk_us, pk_us]; exact ⟨rfl, rfl⟩
      · rw [pk_un e, pk_un e]; exact h j (by omega)
  exact ⟨12 + 1, l 12 0 aFa aSe aPl rfl (fun j h => by omega)⟩
theorem xw_reach {post : SX → Prop} {z p w : Nat} (hZ : xZ = nI z) (hp : p < 12) (H : hp_X z 12 aHp aPl M) (hF : ar_I 12 aFa F) (hK : F p ≤ 1000000) (hw : w ≤ 2000000)
    (K0 : F p ≤ w → post (xP, xZ, aFr, aTo, aLe, aRd, aFd, aKp, aFa, aSe, aFb, aSb, aHp, aPl, aEg, aRk, aTH, aFH, aLm, aFM, aTM, aFl, aBo, aAc))
    (K1 : w < F p → ∀ z' hp pl fa, z' ≤ z + 1 → hp_X z' 12 hp pl (fun j => M j ∨ j = p) → ar_I 12 fa (fun j => if j = p then w else F j) → post (xP, nI z', aFr, aTo, aLe, aRd, aFd, aKp, fa, aSe, aFb, aSb, hp, pl, aEg, aRk, aTH, aFH, aLm, aFM, aTM, aFl, aBo, aAc)) : wpX_reach post (xP, xZ, aFr, aTo, aLe, aRd, aFd, aKp, aFa, aSe, aFb, aSb, aHp, aPl, aEg, aRk, aTH, aFH, aLm, aFM, aTM, aFl, aBo, aAc) (nI p) (nI w) := by
  have z12 := hp_12 H
  have ep : (nI p).toNatClampNeg = p := ar_cl (by omega)
  refine And.intro (ar_n hp) (br_le (ar_r hF hp) rfl (by omega) (by omega) K0 (fun hlt => ⟨ar_n hp, nm_r (ar_u (by omega) aFa _) ⟨ar_n hp, ?_⟩⟩))
  have F' : ar_I 12 (upd aFa p (nI w)) (fun j => if j = p then w else F j) := by
    intro j hj
    show upd aFa p (nI w) j = nI (if j = p then w else F j)
    by_cases e : j = p
    · rw [e, pk_us, if_pos rfl]
    · rw [pk_un e, if_neg e]; exact hF j hj
  rcases Classical.em (M p) with m | m
  · obtain ⟨i, i1, i2⟩ := H.2.2.1 p hp m
    obtain ⟨q, q1, q2, q3, q4⟩ := H.2.1 i i1
    have eq : q = p := hp_ni (by omega) (by omega) (q2.symm.trans i2)
    rw [eq] at q4
    refine br_t (by rw [ep, q4]; exact nI_pos' (by omega)) ?_
    unfold wX_reach_45
    refine ⟨ar_n hp, ?_⟩
    rw [ep, q4]
    refine xw_rise H i1 hp i2 (fun hp' pl' h => ?_)
    exact hZ ▸ K1 hlt z hp' pl' _ (by omega) (hp_cg h (fun q _ => ⟨Or.inl, fun y => y.elim id (fun e => e ▸ m)⟩)) F'
  · have em := H.2.2.2 p hp m (by omega)
    have hz : z < 12 := by
      have h1 := cn_add m hp
      have h2 := cn_le (fun k => M k ∨ k = p) 12
      have h3 := H.1
      omega
    refine br_f (by rw [ep, em]; decide) ?_
    rw [hZ]
    refine xw_set (by omega) hp (nm_r (nI_1 z) ?_)
    unfold wX_reach_45
    refine ⟨ar_n hp, ?_⟩
    rw [ep, pk_us]
    exact xw_rise (hp_ins H hp m) (by omega) hp pk_us (fun hp' pl' h => K1 hlt (z + 1) hp' pl' _ (by omega) h F')
theorem xw_sf19 {post : SX → Prop} {J : Int32 → Int32 → (Nat → Int32) → (Nat → Int32) → (Nat → Int32) → (Nat → Int32) → (Nat → Int32) → (Nat → Int32) → (Nat → Int32) → (Nat → Int32) → (Nat → Int32) → (Nat → Int32) → (Nat → Int32) → (Nat → Int32) → (Nat → Int32) → (Nat → Int32) → (Nat → Int32) → (Nat → Int32) → (Nat → Int32) → (Nat → Int32) → (Nat → Int32) → (Nat → Int32) → (Nat → Int32) → (Nat → Int32) → Prop} {s u μ : Nat} (N : nx_I th fr to ln xP aFr aTo aLe) (OK : nt_ok th fr to ln) (hu : u < 12) (hl : ∀ k, k < 28 → th k = true → D (to k) ≤ D (fr k) + ln k)
    (KJ : ∀ z F M fa hp pl, hp_X z 12 hp pl M → ar_I 12 fa F → hq_I th fr to ln D s M F → 13 * hq_s F 12 + z < μ → J xP (nI z) aFr aTo aLe aRd aFd aKp fa aSe aFb aSb hp pl aEg aRk aTH aFH aLm aFM aTM aFl aBo aAc) :
    ∀ (d k z : Nat) (F : Nat → Nat) (M : Nat → Prop) (fa hp pl : Nat → Int32), k + d = 28 → hp_X z 12 hp pl M → ar_I 12 fa F → hq_J th fr to ln D s u k M F → 13 * hq_s F 12 + z < μ → wX_searchFrom_19 post J (nI u) (d + 1) (nI k) xP (nI z) aFr aTo aLe aRd aFd aKp fa aSe aFb aSb hp pl aEg aRk aTH aFH aLm aFM aTM aFl aBo aAc := by
  intro d
  induction d with
  | zero =>
    intro k z F M fa hp pl hk H hF hJ hμ
    have e : k = 28 := by omega
    subst e
    exact br_t (by decide) (KJ z F M fa hp pl H hF (hq_done hJ) hμ)
  | succ d ih =>
    intro k z F M fa hp pl hkd H hF hJ hμ
    have hk : k < 28 := by omega
    obtain ⟨n1, n2, n3⟩ := N.2 k hk
    obtain ⟨o1, o2, o3, o4⟩ := OK k hk
    have ek : (nI k).toNatClampNeg = k := ar_cl (by omega)
    refine br_f (nI_ge (b := 28) hk (by decide)) (xw_has N.1 hk (fun ht => br_f (by decide) ⟨ar_n hk, br_eq (a := fr k) (b := u) (by rw [ek]; exact n1) rfl (by omega) (by omega) (fun e => ⟨ar_n hk, ar_n hu, ar_n hk, ?_⟩) (fun e => nm_r (nI_1 k) (ih (k + 1) z F M fa hp pl (by omega) H hF (hq_skip hJ (fun _ z => absurd z e)) hμ))⟩) (fun ht => br_t rfl (nm_r (nI_1 k) (ih (k + 1) z F M fa hp pl (by omega) H hF (hq_skip hJ (fun z => absurd z ht)) hμ))))
    have bu := hJ.2.1 u hu
    have bt' := hJ.2.1 (to k) o2
    rw [ek, n2, n3, ar_r hF hu, nI_add]
    refine xw_reach rfl o2 H hF bt' (by omega) (fun hle => nm_r (nI_1 k) (ih (k + 1) z F M fa hp pl (by omega) H hF (hq_skip hJ (fun _ _ => hle)) hμ)) (fun hlt z' hp' pl' fa' hz H' F' => nm_r (nI_1 k) (ih (k + 1) z' _ _ fa' hp' pl' (by omega) H' F' (hq_reach hl hk ht e hu hlt hJ) ?_))
    have := hq_lt hlt (n := 12) o2
    omega
theorem xw_sf5 {post : SX → Prop} {s : Nat} (N : nx_I th fr to ln xP aFr aTo aLe) (OK : nt_ok th fr to ln) (hl : ∀ k, k < 28 → th k = true → D (to k) ≤ D (fr k) + ln k)
    (K : ∀ xZ F fa hp pl, ar_I 12 fa F → F s = 0 → (∀ v, v < 12 → F v ≤ 1000000) → (∀ v, v < 12 → D v ≤ F v) → (∀ k, k < 28 → th k = true → F (to k) ≤ F (fr k) + ln k) → post (xP, xZ, aFr, aTo, aLe, aRd, aFd, aKp, fa, aSe, aFb, aSb, hp, pl, aEg, aRk, aTH, aFH, aLm, aFM, aTM, aFl, aBo, aAc)) :
    ∀ (n z : Nat) (F : Nat → Nat) (M : Nat → Prop) (fa hp pl : Nat → Int32), hp_X z 12 hp pl M → ar_I 12 fa F → hq_I th fr to ln D s M F → 13 * hq_s F 12 + z < n → wX_searchFrom_5 post n xP (nI z) aFr aTo aLe aRd aFd aKp fa aSe aFb aSb hp pl aEg aRk aTH aFH aLm aFM aTM aFl aBo aAc := by
  intro n
  induction n with
  | zero => intro z F M fa hp pl _ _ _ h; omega
  | succ n ih =>
    intro z F M fa hp pl H hF hI hn
    have z12 := hp_12 H
    rcases Nat.eq_zero_or_pos z with e | h0
    · have hM := cn_0 (e ▸ H.1.symm)
      refine br_t (by rw [e]; decide) (K _ F fa hp pl hF hI.1 hI.2.1 hI.2.2.1 (fun k hk ht => hI.2.2.2 k hk ht (hM _ (OK k hk).1)))
    · obtain ⟨y, rfl⟩ : ∃ y, z = y + 1 := ⟨z - 1, by omega⟩
      refine br_f (nI_nle h0 (by omega)) (xw_take rfl H (fun b hp' pl' hb Mb H' => ⟨28 + 1, xw_sf19 (μ := n) N OK hb hl ?_ 28 0 y F _ fa hp' pl' rfl H' hF (hq_take hI) (by omega)⟩))
      intro z' F' M' fa' hp'' pl'' a b c d
      exact ih z' F' M' fa' hp'' pl'' a b c d
theorem xw_search {post : SX → Prop} {s : Nat} (N : nx_I th fr to ln xP aFr aTo aLe) (OK : nt_ok th fr to ln) (hs : s < 12)
    (K : ∀ xZ fa se hp pl, ar_I 12 fa (gd_d (nt_R th fr to ln) s) → post (xP, xZ, aFr, aTo, aLe, aRd, aFd, aKp, fa, se, aFb, aSb, hp, pl, aEg, aRk, aTH, aFH, aLm, aFM, aTM, aFl, aBo, aAc)) : wpX_searchFrom post (xP, xZ, aFr, aTo, aLe, aRd, aFd, aKp, aFa, aSe, aFb, aSb, aHp, aPl, aEg, aRk, aTH, aFH, aLm, aFM, aTM, aFl, aBo, aAc) (nI s) := by
  refine xw_start hs (fun fa se hp pl hF H => ⟨_, xw_sf5 (D := gd_d (nt_R th fr to ln) s) (s := s) N OK (fun k hk ht => nt_st OK (gd_self _ s) hk ht) ?_ _ 1 (dj_in s) _ fa hp pl H hF (hq_0 (gd_ss _ s) (fun v hv => gd_le _ s hv)) (Nat.lt_succ_self _)⟩)
  intro z F fa' hp' pl' hF' f0 fK fl fc
  exact K z fa' se hp' pl' (ar_ext hF' (fun v hv => gd_eq (nt_fe f0 fK fc) fl v hv))
end
end
section
/-! searches over the table of roads -/
def dj_M (n : Nat) (S : Nat → Prop) (F : Nat → Nat) (r : Int32) : Prop :=
  (r = -1 ∧ ∀ p, p < n → ¬ S p → 1000000 ≤ F p) ∨ ∃ u, u < n ∧ r = nI u ∧ ¬ S u ∧ F u < 1000000 ∧ ∀ p, p < n → ¬ S p → F u ≤ F p
theorem dj_Mk {n : Nat} {S : Nat → Prop} {F : Nat → Nat} {r : Int32} (h : dj_M n S F r) (hk : ¬ S n → 1000000 ≤ F n) : dj_M (n + 1) S F r := by
  rcases h with ⟨a, b⟩ | ⟨u, a, b, c, d, e⟩
  · refine Or.inl ⟨a, fun p hp hS => ?_⟩
    rcases Nat.lt_or_ge p n with z | z
    · exact b p z hS
    · have ep : p = n := by omega
      rw [ep] at hS ⊢; exact hk hS
  · refine Or.inr ⟨u, by omega, b, c, d, fun p hp hS => ?_⟩
    rcases Nat.lt_or_ge p n with z | z
    · exact e p z hS
    · have ep : p = n := by omega
      rw [ep] at hS ⊢; have := hk hS; omega
theorem dj_Ml {n u : Nat} {S : Nat → Prop} {F : Nat → Nat} (hu : u < n) (c : ¬ S u) (d : F u < 1000000) (e : ∀ p, p < n → ¬ S p → F u ≤ F p) (hk : F u ≤ F n) : dj_M (n + 1) S F (nI u) := by
  refine Or.inr ⟨u, by omega, rfl, c, d, fun p hp hS => ?_⟩
  rcases Nat.lt_or_ge p n with z | z
  · exact e p z hS
  · have ep : p = n := by omega
    rw [ep]; exact hk
theorem dj_Mn {n : Nat} {S : Nat → Prop} {F : Nat → Nat} (c : ¬ S n) (d : F n < 1000000) (e : ∀ p, p < n → ¬ S p → F n ≤ F p) : dj_M (n + 1) S F (nI n) := by
  refine Or.inr ⟨n, by omega, rfl, c, d, fun p hp hS => ?_⟩
  rcases Nat.lt_or_ge p n with z | z
  · exact e p z hS
  · have ep : p = n := by omega
    rw [ep]; omega
theorem dj_ru (W : Nat → Nat → Nat) (u i : Nat) (F : Nat → Nat) : ar_mx i (dj_rx W u F) F u = F u := by
  unfold ar_mx dj_rx
  split <;> omega
section
variable {xP xZ : Int32} {aFr aTo aLe aRd aFd aKp aFa aSe aFb aSb aHp aPl aEg aRk aTH aFH aLm aFM aTM aFl aBo aAc : Nat → Int32}
variable {F B : Nat → Nat} {S Z : Nat → Prop} {R : Nat → Nat → Nat}
theorem xw_s41 {post : SX → Prop} {J : Int32 → (Nat → Int32) → (Nat → Int32) → (Nat → Int32) → (Nat → Int32) → (Nat → Int32) → (Nat → Int32) → (Nat → Int32) → (Nat → Int32) → (Nat → Int32) → (Nat → Int32) → (Nat → Int32) → (Nat → Int32) → (Nat → Int32) → (Nat → Int32) → (Nat → Int32) → (Nat → Int32) → (Nat → Int32) → (Nat → Int32) → (Nat → Int32) → (Nat → Int32) → (Nat → Int32) → (Nat → Int32) → Prop} {x1 x2 : Int32} {i : Nat} {b : Int32} (hi : i < 12) (K : J (nI (i + 1)) aFr aTo aLe aRd aFd aKp aFa (upd aSe i 0) (upd aFb i b) (upd aSb i 0) aHp aPl aEg aRk aTH aFH aLm aFM aTM aFl aBo aAc) : wX_startBoth_41 post J x1 x2 (nI i) b (nI i) xP xZ aFr aTo aLe aRd aFd aKp aFa aSe aFb aSb aHp aPl aEg aRk aTH aFH aLm aFM aTM aFl aBo aAc := by
  unfold wX_startBoth_41
  exact ⟨ar_n hi, nm_r (ar_u (by omega) _ _) ⟨ar_n hi, nm_r (ar_u (by omega) _ _) ⟨ar_n hi, nm_r (ar_u (by omega) _ _) (nm_r (nI_1 i) K)⟩⟩⟩
theorem xw_s24 {post : SX → Prop} {J : Int32 → (Nat → Int32) → (Nat → Int32) → (Nat → Int32) → (Nat → Int32) → (Nat → Int32) → (Nat → Int32) → (Nat → Int32) → (Nat → Int32) → (Nat → Int32) → (Nat → Int32) → (Nat → Int32) → (Nat → Int32) → (Nat → Int32) → (Nat → Int32) → (Nat → Int32) → (Nat → Int32) → (Nat → Int32) → (Nat → Int32) → (Nat → Int32) → (Nat → Int32) → (Nat → Int32) → (Nat → Int32) → Prop} {x1 : Int32} {i t : Nat} {a : Int32} (hi : i < 12) (ht : t < 12) (K : J (nI (i + 1)) aFr aTo aLe aRd aFd aKp (upd aFa i a) (upd aSe i 0) (upd aFb i (nI (dj_in t i))) (upd aSb i 0) aHp aPl aEg aRk aTH aFH aLm aFM aTM aFl aBo aAc) : wX_startBoth_24 post J x1 (nI t) (nI i) a (nI i) xP xZ aFr aTo aLe aRd aFd aKp aFa aSe aFb aSb aHp aPl aEg aRk aTH aFH aLm aFM aTM aFl aBo aAc := by
  unfold wX_startBoth_24
  refine ⟨ar_n hi, nm_r (ar_u (by omega) _ _) (br_eq (a := i) (b := t) rfl rfl (by omega) (by omega) (fun e => ?_) (fun e => ?_))⟩
  · have h : dj_in t i = 0 := if_pos e
    rw [h] at K
    exact xw_s41 hi K
  · have h : dj_in t i = 1000000 := if_neg e
    rw [h] at K
    exact xw_s41 hi K
theorem xw_both {post : SX → Prop} {s t : Nat} (hs : s < 12) (ht : t < 12) (K : ∀ fa se fb sb, ar_I 12 fa (dj_in s) → ar_S se (fun _ => False) → ar_I 12 fb (dj_in t) → ar_S sb (fun _ => False) → post (xP, xZ, aFr, aTo, aLe, aRd, aFd, aKp, fa, se, fb, sb, aHp, aPl, aEg, aRk, aTH, aFH, aLm, aFM, aTM, aFl, aBo, aAc)) : wpX_startBoth post (xP, xZ, aFr, aTo, aLe, aRd, aFd, aKp, aFa, aSe, aFb, aSb, aHp, aPl, aEg, aRk, aTH, aFH, aLm, aFM, aTM, aFl, aBo, aAc) (nI s) (nI t) := by
  have l : ∀ (d i : Nat) (fa se fb sb : Nat → Int32), i + d = 12 → (∀ j, j < i → (fa j = nI (dj_in s j) ∧ fb j = nI (dj_in t j)) ∧ se j = 0 ∧ sb j = 0) → wX_startBoth_2 post (nI s) (nI t) xP xZ (d + 1) (nI i) aFr aTo aLe aRd aFd aKp fa se fb sb aHp aPl aEg aRk aTH aFH aLm aFM aTM aFl aBo aAc := by
    intro d
    induction d with
    | zero =>
      intro i fa se fb sb hi h
      have e : i = 12 := by omega
      subst e
      exact br_t (by decide) (K fa se fb sb (fun j hj => (h j hj).1.1) (fun j hj => ⟨fun _ q => q, fun _ => (h j hj).2.1⟩) (fun j hj => (h j hj).1.2) (fun j hj => ⟨fun _ q => q, fun _ => (h j hj).2.2⟩))
    | succ d ih =>
      intro i fa se fb sb hid h
      have hi : i < 12 := by omega
      have nx : ∀ a, a = nI (dj_in s i) → wX_startBoth_24 post (wX_startBoth_2 post (nI s) (nI t) xP xZ (d + 1)) (nI s) (nI t) (nI i) a (nI i) xP xZ aFr aTo aLe aRd aFd aKp fa se fb sb aHp aPl aEg aRk aTH aFH aLm aFM aTM aFl aBo aAc := by
        intro a ha
        refine xw_s24 hi ht (ih (i + 1) _ _ _ _ (by omega) (fun j hj => ?_))
        by_cases e : j = i
        · rw [e, pk_us, pk_us, pk_us, pk_us]; exact ⟨⟨ha, rfl⟩, rfl, rfl⟩
        · rw [pk_un e, pk_un e, pk_un e, pk_un e]; exact h j (by omega)
      refine br_f (nI_ge (b := 12) hi (by decide)) (br_eq (a := i) (b := s) rfl rfl (by omega) (by omega) (fun e => nx _ ?_) (fun e => nx _ ?_))
      · unfold dj_in; rw [if_pos e]; rfl
      · unfold dj_in; rw [if_neg e]; rfl
  exact ⟨12 + 1, l 12 0 aFa aSe aFb aSb rfl (fun j h => by omega)⟩
theorem xw_nof {post : Int32 → Prop} (hF : ar_I 12 aFa F) (hS : ar_S aSe S) (hK : ∀ v, v < 12 → F v ≤ 1000000) (K : ∀ r, dj_N S F r → post r) : wpX_nearestOpen post (xP, xZ, aFr, aTo, aLe, aRd, aFd, aKp, aFa, aSe, aFb, aSb, aHp, aPl, aEg, aRk, aTH, aFH, aLm, aFM, aTM, aFl, aBo, aAc) := by
  have l : ∀ (d i : Nat) (r : Int32), i + d = 12 → dj_M i S F r → wX_nearestOpen_4 post xP xZ aFr aTo aLe aRd aFd aKp aFa aSe aFb aSb aHp aPl aEg aRk aTH aFH aLm aFM aTM aFl aBo aAc (d + 1) r (nI i) := by
    intro d
    induction d with
    | zero =>
      intro i r hi h
      have e : i = 12 := by omega
      subst e
      exact br_t (by decide) (K r h)
    | succ d ih =>
      intro i r hid h
      have hi : i < 12 := by omega
      have bi := hK i hi
      rcases Classical.em (S i) with q | q
      · exact br_f (nI_ge (b := 12) hi (by decide)) ⟨ar_n hi, br_f (ar_S1 hS hi q) (nm_r (nI_1 i) (ih (i + 1) r (by omega) (dj_Mk h (fun z => absurd q z))))⟩
      · refine br_f (nI_ge (b := 12) hi (by decide)) ⟨ar_n hi, br_t (ar_S0 hS hi q) ⟨ar_n hi, br_le (a := 1000000) rfl (ar_r hF hi) (by omega) (by omega) (fun hf => nm_r (nI_1 i) (ih (i + 1) r (by omega) (dj_Mk h (fun _ => hf)))) (fun hf => ?_)⟩⟩
        rcases h with ⟨a, b⟩ | ⟨u, a, b, c, d', e⟩
        · exact br_t (by rw [a]; decide) (nm_r (nI_1 i) (ih (i + 1) _ (by omega) (dj_Mn q hf (fun p hp hS' => by have := b p hp hS'; omega))))
        · rw [b]
          have hu12 : u < 12 := by omega
          refine br_f (br_0 (by omega)) ⟨ar_n hi, ar_n hu12, br_le (ar_r hF hu12) (ar_r hF hi) (by omega) (by omega) (fun hle => nm_r (nI_1 i) (ih (i + 1) _ (by omega) (dj_Ml a c d' e hle))) (fun hlt => nm_r (nI_1 i) (ih (i + 1) _ (by omega) (dj_Mn q hf (fun p hp hS' => by have := e p hp hS'; omega))))⟩
  exact ⟨12 + 1, l 12 0 (-1) rfl (Or.inl ⟨rfl, fun p h => by omega⟩)⟩
theorem xw_stf {post : SX → Prop} {u : Nat} (hu : u < 12) (hF : ar_I 12 aFa F) (hS : ar_S aSe S) (hK : ∀ v, v < 12 → F v ≤ 1000000) (hR : ar_2 12 aRd R) (bR : ∀ a b, R a b ≤ 1000000)
    (K : ∀ fa se, ar_I 12 fa (dj_rx R u F) → ar_S se (fun j => S j ∨ j = u) → post (xP, xZ, aFr, aTo, aLe, aRd, aFd, aKp, fa, se, aFb, aSb, aHp, aPl, aEg, aRk, aTH, aFH, aLm, aFM, aTM, aFl, aBo, aAc)) : wpX_settleForwards post (xP, xZ, aFr, aTo, aLe, aRd, aFd, aKp, aFa, aSe, aFb, aSb, aHp, aPl, aEg, aRk, aTH, aFH, aLm, aFM, aTM, aFl, aBo, aAc) (nI u) := by
  have bu := hK u hu
  have l : ∀ (d i : Nat) (fa se : Nat → Int32), i + d = 12 → ar_S se (fun j => S j ∨ j = u) → ar_I 12 fa (ar_mx i (dj_rx R u F) F) → wX_settleForwards_9 post (nI u) xP xZ (d + 1) (nI i) aFr aTo aLe aRd aFd aKp fa se aFb aSb aHp aPl aEg aRk aTH aFH aLm aFM aTM aFl aBo aAc := by
    intro d
    induction d with
    | zero =>
      intro i fa se hi h2 h
      have e : i = 12 := by omega
      subst e
      exact br_t (by decide) (K fa se (ar_mn h) h2)
    | succ d ih =>
      intro i fa se hid h2 h
      have hi : i < 12 := by omega
      have bi := hK i hi
      have bw : (R) u i ≤ 1000000 := bR _ _
      have e1 : fa (nI u).toNatClampNeg = nI (F u) := by rw [ar_r h hu, dj_ru]
      have e2 : fa (nI i).toNatClampNeg = nI (F i) := by rw [ar_r h hi, ar_mi]
      refine br_f (nI_ge (b := 12) hi (by decide)) ⟨ar_n hu, ar_n2 (n := 12) hu hi, nm_r (e' := nI (F u + (R) u i)) (by rw [e1, ar_r2 hR hu hi, nI_add]) ⟨ar_n hi, br_le e2 rfl (by omega) (by omega) (fun hle => ⟨ar_n hi, ar_n hi, nm_r (ar_us (by omega) fa) (nm_r (nI_1 i) (ih (i + 1) fa se (by omega) h2 (ar_mk h ?_)))⟩) (fun hlt => ⟨ar_n hi, nm_r (ar_u (by omega) fa _) (nm_r (nI_1 i) (ih (i + 1) _ se (by omega) h2 (ar_ms h ?_)))⟩)⟩⟩
      · show min (F i) (F u + (R) u i) = F i
        omega
      · refine congrArg nI ?_
        show F u + (R) u i = min (F i) (F u + (R) u i)
        omega
  exact And.intro (ar_n hu) (nm_e ⟨12 + 1, l 12 0 aFa _ rfl (ar_Su hS hu) (ar_m0 hF)⟩)
theorem xw_nob {post : Int32 → Prop} (hF : ar_I 12 aFb F) (hS : ar_S aSb S) (hK : ∀ v, v < 12 → F v ≤ 1000000) (K : ∀ r, dj_N S F r → post r) : wpX_nearestOpenBack post (xP, xZ, aFr, aTo, aLe, aRd, aFd, aKp, aFa, aSe, aFb, aSb, aHp, aPl, aEg, aRk, aTH, aFH, aLm, aFM, aTM, aFl, aBo, aAc) := by
  have l : ∀ (d i : Nat) (r : Int32), i + d = 12 → dj_M i S F r → wX_nearestOpenBack_4 post xP xZ aFr aTo aLe aRd aFd aKp aFa aSe aFb aSb aHp aPl aEg aRk aTH aFH aLm aFM aTM aFl aBo aAc (d + 1) r (nI i) := by
    intro d
    induction d with
    | zero =>
      intro i r hi h
      have e : i = 12 := by omega
      subst e
      exact br_t (by decide) (K r h)
    | succ d ih =>
      intro i r hid h
      have hi : i < 12 := by omega
      have bi := hK i hi
      rcases Classical.em (S i) with q | q
      · exact br_f (nI_ge (b := 12) hi (by decide)) ⟨ar_n hi, br_f (ar_S1 hS hi q) (nm_r (nI_1 i) (ih (i + 1) r (by omega) (dj_Mk h (fun z => absurd q z))))⟩
      · refine br_f (nI_ge (b := 12) hi (by decide)) ⟨ar_n hi, br_t (ar_S0 hS hi q) ⟨ar_n hi, br_le (a := 1000000) rfl (ar_r hF hi) (by omega) (by omega) (fun hf => nm_r (nI_1 i) (ih (i + 1) r (by omega) (dj_Mk h (fun _ => hf)))) (fun hf => ?_)⟩⟩
        rcases h with ⟨a, b⟩ | ⟨u, a, b, c, d', e⟩
        · exact br_t (by rw [a]; decide) (nm_r (nI_1 i) (ih (i + 1) _ (by omega) (dj_Mn q hf (fun p hp hS' => by have := b p hp hS'; omega))))
        · rw [b]
          have hu12 : u < 12 := by omega
          refine br_f (br_0 (by omega)) ⟨ar_n hi, ar_n hu12, br_le (ar_r hF hu12) (ar_r hF hi) (by omega) (by omega) (fun hle => nm_r (nI_1 i) (ih (i + 1) _ (by omega) (dj_Ml a c d' e hle))) (fun hlt => nm_r (nI_1 i) (ih (i + 1) _ (by omega) (dj_Mn q hf (fun p hp hS' => by have := e p hp hS'; omega))))⟩
  exact ⟨12 + 1, l 12 0 (-1) rfl (Or.inl ⟨rfl, fun p h => by omega⟩)⟩
theorem xw_stb {post : SX → Prop} {u : Nat} (hu : u < 12) (hF : ar_I 12 aFb F) (hS : ar_S aSb S) (hK : ∀ v, v < 12 → F v ≤ 1000000) (hR : ar_2 12 aRd R) (bR : ∀ a b, R a b ≤ 1000000)
    (K : ∀ fa se, ar_I 12 fa (dj_rx (fun a b => R b a) u F) → ar_S se (fun j => S j ∨ j = u) → post (xP, xZ, aFr, aTo, aLe, aRd, aFd, aKp, aFa, aSe, fa, se, aHp, aPl, aEg, aRk, aTH, aFH, aLm, aFM, aTM, aFl, aBo, aAc)) : wpX_settleBackwards post (xP, xZ, aFr, aTo, aLe, aRd, aFd, aKp, aFa, aSe, aFb, aSb, aHp, aPl, aEg, aRk, aTH, aFH, aLm, aFM, aTM, aFl, aBo, aAc) (nI u) := by
  have bu := hK u hu
  have l : ∀ (d i : Nat) (fa se : Nat → Int32), i + d = 12 → ar_S se (fun j => S j ∨ j = u) → ar_I 12 fa (ar_mx i (dj_rx (fun a b => R b a) u F) F) → wX_settleBackwards_9 post (nI u) xP xZ (d + 1) (nI i) aFr aTo aLe aRd aFd aKp aFa aSe fa se aHp aPl aEg aRk aTH aFH aLm aFM aTM aFl aBo aAc := by
    intro d
    induction d with
    | zero =>
      intro i fa se hi h2 h
      have e : i = 12 := by omega
      subst e
      exact br_t (by decide) (K fa se (ar_mn h) h2)
    | succ d ih =>
      intro i fa se hid h2 h
      have hi : i < 12 := by omega
      have bi := hK i hi
      have bw : ((fun a b => R b a)) u i ≤ 1000000 := bR _ _
      have e1 : fa (nI u).toNatClampNeg = nI (F u) := by rw [ar_r h hu, dj_ru]
      have e2 : fa (nI i).toNatClampNeg = nI (F i) := by rw [ar_r h hi, ar_mi]
      refine br_f (nI_ge (b := 12) hi (by decide)) ⟨ar_n hu, ar_n2 (n := 12) hi hu, nm_r (e' := nI (F u + ((fun a b => R b a)) u i)) (by rw [e1, ar_r2 hR hi hu, nI_add]) ⟨ar_n hi, br_le e2 rfl (by omega) (by omega) (fun hle => ⟨ar_n hi, ar_n hi, nm_r (ar_us (by omega) fa) (nm_r (nI_1 i) (ih (i + 1) fa se (by omega) h2 (ar_mk h ?_)))⟩) (fun hlt => ⟨ar_n hi, nm_r (ar_u (by omega) fa _) (nm_r (nI_1 i) (ih (i + 1) _ se (by omega) h2 (ar_ms h ?_)))⟩)⟩⟩
      · show min (F i) (F u + ((fun a b => R b a)) u i) = F i
        omega
      · refine congrArg nI ?_
        show F u + ((fun a b => R b a)) u i = min (F i) (F u + ((fun a b => R b a)) u i)
        omega
  exact And.intro (ar_n hu) (nm_e ⟨12 + 1, l 12 0 aFb _ rfl (ar_Su hS hu) (ar_m0 hF)⟩)
theorem xw_meet {post : Int32 → Prop} (hF : ar_I 12 aFa F) (hB : ar_I 12 aFb B) (fK : ∀ v, v < 12 → F v ≤ 1000000) (bK : ∀ v, v < 12 → B v ≤ 1000000) (K : post (nI (mk_m (fun p => F p + B p) 12))) : wpX_shortestMeeting post (xP, xZ, aFr, aTo, aLe, aRd, aFd, aKp, aFa, aSe, aFb, aSb, aHp, aPl, aEg, aRk, aTH, aFH, aLm, aFM, aTM, aFl, aBo, aAc) := by
  have l : ∀ (d i : Nat), i + d = 12 → wX_shortestMeeting_5 post xP xZ aFr aTo aLe aRd aFd aKp aFa aSe aFb aSb aHp aPl aEg aRk aTH aFH aLm aFM aTM aFl aBo aAc (d + 1) (nI (mk_m (fun p => F p + B p) i)) (nI i) := by
    intro d
    induction d with
    | zero =>
      intro i hi
      have e : i = 12 := by omega
      subst e
      exact br_t (by decide) K
    | succ d ih =>
      intro i hid
      have hi : i < 12 := by omega
      have b1 := fK i hi
      have b2 := bK i hi
      have b3 := mk_K (fun p => F p + B p) i
      have g := ih (i + 1) (by omega)
      refine br_f (nI_ge (b := 12) hi (by decide)) ⟨ar_n hi, ar_n hi, nm_r (e' := nI (F i + B i)) (by rw [ar_r hF hi, ar_r hB hi, nI_add]) (br_le rfl rfl (by omega) (by omega) (fun h => nm_r (nI_1 i) ?_) (fun h => nm_r (nI_1 i) ?_))⟩
      · have e : mk_m (fun p => F p + B p) (i + 1) = mk_m (fun p => F p + B p) i := by
          show min (mk_m (fun p => F p + B p) i) (F i + B i) = _
          omega
        rw [e] at g; exact g
      · have e : mk_m (fun p => F p + B p) (i + 1) = F i + B i := by
          show min (mk_m (fun p => F p + B p) i) (F i + B i) = _
          omega
        rw [e] at g; exact g
  exact ⟨12 + 1, l 12 0 rfl⟩
end
end
section
/-! engine 1 -/
section
variable {xP xZ : Int32} {aFr aTo aLe aRd aFd aKp aFa aSe aFb aSb aHp aPl aEg aRk aTH aFH aLm aFM aTM aFl aBo aAc : Nat → Int32}
variable {R : Nat → Nat → Nat}
theorem xw_b14 {post : Int32 → SX → Prop} {s t : Nat} (hs : s < 12) (ht : t < 12) (hR : ar_2 12 aRd R) (bR : ∀ a b, R a b ≤ 1000000)
    (K : ∀ fa se fb sb, post (nI (gd_d R s t)) (xP, xZ, aFr, aTo, aLe, aRd, aFd, aKp, fa, se, fb, sb, aHp, aPl, aEg, aRk, aTH, aFH, aLm, aFM, aTM, aFl, aBo, aAc)) :
    ∀ (n : Nat) (F B : Nat → Nat) (S Z : Nat → Prop) (fa se fb sb : Nat → Int32), cn_c (fun j => ¬ S j) 12 + cn_c (fun j => ¬ Z j) 12 < n → ar_I 12 fa F → ar_S se S → ar_I 12 fb B → ar_S sb Z → dj_I R s S F → dj_I (fun a b => R b a) t Z B →
      wX_distanceFromBoth_14 post (n + 1) (nI (mk_m (fun p => F p + B p) 12)) 1 xP xZ aFr aTo aLe aRd aFd aKp fa se fb sb aHp aPl aEg aRk aTH aFH aLm aFM aTM aFl aBo aAc := by
  intro n
  induction n with
  | zero => intro F B S Z fa se fb sb h; omega
  | succ n ih =>
    intro F B S Z fa se fb sb hn hF hS hB hZ iF iB
    have fK := iF.2.1
    have bK := iB.2.1
    have hb := bi_mk F B
    have hlo := bi_lo hs ht iF iB hb
    have stop : ∀ r q : Int32, mk_m (fun p => F p + B p) 12 ≤ gd_d R s t → wX_distanceFromBoth_64 post (wX_distanceFromBoth_14 post (n + 1)) r q xP xZ aFr aTo aLe aRd aFd aKp fa se fb sb aHp aPl aEg aRk aTH aFH aLm aFM aTM aFl aBo aAc := by
      intro r q h
      unfold wX_distanceFromBoth_64 wX_distanceFromBoth_65 wX_distanceFromBoth_98 wX_distanceFromBoth_109
      refine br_t rfl (br_t rfl (xw_meet hF hB fK bK (br_t rfl ?_)))
      rw [show mk_m (fun p => F p + B p) 12 = gd_d R s t by omega]
      exact K fa se fb sb
    refine br_f (by decide) (xw_nof hF hS fK (fun r hr => xw_nob hB hZ bK (fun q hq => ?_)))
    rcases hr with ⟨r1, r2⟩ | ⟨u, u1, u2, u3, u4, u5⟩
    · exact br_t (by rw [r1]; decide) (stop _ _ (bi_F ht iF iB hb r2))
    · rw [u2]
      refine br_f (br_0 (by omega)) ?_
      rcases hq with ⟨q1, q2⟩ | ⟨v, v1, v2, v3, v4, v5⟩
      · exact br_t (by rw [q1]; decide) (stop _ _ (bi_Z hs ht iF iB hb q2))
      · rw [v2]
        have k1 := fK u u1
        have k2 := bK v v1
        have k3 := hb.1
        refine br_f (br_0 (by omega)) ⟨ar_n u1, ar_n v1, br_le rfl (by rw [ar_r hF u1, ar_r hB v1, nI_add]) (by omega) (by omega) (fun h => stop _ _ (bi_up hs ht iF iB hb u1 u3 u5 v1 v5 h)) (fun h => ?_)⟩
        unfold wX_distanceFromBoth_65
        refine br_f (by decide) ⟨ar_n u1, ar_n v1, br_lt (ar_r hB v1) (ar_r hF u1) (by omega) (by omega) (fun hlt => ?_) (fun hle => ?_)⟩
        · unfold wX_distanceFromBoth_98
          refine br_f (by decide) (xw_stb v1 hB hZ bK hR bR (fun fb' sb' hB' hZ' => ?_))
          have iB' := dj_up iB v1 v5 v3
          unfold wX_distanceFromBoth_109
          refine xw_meet hF hB' fK iB'.2.1 (ih F _ S _ fa se fb' sb' ?_ hF hS hB' hZ' iF iB')
          have := dj_cn (n := cn_c (fun j => ¬ Z j) 12) v1 v3 (Nat.lt_succ_self _)
          omega
        · refine xw_stf u1 hF hS fK hR bR (fun fa' se' hF' hS' => ?_)
          have iF' := dj_up iF u1 u5 u3
          unfold wX_distanceFromBoth_109
          refine xw_meet hF' hB iF'.2.1 bK (ih _ B _ Z fa' se' fb sb ?_ hF' hS' hB hZ iF' iB)
          have := dj_cn (n := cn_c (fun j => ¬ S j) 12) u1 u3 (Nat.lt_succ_self _)
          omega
theorem xw_eng1 {post : Int32 → SX → Prop} {s t : Nat} (hs : s < 12) (ht : t < 12) (hR : ar_2 12 aRd R) (bR : ∀ a b, R a b ≤ 1000000)
    (K : ∀ fa se fb sb, post (nI (gd_d R s t)) (xP, xZ, aFr, aTo, aLe, aRd, aFd, aKp, fa, se, fb, sb, aHp, aPl, aEg, aRk, aTH, aFH, aLm, aFM, aTM, aFl, aBo, aAc)) : wpX_distanceFromBoth post (xP, xZ, aFr, aTo, aLe, aRd, aFd, aKp, aFa, aSe, aFb, aSb, aHp, aPl, aEg, aRk, aTH, aFH, aLm, aFM, aTM, aFl, aBo, aAc) (nI s) (nI t) := by
  refine xw_both hs ht (fun fa se fb sb hF hS hB hZ => ?_)
  have iF := dj_0 R (s := s)
  have iB := dj_0 (fun a b => R b a) (s := t)
  exact xw_meet hF hB iF.2.1 iB.2.1 ⟨_, xw_b14 hs ht hR bR K _ _ _ _ _ fa se fb sb (Nat.lt_succ_self _) hF hS hB hZ iF iB⟩
end
end
section
/-! engine 2: the other way, and the shortcuts -/
def ot_I (L : Nat → Prop) (E : Nat → Nat → Nat) (u v : Nat) (S : Nat → Prop) (F : Nat → Nat) (r : Int32) : Prop :=
  F u = 0 ∧ (∀ q, q < 12 → F q ≤ 1000000) ∧ (∀ G, G u = 0 → ch_fe L E G → ∀ q, q < 12 → G q ≤ F q) ∧ (∀ q, q < 12 → ¬ S q → L q) ∧ dj_N S F r ∧ ((r = nI u ∧ ¬ S v) ∨ F v ≤ E u v)
noncomputable def ot_rx (E : Nat → Nat → Nat) (S : Nat → Prop) (p : Nat) (F : Nat → Nat) : Nat → Nat := fun q => @ite Nat (S q) (Classical.propDecidable _) (F q) (min (F q) (F p + E p q))
theorem ot_t {E : Nat → Nat → Nat} {S : Nat → Prop} {p q : Nat} {F : Nat → Nat} (h : S q) : ot_rx E S p F q = F q := by unfold ot_rx; rw [if_pos h]
theorem ot_f {E : Nat → Nat → Nat} {S : Nat → Prop} {p q : Nat} {F : Nat → Nat} (h : ¬ S q) : ot_rx E S p F q = min (F q) (F p + E p q) := by unfold ot_rx; rw [if_neg h]
theorem ot_mp {E : Nat → Nat → Nat} {S : Nat → Prop} {p i : Nat} {F : Nat → Nat} (h : S p) : ar_mx i (ot_rx E S p F) F p = F p := by
  unfold ar_mx
  rw [ot_t h]
  split <;> rfl
section
variable {xP xZ : Int32} {aFr aTo aLe aRd aFd aKp aFa aSe aFb aSb aHp aPl aEg aRk aTH aFH aLm aFM aTM aFl aBo aAc : Nat → Int32}
variable {E : Nat → Nat → Nat} {D : Nat → Bool} {F : Nat → Nat} {S : Nat → Prop}
theorem xw_left {post : Int32 → Prop} {p : Nat} (hp : p < 12) (f : D p = false → post 1) (g : D p = true → post 0) : wpX_isLeft post (xP, xZ, aFr, aTo, aLe, aRd, aFd, aKp, aFa, aSe, aFb, aSb, aHp, aPl, aEg, aRk, aTH, aFH, aLm, aFM, aTM, aFl, aBo, aAc) (nI p) (ob_f D 12) :=
  br_p (D p = false) (ob_tst (by omega) hp) f (fun h => g (by simpa using h))
theorem xw_o104 {post : Int32 → SX → Prop} {J : Int32 → (Nat → Int32) → (Nat → Int32) → (Nat → Int32) → (Nat → Int32) → (Nat → Int32) → (Nat → Int32) → (Nat → Int32) → (Nat → Int32) → (Nat → Int32) → (Nat → Int32) → (Nat → Int32) → (Nat → Int32) → (Nat → Int32) → (Nat → Int32) → (Nat → Int32) → (Nat → Int32) → (Nat → Int32) → (Nat → Int32) → (Nat → Int32) → (Nat → Int32) → (Nat → Int32) → (Nat → Int32) → Prop} {x2 x5 : Int32} {p : Nat} (hp : p < 12) (hE : ar_2 12 aEg E) (bE : ∀ a b, a < 12 → b < 12 → E a b ≤ 1000000) (hS : ar_S aSe S) (Sp : S p) (fK : ∀ v, v < 12 → F v ≤ 1000000)
    (K : ∀ fa, ar_I 12 fa (ot_rx E S p F) → wpX_nearestOpen (fun r => J r aFr aTo aLe aRd aFd aKp fa aSe aFb aSb aHp aPl aEg aRk aTH aFH aLm aFM aTM aFl aBo aAc) (xP, xZ, aFr, aTo, aLe, aRd, aFd, aKp, fa, aSe, aFb, aSb, aHp, aPl, aEg, aRk, aTH, aFH, aLm, aFM, aTM, aFl, aBo, aAc)) :
    ∀ (d i : Nat) (fa : Nat → Int32), i + d = 12 → ar_I 12 fa (ar_mx i (ot_rx E S p F) F) → wX_hasOther_104 post J x2 x5 (nI p) xP xZ (d + 1) (nI i) aFr aTo aLe aRd aFd aKp fa aSe aFb aSb aHp aPl aEg aRk aTH aFH aLm aFM aTM aFl aBo aAc := by
  intro d
  induction d with
  | zero =>
    intro i fa hi h
    have e : i = 12 := by omega
    subst e
    exact br_t (by decide) (K fa (ar_mn h))
  | succ d ih =>
    intro i fa hid h
    have hi : i < 12 := by omega
    have bi := fK i hi
    have bp := fK p hp
    have be := bE p i hp hi
    have e1 : fa (nI p).toNatClampNeg = nI (F p) := by rw [ar_r h hp, ot_mp Sp]
    have e2 : fa (nI i).toNatClampNeg = nI (F i) := by rw [ar_r h hi, ar_mi]
    refine br_f (nI_ge (b := 12) hi (by decide)) ⟨ar_n hp, ar_n2 (n := 12) hp hi, nm_r (e' := nI (F p + E p i)) (by rw [e1, ar_r2 hE hp hi, nI_add]) ⟨ar_n hi, ?_⟩⟩
    rcases Classical.em (S i) with q | q
    · exact br_f (ar_S1 hS hi q) ⟨ar_n hi, ar_n hi, nm_r (ar_us (by omega) fa) (nm_r (nI_1 i) (ih (i + 1) fa (by omega) (ar_mk h (ot_t q))))⟩
    · refine br_t (ar_S0 hS hi q) ⟨ar_n hi, br_le e2 rfl (by omega) (by omega) (fun hle => ⟨ar_n hi, ar_n hi, nm_r (ar_us (by omega) fa) (nm_r (nI_1 i) (ih (i + 1) fa (by omega) (ar_mk h ?_)))⟩) (fun hlt => ⟨ar_n hi, nm_r (ar_u (by omega) fa _) (nm_r (nI_1 i) (ih (i + 1) _ (by omega) (ar_ms h ?_)))⟩)⟩
      · rw [ot_f q]; omega
      · rw [ot_f q]; exact congrArg nI (by omega)
theorem xw_o190 {post : Int32 → SX → Prop} {L : Nat → Prop} {u v len : Nat} (hv : v < 12) (hlen : len ≤ 1000000) (hF : ar_I 12 aFa F) (fK : ∀ v, v < 12 → F v ≤ 1000000) (hE : F v ≤ E u v) (hG : ∀ G, G u = 0 → ch_fe L E G → ∀ q, q < 12 → G q ≤ F q)
    (K : ∀ r, (r = 0 → len < E u v) → (¬ r = 0 → ∀ G, G u = 0 → ch_fe L E G → G v ≤ len) → post r (xP, xZ, aFr, aTo, aLe, aRd, aFd, aKp, aFa, aSe, aFb, aSb, aHp, aPl, aEg, aRk, aTH, aFH, aLm, aFM, aTM, aFl, aBo, aAc)) : wX_hasOther_190 post (nI v) (nI len) xP xZ aFr aTo aLe aRd aFd aKp aFa aSe aFb aSb aHp aPl aEg aRk aTH aFH aLm aFM aTM aFl aBo aAc := by
  unfold wX_hasOther_190
  have bv := fK v hv
  refine ⟨ar_n hv, br_lt rfl (ar_r hF hv) (by omega) (by omega) (fun h => K 0 (fun _ => by omega) (fun z => absurd rfl z)) (fun h => K 1 (fun z => absurd z (by decide)) (fun _ G h0 hfe => ?_))⟩
  have := hG G h0 hfe v hv
  omega
theorem xw_o70 {post : Int32 → SX → Prop} {L : Nat → Prop} {u v len : Nat} (hu : u < 12) (hv : v < 12) (huv : u ≠ v) (hlen : len ≤ 1000000) (hE : ar_2 12 aEg E) (bE : ∀ a b, a < 12 → b < 12 → E a b ≤ 1000000)
    (K : ∀ r fa se, (r = 0 → len < E u v) → (¬ r = 0 → ∀ G, G u = 0 → ch_fe L E G → G v ≤ len) → post r (xP, xZ, aFr, aTo, aLe, aRd, aFd, aKp, fa, se, aFb, aSb, aHp, aPl, aEg, aRk, aTH, aFH, aLm, aFM, aTM, aFl, aBo, aAc)) :
    ∀ (n : Nat) (F : Nat → Nat) (S : Nat → Prop) (fa se : Nat → Int32) (r : Int32), cn_c (fun j => ¬ S j) 12 < n → ar_I 12 fa F → ar_S se S → ot_I L E u v S F r → wX_hasOther_70 post (nI v) (nI len) xP xZ n r aFr aTo aLe aRd aFd aKp fa se aFb aSb aHp aPl aEg aRk aTH aFH aLm aFM aTM aFl aBo aAc := by
  intro n
  induction n with
  | zero => intro F S fa se r h; omega
  | succ n ih =>
    intro F S fa se r hn hF hS ⟨i1, i2, i3, i4, i5, i6⟩
    have fin : F v ≤ E u v → wX_hasOther_190 post (nI v) (nI len) xP xZ aFr aTo aLe aRd aFd aKp fa se aFb aSb aHp aPl aEg aRk aTH aFH aLm aFM aTM aFl aBo aAc := fun h => xw_o190 hv hlen hF i2 h i3 (fun r a b => K r fa se a b)
    rcases i5 with ⟨r1, r2⟩ | ⟨p, p1, p2, p3, p4, p5⟩
    · refine br_t (by rw [r1]; decide) (fin ?_)
      rcases i6 with ⟨z, _⟩ | z
      · have : ¬ nI u < 0 := br_0 (by omega)
        rw [← z, r1] at this
        exact absurd (by decide) this
      · exact z
    · rw [p2] at i6 ⊢
      have bp := i2 p p1
      have eu : nI p = nI u → p = u := hp_ni (by omega) (by omega)
      refine br_f (br_0 (by omega)) ⟨ar_n p1, br_lt rfl (ar_r hF p1) (by omega) (by omega) (fun h => fin ?_) (fun h => br_eq (a := p) (b := v) rfl rfl (by omega) (by omega) (fun h => fin ?_) (fun hpv => ⟨ar_n p1, nm_e ⟨12 + 1, ?_⟩⟩))⟩
      · rcases i6 with ⟨z, _⟩ | z
        · rw [eu z, i1] at h; omega
        · exact z
      · rcases i6 with ⟨z, _⟩ | z
        · exact absurd ((eu z).symm.trans h) huv
        · exact z
      · have hS' := ar_Su hS p1
        refine xw_o104 p1 hE bE hS' (Or.inr rfl) i2 (fun fa' hF' => ?_) 12 0 fa rfl (ar_m0 hF)
        have g : ∀ q, ot_rx E (fun j => S j ∨ j = p) p F q ≤ F q := by
          intro q
          rcases Classical.em (S q ∨ q = p) with z | z
          · rw [ot_t z]; omega
          · rw [ot_f z]; omega
        have k2 : ∀ q, q < 12 → ot_rx E (fun j => S j ∨ j = p) p F q ≤ 1000000 := fun q hq => Nat.le_trans (g q) (i2 q hq)
        refine xw_nof hF' hS' k2 (fun r' hr' => ih _ _ fa' _ r' (dj_cn p1 p3 hn) hF' hS' ⟨?_, k2, fun G h0 hfe q hq => ?_, fun q hq nq => i4 q hq (fun z => nq (Or.inl z)), hr', Or.inr ?_⟩)
        · have := g u; omega
        · rcases Classical.em (S q ∨ q = p) with z | z
          · rw [ot_t z]; exact i3 G h0 hfe q hq
          · rw [ot_f z]
            have a := i3 G h0 hfe q hq
            have b := i3 G h0 hfe p p1
            have c := hfe.2 p q p1 hq (i4 p p1 p3) (i4 q hq (fun y => z (Or.inl y)))
            omega
        · rcases i6 with ⟨z, zs⟩ | z
          · have e := eu z
            rw [ot_f (fun y => y.elim zs (fun y => huv (e.symm.trans y.symm))), e, i1]
            omega
          · have := g v; omega
theorem xw_o3 {post : Int32 → SX → Prop} {J : Int32 → (Nat → Int32) → (Nat → Int32) → (Nat → Int32) → (Nat → Int32) → (Nat → Int32) → (Nat → Int32) → (Nat → Int32) → (Nat → Int32) → (Nat → Int32) → (Nat → Int32) → (Nat → Int32) → (Nat → Int32) → (Nat → Int32) → (Nat → Int32) → (Nat → Int32) → (Nat → Int32) → (Nat → Int32) → (Nat → Int32) → (Nat → Int32) → (Nat → Int32) → (Nat → Int32) → (Nat → Int32) → Prop} {x1 x2 x5 a : Int32} {x i : Nat} (hi : i < 12) (hx : x < 12)
    (K : ∀ se, (∀ j, j ≠ i → se j = aSe j) → (se i = 0 ↔ (D i = false ∧ i ≠ x)) → J (nI (i + 1)) aFr aTo aLe aRd aFd aKp (upd aFa i a) se aFb aSb aHp aPl aEg aRk aTH aFH aLm aFM aTM aFl aBo aAc) : wX_hasOther_28 post J x1 x2 (nI x) (ob_f D 12) x5 (nI i) a (nI i) xP xZ aFr aTo aLe aRd aFd aKp aFa aSe aFb aSb aHp aPl aEg aRk aTH aFH aLm aFM aTM aFl aBo aAc := by
  unfold wX_hasOther_28
  have nx : ∀ b : Int32, (b = 0 ↔ (D i = false ∧ i ≠ x)) → J (nI (i + 1)) aFr aTo aLe aRd aFd aKp (upd aFa i a) (upd aSe i b) aFb aSb aHp aPl aEg aRk aTH aFH aLm aFM aTM aFl aBo aAc := fun b hb => K _ (fun j hj => pk_un hj) (by rw [pk_us]; exact hb)
  refine ⟨ar_n hi, nm_r (ar_u (by omega) _ _) (xw_left hi (fun h => br_f (by decide) (br_eq (a := i) (b := x) rfl rfl (by omega) (by omega) (fun e => ⟨ar_n hi, nm_r (ar_u (by omega) _ _) (nm_r (nI_1 i) (nx _ ?_))⟩) (fun e => ⟨ar_n hi, nm_r (ar_u (by omega) _ _) (nm_r (nI_1 i) (nx _ ?_))⟩))) (fun h => br_t rfl ⟨ar_n hi, nm_r (ar_u (by omega) _ _) (nm_r (nI_1 i) (nx _ ?_))⟩))⟩
  · exact ⟨fun z => absurd z (by decide), fun z => absurd e z.2⟩
  · exact ⟨fun _ => ⟨h, e⟩, fun _ => rfl⟩
  · exact ⟨fun z => absurd z (by decide), fun z => by rw [h] at z; exact absurd z.1 (by decide)⟩
theorem xw_other {post : Int32 → SX → Prop} {u v x len : Nat} (hu : u < 12) (hv : v < 12) (hx : x < 12) (huv : u ≠ v) (Lu : D u = false ∧ u ≠ x) (Lv : D v = false ∧ v ≠ x) (hlen : len ≤ 1000000) (hE : ar_2 12 aEg E) (bE : ∀ a b, a < 12 → b < 12 → E a b ≤ 1000000)
    (K : ∀ r fa se, (r = 0 → len < E u v) → (¬ r = 0 → ∀ G, G u = 0 → ch_fe (fun j => D j = false ∧ j ≠ x) E G → G v ≤ len) → post r (xP, xZ, aFr, aTo, aLe, aRd, aFd, aKp, fa, se, aFb, aSb, aHp, aPl, aEg, aRk, aTH, aFH, aLm, aFM, aTM, aFl, aBo, aAc)) : wpX_hasOther post (xP, xZ, aFr, aTo, aLe, aRd, aFd, aKp, aFa, aSe, aFb, aSb, aHp, aPl, aEg, aRk, aTH, aFH, aLm, aFM, aTM, aFl, aBo, aAc) (nI u) (nI v) (nI x) (ob_f D 12) (nI len) := by
  have l : ∀ (d i : Nat) (fa se : Nat → Int32), i + d = 12 → (∀ j, j < i → fa j = nI (dj_in u j) ∧ (se j = 0 ↔ (D j = false ∧ j ≠ x))) → wX_hasOther_3 post (nI u) (nI v) (nI x) (ob_f D 12) (nI len) xP xZ (d + 1) (nI i) aFr aTo aLe aRd aFd aKp fa se aFb aSb aHp aPl aEg aRk aTH aFH aLm aFM aTM aFl aBo aAc := by
    intro d
    induction d with
    | zero =>
      intro i fa se hi h
      have e : i = 12 := by omega
      subst e
      have hF : ar_I 12 fa (dj_in u) := fun j hj => (h j hj).1
      have hS : ar_S se (fun j => ¬ (D j = false ∧ j ≠ x)) := fun j hj => ⟨fun z q => q ((h j hj).2.mp z), fun z => (h j hj).2.mpr (Classical.byContradiction z)⟩
      have k2 : ∀ q, q < 12 → dj_in u q ≤ 1000000 := fun q _ => by unfold dj_in; split <;> omega
      refine br_t (by decide) (xw_nof hF hS k2 (fun r hr => ⟨_, xw_o70 hu hv huv hlen hE bE K _ (dj_in u) _ fa se r (Nat.lt_succ_self _) hF hS ⟨if_pos rfl, k2, fun G h0 hfe q hq => ?_, fun q _ nq => Classical.byContradiction nq, hr, Or.inl ⟨?_, fun z => z Lv⟩⟩⟩))
      · unfold dj_in
        by_cases e : q = u
        · rw [if_pos e, e, h0]; omega
        · rw [if_neg e]; exact hfe.1 q hq
      · rcases hr with ⟨r1, r2⟩ | ⟨p, p1, p2, p3, p4, p5⟩
        · have a := r2 u hu (fun z => z Lu)
          have b : dj_in u u = 0 := if_pos rfl
          omega
        · rw [p2]
          have : p = u := by
            rcases Nat.decEq p u with z | z
            · have b : dj_in u p = 1000000 := if_neg z
              omega
            · exact z
          rw [this]
    | succ d ih =>
      intro i fa se hid h
      have hi : i < 12 := by omega
      have nx : ∀ a, a = nI (dj_in u i) → wX_hasOther_28 post (wX_hasOther_3 post (nI u) (nI v) (nI x) (ob_f D 12) (nI len) xP xZ (d + 1)) (nI u) (nI v) (nI x) (ob_f D 12) (nI len) (nI i) a (nI i) xP xZ aFr aTo aLe aRd aFd aKp fa se aFb aSb aHp aPl aEg aRk aTH aFH aLm aFM aTM aFl aBo aAc := by
        intro a ha
        refine xw_o3 hi hx (fun se' h1 h2 => ih (i + 1) _ se' (by omega) (fun j hj => ?_))
        by_cases e : j = i
        · rw [e, pk_us]; exact ⟨ha, h2⟩
        · rw [pk_un e, h1 j e]; exact h j (by omega)
      refine br_f (nI_ge (b := 12) hi (by decide)) (br_eq (a := i) (b := u) rfl rfl (by omega) (by omega) (fun e => nx _ ?_) (fun e => nx _ ?_))
      · unfold dj_in; rw [if_pos e]; rfl
      · unfold dj_in; rw [if_neg e]; rfl
  exact ⟨12 + 1, l 12 0 aFa aSe rfl (fun j h => by omega)⟩
end
end
section
/-! engine 2: shortcuts for a point, the hierarchy -/
def up_2 (E : Nat → Nat → Nat) (u v w : Nat) : Nat → Nat → Nat := fun a b => if a = u ∧ b = v then w else E a b
theorem up_ar {e : Nat → Int32} {E : Nat → Nat → Nat} {u v w : Nat} (h : ar_2 12 e E) (hu : u < 12) (hv : v < 12) : ar_2 12 (upd e (u * 12 + v) (nI w)) (up_2 E u v w) := by
  intro a b ha hb
  unfold up_2
  by_cases q : a = u ∧ b = v
  · rw [if_pos q, q.1, q.2, pk_us]
  · rw [if_neg q, pk_un (by omega)]; exact h a b ha hb
/-- what one pair does to the edges -/
def sq_H (D : Nat → Bool) (x : Nat) (lays : Bool) (Q : Nat → Nat → (Nat → Nat → Nat) → Prop) : Prop :=
  (∀ u v E, u < 12 → v < 12 → Q u v E → ¬ (u ≠ v ∧ (D u = false ∧ u ≠ x) ∧ (D v = false ∧ v ≠ x)) → Q u (v + 1) E) ∧
  (∀ u E, Q u 12 E → Q (u + 1) 0 E) ∧
  (∀ u v E, u < 12 → v < 12 → Q u v E → (u ≠ v ∧ (D u = false ∧ u ≠ x) ∧ (D v = false ∧ v ≠ x)) → (1000000 ≤ E u x + E x v ∨ ∀ G, G u = 0 → ch_fe (fun j => D j = false ∧ j ≠ x) E G → G v ≤ E u x + E x v) → Q u (v + 1) E) ∧
  (∀ u v E, u < 12 → v < 12 → Q u v E → (u ≠ v ∧ (D u = false ∧ u ≠ x) ∧ (D v = false ∧ v ≠ x)) → E u x + E x v < E u v → E u x + E x v < 1000000 → Q u (v + 1) (if lays = true then up_2 E u v (E u x + E x v) else E))
section
variable {xP xZ : Int32} {aFr aTo aLe aRd aFd aKp aFa aSe aFb aSb aHp aPl aEg aRk aTH aFH aLm aFM aTM aFl aBo aAc : Nat → Int32}
variable {R E : Nat → Nat → Nat} {D : Nat → Bool} {lays : Bool} {Q : Nat → Nat → (Nat → Nat → Nat) → Prop}
theorem xw_c67 {post : Int32 → SX → Prop} {J6 J16 : Int32 → Int32 → Int32 → Int32 → (Nat → Int32) → (Nat → Int32) → (Nat → Int32) → (Nat → Int32) → (Nat → Int32) → (Nat → Int32) → (Nat → Int32) → (Nat → Int32) → (Nat → Int32) → (Nat → Int32) → (Nat → Int32) → (Nat → Int32) → (Nat → Int32) → (Nat → Int32) → (Nat → Int32) → (Nat → Int32) → (Nat → Int32) → (Nat → Int32) → (Nat → Int32) → (Nat → Int32) → (Nat → Int32) → (Nat → Int32) → Prop} {x u v : Nat} {x3 m z0 : Int32} (hx : x < 12) (hu : u < 12) (hv : v < 12) (hl : x3 = if lays = true then 1 else 0) (hQ : sq_H D x lays Q) (q : Q u v E) (hE : ar_2 12 aEg E) (bE : ∀ a b, a < 12 → b < 12 → E a b ≤ 1000000)
    (hz : (z0 = 0 ∧ ¬ (u ≠ v ∧ (D u = false ∧ u ≠ x) ∧ (D v = false ∧ v ≠ x))) ∨ (z0 = 1 ∧ (u ≠ v ∧ (D u = false ∧ u ≠ x) ∧ (D v = false ∧ v ≠ x))))
    (K : ∀ m E' e fa se, Q u (v + 1) E' → ar_2 12 e E' → (∀ a b, a < 12 → b < 12 → E' a b ≤ 1000000) → J16 m (nI (v + 1)) xP xZ aFr aTo aLe aRd aFd aKp fa se aFb aSb aHp aPl e aRk aTH aFH aLm aFM aTM aFl aBo aAc) : wX_shortcutsFor_67 post J6 J16 (nI x) (ob_f D 12) x3 m (nI u) (nI v) z0 xP xZ aFr aTo aLe aRd aFd aKp aFa aSe aFb aSb aHp aPl aEg aRk aTH aFH aLm aFM aTM aFl aBo aAc := by
  unfold wX_shortcutsFor_67
  obtain ⟨h1, _, h3, h4⟩ := hQ
  have b1 := bE u x hu hx
  have b2 := bE x v hx hv
  refine ⟨ar_n2 (n := 12) hu hx, ar_n2 (n := 12) hx hv, nm_r (e' := nI (E u x + E x v)) (by rw [ar_r2 hE hu hx, ar_r2 hE hx hv, nI_add]) ?_⟩
  rcases hz with ⟨e0, np⟩ | ⟨e0, pr⟩
  · exact br_t e0 (nm_r (nI_1 v) (K m E aEg aFa aSe (h1 u v E hu hv q np) hE bE))
  · refine br_f (by rw [e0]; decide) (br_le (a := 1000000) rfl rfl (by omega) (by omega) (fun hk => nm_r (nI_1 v) (K m E aEg aFa aSe (h3 u v E hu hv q pr (Or.inl hk)) hE bE)) (fun hk => ?_))
    refine xw_other hu hv hx pr.1 pr.2.1 pr.2.2 (by omega) hE bE (fun r fa se r0 r1 => br_c (fun hr => nm_e ?_) (fun hr => nm_r (nI_1 v) (K m E aEg fa se (h3 u v E hu hv q pr (Or.inr (r1 hr))) hE bE)))
    have hlt := r0 hr
    have q' := h4 u v E hu hv q pr hlt hk
    cases lays with
    | false =>
      refine br_t hl ⟨ar_n2 (n := 12) hu hv, ar_n2 (n := 12) hu hv, nm_r (ar_self _ _) (nm_r (nI_1 v) (K _ E aEg fa se q' hE bE))⟩
    | true =>
      refine br_f (by rw [hl]; decide) ⟨ar_n2 (n := 12) hu hv, nm_r (e' := upd aEg (u * 12 + v) (nI (E u x + E x v))) (by rw [ar_ix, ar_u (by omega)]) (nm_r (nI_1 v) (K _ _ _ fa se q' (up_ar hE hu hv) (fun a b ha hb => ?_)))⟩
      show (if a = u ∧ b = v then E u x + E x v else E a b) ≤ 1000000
      have := bE a b ha hb
      split <;> omega
theorem xw_c16 {post : Int32 → SX → Prop} {J6 : Int32 → Int32 → Int32 → Int32 → (Nat → Int32) → (Nat → Int32) → (Nat → Int32) → (Nat → Int32) → (Nat → Int32) → (Nat → Int32) → (Nat → Int32) → (Nat → Int32) → (Nat → Int32) → (Nat → Int32) → (Nat → Int32) → (Nat → Int32) → (Nat → Int32) → (Nat → Int32) → (Nat → Int32) → (Nat → Int32) → (Nat → Int32) → (Nat → Int32) → (Nat → Int32) → (Nat → Int32) → (Nat → Int32) → (Nat → Int32) → Prop} {x u : Nat} {x3 : Int32} (hx : x < 12) (hu : u < 12) (hl : x3 = if lays = true then 1 else 0) (hQ : sq_H D x lays Q)
    (K : ∀ m E' e fa se, Q (u + 1) 0 E' → ar_2 12 e E' → (∀ a b, a < 12 → b < 12 → E' a b ≤ 1000000) → J6 m (nI (u + 1)) xP xZ aFr aTo aLe aRd aFd aKp fa se aFb aSb aHp aPl e aRk aTH aFH aLm aFM aTM aFl aBo aAc) :
    ∀ (d v : Nat) (m : Int32) (E : Nat → Nat → Nat) (fa se e : Nat → Int32), v + d = 12 → Q u v E → ar_2 12 e E → (∀ a b, a < 12 → b < 12 → E a b ≤ 1000000) → wX_shortcutsFor_16 post J6 (nI x) (ob_f D 12) x3 (nI u) (d + 1) m (nI v) xP xZ aFr aTo aLe aRd aFd aKp fa se aFb aSb aHp aPl e aRk aTH aFH aLm aFM aTM aFl aBo aAc := by
  intro d
  induction d with
  | zero =>
    intro v m E fa se e hv q hE bE
    have ev : v = 12 := by omega
    subst ev
    exact br_t (by decide) (nm_r (nI_1 u) (K m E e fa se (hQ.2.1 u E q) hE bE))
  | succ d ih =>
    intro v m E fa se e hvd q hE bE
    have hv : v < 12 := by omega
    have no : ¬ (u ≠ v ∧ (D u = false ∧ u ≠ x) ∧ (D v = false ∧ v ≠ x)) → wX_shortcutsFor_66 post J6 (wX_shortcutsFor_16 post J6 (nI x) (ob_f D 12) x3 (nI u) (d + 1)) (nI x) (ob_f D 12) x3 m (nI u) (nI v) xP xZ aFr aTo aLe aRd aFd aKp fa se aFb aSb aHp aPl e aRk aTH aFH aLm aFM aTM aFl aBo aAc := by
      intro np
      unfold wX_shortcutsFor_66
      exact xw_c67 hx hu hv hl hQ q hE bE (Or.inl ⟨rfl, np⟩) (fun m' E' e' fa' se' a b c => ih (v + 1) m' E' fa' se' e' (by omega) a b c)
    refine br_f (nI_ge (b := 12) hv (by decide)) (br_eq (a := u) (b := v) rfl rfl (by omega) (by omega) (fun z => no (fun y => y.1 z)) (fun z1 => br_eq (a := u) (b := x) rfl rfl (by omega) (by omega) (fun z => no (fun y => y.2.1.2 z)) (fun z2 => br_eq (a := v) (b := x) rfl rfl (by omega) (by omega) (fun z => no (fun y => y.2.2.2 z)) (fun z3 => xw_left hu (fun z4 => br_f (by decide) (xw_left hv (fun z5 => br_f (by decide) ?_) (fun z => br_t rfl (no (fun y => by rw [y.2.2.1] at z; exact absurd z (by decide)))))) (fun z => br_t rfl (no (fun y => by rw [y.2.1.1] at z; exact absurd z (by decide))))))))
    exact xw_c67 hx hu hv hl hQ q hE bE (Or.inr ⟨rfl, z1, ⟨z4, z2⟩, ⟨z5, z3⟩⟩) (fun m' E' e' fa' se' a b c => ih (v + 1) m' E' fa' se' e' (by omega) a b c)
theorem xw_short {post : Int32 → SX → Prop} {x : Nat} {x3 : Int32} (hx : x < 12) (hl : x3 = if lays = true then 1 else 0) (hQ : sq_H D x lays Q) (q : Q 0 0 E) (hE : ar_2 12 aEg E) (bE : ∀ a b, a < 12 → b < 12 → E a b ≤ 1000000)
    (K : ∀ m E' e fa se, Q 12 0 E' → ar_2 12 e E' → (∀ a b, a < 12 → b < 12 → E' a b ≤ 1000000) → post m (xP, xZ, aFr, aTo, aLe, aRd, aFd, aKp, fa, se, aFb, aSb, aHp, aPl, e, aRk, aTH, aFH, aLm, aFM, aTM, aFl, aBo, aAc)) : wpX_shortcutsFor post (xP, xZ, aFr, aTo, aLe, aRd, aFd, aKp, aFa, aSe, aFb, aSb, aHp, aPl, aEg, aRk, aTH, aFH, aLm, aFM, aTM, aFl, aBo, aAc) (nI x) (ob_f D 12) x3 := by
  have l : ∀ (d u : Nat) (m : Int32) (E : Nat → Nat → Nat) (fa se e : Nat → Int32), u + d = 12 → Q u 0 E → ar_2 12 e E → (∀ a b, a < 12 → b < 12 → E a b ≤ 1000000) → wX_shortcutsFor_6 post (nI x) (ob_f D 12) x3 (d + 1) m (nI u) xP xZ aFr aTo aLe aRd aFd aKp fa se aFb aSb aHp aPl e aRk aTH aFH aLm aFM aTM aFl aBo aAc := by
    intro d
    induction d with
    | zero =>
      intro u m E fa se e hu q hE bE
      have eu : u = 12 := by omega
      subst eu
      exact br_t (by decide) (K m E e fa se q hE bE)
    | succ d ih =>
      intro u m E fa se e hud q hE bE
      have hu : u < 12 := by omega
      exact br_f (nI_ge (b := 12) hu (by decide)) ⟨12 + 1, xw_c16 hx hu hl hQ (fun m' E' e' fa' se' a b c => ih (u + 1) m' E' fa' se' e' (by omega) a b c) 12 0 m E fa se e rfl q hE bE⟩
  exact ⟨12 + 1, l 12 0 0 E aFa aSe aEg rfl q hE bE⟩
/-- only counting: the edges stay -/
theorem sq_no {x : Nat} (E0 : Nat → Nat → Nat) : sq_H D x false (fun _ _ E => E = E0) :=
  ⟨fun _ _ _ _ _ h _ => h, fun _ _ h => h, fun _ _ _ _ _ h _ _ => h, fun _ _ _ _ _ h _ _ _ => h⟩
theorem sq_yes {x : Nat} (E0 : Nat → Nat → Nat) (hx : x < 12) : sq_H D x true (fun u v E => sc_I R (fun j => D j = false) x E0 E (fun a b => a < u ∨ (a = u ∧ b < v))) := by
  refine ⟨fun u v E hu hv h np => ?_, fun u E h => ?_, fun u v E hu hv h pr hc => ?_, fun u v E hu hv h pr hlt hk => ?_⟩
  · refine sc_D h (fun a b ha hb d La Lb hne => Or.inl ?_)
    rcases d with d | ⟨d1, d2⟩
    · exact Or.inl d
    · by_cases e : b = v
      · exact absurd ⟨by rw [← d1, ← e]; exact hne, by rw [← d1]; exact La, by rw [← e]; exact Lb⟩ np
      · exact Or.inr ⟨d1, by omega⟩
  · refine sc_D h (fun a b ha hb d La Lb hne => Or.inl ?_)
    rcases d with d | ⟨d1, d2⟩
    · by_cases e : a = u
      · exact Or.inr ⟨e, hb⟩
      · exact Or.inl (by omega)
    · omega
  · have e1 := h.2.2.1 u x hu hx (fun q => q.2.2 rfl)
    have e2 := h.2.2.1 x v hx hv (fun q => q.1.2 rfl)
    refine sc_D h (fun a b ha hb d La Lb hne => ?_)
    rcases d with d | ⟨d1, d2⟩
    · exact Or.inl (Or.inl d)
    · by_cases e : b = v
      · refine Or.inr (fun F hF => ?_)
        rw [d1, e, ← e1, ← e2]
        have bF := hF.1 v hv
        rcases hc with hc | hc
        · omega
        · have := hc (fun j => F j - F u) (Nat.sub_self _) ⟨fun y hy => by have := hF.1 y hy; show F y - F u ≤ 1000000; omega, fun y z hy hz Ly Lz => by have := hF.2 y z hy hz Ly Lz; show F z - F u ≤ F y - F u + E y z; omega⟩
          omega
      · exact Or.inl (Or.inr ⟨d1, by omega⟩)
  · have e1 := h.2.2.1 u x hu hx (fun q => q.2.2 rfl)
    have e2 := h.2.2.1 x v hx hv (fun q => q.1.2 rfl)
    rw [if_pos rfl]
    refine sc_E h hx hu hv pr.2.1 pr.2.2 (fun a b _ _ n => if_neg n) (by rw [← e1, ← e2]; exact if_pos ⟨rfl, rfl⟩) (by rw [← e1, ← e2]; omega) (fun a b ha hb d => ?_)
    rcases d with d | ⟨d1, d2⟩
    · exact Or.inl (Or.inl d)
    · by_cases e : b = v
      · exact Or.inr ⟨d1, e⟩
      · exact Or.inl (Or.inr ⟨d1, by omega⟩)
theorem sq_in {x : Nat} (S : ch_S R E) : sc_I R (fun j => D j = false) x E E (fun a b => a < 0 ∨ (a = 0 ∧ b < 0)) :=
  ⟨fun _ _ _ _ => Nat.le_refl _, S, fun _ _ _ _ _ => rfl, fun a b _ _ d => by omega⟩
theorem sq_out {x : Nat} {E' : Nat → Nat → Nat} (h : sc_I R (fun j => D j = false) x E E' (fun a b => a < 12 ∨ (a = 12 ∧ b < 0))) : ch_X R (fun j => D j = false) x E E' :=
  ⟨h.1, h.2.1, h.2.2.1, fun a b ha hb La Lb hne F hF => h.2.2.2 a b ha hb (Or.inl ha) La Lb hne F hF⟩
theorem xw_edges {post : Int32 → Prop} {x : Nat} (hx : x < 12) (K : ∀ r, post r) : wpX_edgesAt post (xP, xZ, aFr, aTo, aLe, aRd, aFd, aKp, aFa, aSe, aFb, aSb, aHp, aPl, aEg, aRk, aTH, aFH, aLm, aFM, aTM, aFl, aBo, aAc) (nI x) (ob_f D 12) := by
  have l : ∀ (d i : Nat) (m : Int32), i + d = 12 → wX_edgesAt_5 post (nI x) (ob_f D 12) xP xZ aFr aTo aLe aRd aFd aKp aFa aSe aFb aSb aHp aPl aEg aRk aTH aFH aLm aFM aTM aFl aBo aAc (d + 1) m (nI i) := by
    intro d
    induction d with
    | zero =>
      intro i m hi
      have e : i = 12 := by omega
      subst e
      exact br_t (by decide) (K m)
    | succ d ih =>
      intro i m hid
      have hi : i < 12 := by omega
      have j45 : ∀ z : Int32, wX_edgesAt_45 post (wX_edgesAt_5 post (nI x) (ob_f D 12) xP xZ aFr aTo aLe aRd aFd aKp aFa aSe aFb aSb aHp aPl aEg aRk aTH aFH aLm aFM aTM aFl aBo aAc (d + 1)) (nI x) (ob_f D 12) (nI i) z m xP xZ aFr aTo aLe aRd aFd aKp aFa aSe aFb aSb aHp aPl aEg aRk aTH aFH aLm aFM aTM aFl aBo aAc := by
        intro z
        unfold wX_edgesAt_45
        exact nm_e (xw_left hi (fun _ => br_f (by decide) ⟨ar_n2 (n := 12) hx hi, br_c (fun _ => nm_e (nm_r (nI_1 i) (ih (i + 1) _ (by omega)))) (fun _ => nm_e (nm_r (nI_1 i) (ih (i + 1) _ (by omega))))⟩) (fun _ => br_t rfl (nm_e (nm_r (nI_1 i) (ih (i + 1) _ (by omega))))))
      exact br_f (nI_ge (b := 12) hi (by decide)) (xw_left hi (fun _ => br_f (by decide) ⟨ar_n2 (n := 12) hi hx, br_c (fun _ => j45 0) (fun _ => j45 1)⟩) (fun _ => br_t rfl (j45 0)))
  exact ⟨12 + 1, l 12 0 0 rfl⟩
end
end
section
/-! engine 2: the hierarchy, the ways up -/
def hi_I (R : Nat → Nat → Nat) (r : Nat) (D : Nat → Bool) (E : Nat → Nat → Nat) (rk : Nat → Nat) (a : Nat → Int32) : Prop :=
  ch_A R (fun j => D j = false) E ∧ ch_S R E ∧ ch_F R r (fun j => D j = false) E rk ∧ (∀ j, j < 12 → D j = true → a j = nI (rk j) ∧ rk j < r) ∧ cn_c (fun j => D j = true) 12 = r ∧ ∀ i, i < r → ∃ j, j < 12 ∧ D j = true ∧ rk j = i
theorem hi_0 {R : Nat → Nat → Nat} {rk : Nat → Nat} {a : Nat → Int32} (hR : ∀ u v, R u v ≤ 1000000) : hi_I R 0 (fun _ => false) R rk a := by
  have e : (fun j : Nat => (fun _ : Nat => false) j = false) = (fun _ => True) := by funext j; simp
  refine ⟨?_, ch_S0 hR, ?_, fun j _ h => Bool.noConfusion h, cn_zero (fun k _ h => Bool.noConfusion h), fun i h => by omega⟩
  · rw [e]; exact ch_A0
  · rw [e]; exact ch_F0
theorem hi_up {R E E' : Nat → Nat → Nat} {r b : Nat} {D : Nat → Bool} {rk : Nat → Nat} {a : Nat → Int32} (h : hi_I R r D E rk a) (hb : b < 12) (Db : D b = false) (X : ch_X R (fun j => D j = false) b E E') :
    hi_I R (r + 1) (fun j => if j = b then true else D j) E' (fun j => if j = b then r else rk j) (upd a b (nI r)) := by
  obtain ⟨h1, h2, h3, h4, h5, h6⟩ := h
  have e : (fun j : Nat => (fun j => if j = b then true else D j) j = false) = (fun j => D j = false ∧ j ≠ b) := by
    funext j
    by_cases q : j = b
    · simp [q]
    · simp [q]
  refine ⟨?_, X.2.1, ?_, fun j hj hD => ?_, ?_, fun i hi => ?_⟩
  · rw [e]; exact ch_A1 hb h1 X
  · rw [e]; exact ch_F1 hb Db h1 h2 X h3
  · show upd a b (nI r) j = nI (if j = b then r else rk j) ∧ (if j = b then r else rk j) < r + 1
    by_cases q : j = b
    · rw [q, pk_us, if_pos rfl]; exact ⟨rfl, by omega⟩
    · have hD' : D j = true := (if_neg q).symm.trans hD
      rw [pk_un q, if_neg q]
      exact ⟨(h4 j hj hD').1, by have := (h4 j hj hD').2; omega⟩
  · rw [← h5, ← cn_add (P := fun j => D j = true) (a := b) (by rw [Db]; decide) hb]
    refine cn_eq (fun k _ => ?_)
    by_cases q : k = b
    · simp [q]
    · simp [q]
  · by_cases q : i = r
    · exact ⟨b, hb, if_pos rfl, (if_pos rfl).trans q.symm⟩
    · obtain ⟨j, j1, j2, j3⟩ := h6 i (by omega)
      have hne : j ≠ b := fun z => by rw [z, Db] at j2; exact absurd j2 (by decide)
      exact ⟨j, j1, (if_neg hne).trans j2, (if_neg hne).trans j3⟩
theorem hi_12 {R E : Nat → Nat → Nat} {D : Nat → Bool} {rk : Nat → Nat} {a : Nat → Int32} (h : hi_I R 12 D E rk a) :
    ch_S R E ∧ ch_C R rk E (fun _ => True) ∧ ar_I 12 a rk ∧ (∀ j, j < 12 → rk j < 12) ∧ ∀ i, i < 12 → ∃ j, j < 12 ∧ rk j = i := by
  obtain ⟨h1, h2, h3, h4, h5, h6⟩ := h
  have all : ∀ j, j < 12 → D j = true := by
    intro j hj
    rcases Classical.em (D j = true) with z | z
    · exact z
    · have := cn_lt (P := fun j => D j = true) (Q := fun _ => True) z trivial (N := 12) (fun _ _ _ => trivial) hj
      have := cn_le (fun _ => True) 12
      omega
  refine ⟨h2, h3 E rk (fun u hu _ => ⟨rfl, fun v _ => ⟨rfl, rfl⟩⟩) (fun u hu z => ?_) (fun s t hs _ z => ?_), fun j hj => (h4 j hj (all j hj)).1, fun j hj => (h4 j hj (all j hj)).2, fun i hi => ?_⟩
  · exact Bool.noConfusion ((all u hu).symm.trans z)
  · exact Bool.noConfusion ((all s hs).symm.trans z)
  · obtain ⟨j, j1, _, j3⟩ := h6 i hi
    exact ⟨j, j1, j3⟩
theorem hi_ex {R E : Nat → Nat → Nat} {r : Nat} {D : Nat → Bool} {rk : Nat → Nat} {a : Nat → Int32} (h : hi_I R r D E rk a) (hr : r < 12) : ¬ ∀ j, j < 12 → D j = true := by
  intro z
  have := cn_full (P := fun j => D j = true) (N := 12) z
  have := h.2.2.2.2.1
  omega
section
variable {xP xZ : Int32} {aFr aTo aLe aRd aFd aKp aFa aSe aFb aSb aHp aPl aEg aRk aTH aFH aLm aFM aTM aFl aBo aAc : Nat → Int32}
variable {R E : Nat → Nat → Nat} {D : Nat → Bool} {rk : Nat → Nat}
theorem xw_h110 {post : SX → Prop} {J31 : Int32 → Int32 → Int32 → Int32 → (Nat → Int32) → (Nat → Int32) → (Nat → Int32) → (Nat → Int32) → (Nat → Int32) → (Nat → Int32) → (Nat → Int32) → (Nat → Int32) → (Nat → Int32) → (Nat → Int32) → (Nat → Int32) → (Nat → Int32) → (Nat → Int32) → (Nat → Int32) → (Nat → Int32) → (Nat → Int32) → (Nat → Int32) → (Nat → Int32) → (Nat → Int32) → (Nat → Int32) → (Nat → Int32) → (Nat → Int32) → Prop} {J45 : Int32 → Int32 → Int32 → Int32 → Int32 → (Nat → Int32) → (Nat → Int32) → (Nat → Int32) → (Nat → Int32) → (Nat → Int32) → (Nat → Int32) → (Nat → Int32) → (Nat → Int32) → (Nat → Int32) → (Nat → Int32) → (Nat → Int32) → (Nat → Int32) → (Nat → Int32) → (Nat → Int32) → (Nat → Int32) → (Nat → Int32) → (Nat → Int32) → (Nat → Int32) → (Nat → Int32) → (Nat → Int32) → (Nat → Int32) → (Nat → Int32) → Prop} {x1 x2 x3 x4 x6 : Int32} {i : Nat} {z : Int32} (K : ∀ b c : Int32, (b = x3 ∧ z = 0) ∨ (b = nI i ∧ ¬ z = 0) → J45 b c (nI (i + 1)) xP xZ aFr aTo aLe aRd aFd aKp aFa aSe aFb aSb aHp aPl aEg aRk aTH aFH aLm aFM aTM aFl aBo aAc) : wX_layHierarchy_96 post J31 J45 x1 x2 x3 x4 (nI i) x6 z xP xZ aFr aTo aLe aRd aFd aKp aFa aSe aFb aSb aHp aPl aEg aRk aTH aFH aLm aFM aTM aFl aBo aAc := by
  unfold wX_layHierarchy_96 wX_layHierarchy_110
  exact br_c (fun h => br_t h (nm_r (nI_1 i) (K _ _ (Or.inl ⟨rfl, h⟩)))) (fun h => br_f h (nm_r (nI_1 i) (K _ _ (Or.inr ⟨rfl, h⟩))))
theorem xw_h45 {post : SX → Prop} {J : Int32 → Int32 → Int32 → Int32 → (Nat → Int32) → (Nat → Int32) → (Nat → Int32) → (Nat → Int32) → (Nat → Int32) → (Nat → Int32) → (Nat → Int32) → (Nat → Int32) → (Nat → Int32) → (Nat → Int32) → (Nat → Int32) → (Nat → Int32) → (Nat → Int32) → (Nat → Int32) → (Nat → Int32) → (Nat → Int32) → (Nat → Int32) → (Nat → Int32) → (Nat → Int32) → (Nat → Int32) → (Nat → Int32) → (Nat → Int32) → Prop} {r : Nat} (hr : r < 12) (I : hi_I R r D E rk aRk)
    (K : ∀ D' E' rk' fa se eg ra, hi_I R (r + 1) D' E' rk' ra → ar_2 12 eg E' → J (ob_f D' 12) (nI (r + 1)) xP xZ aFr aTo aLe aRd aFd aKp fa se aFb aSb aHp aPl eg ra aTH aFH aLm aFM aTM aFl aBo aAc) :
    ∀ (d i : Nat) (b c : Int32) (fa se eg : Nat → Int32), i + d = 12 → ((b = -1 ∧ ∀ j, j < i → D j = true) ∨ ∃ x, x < 12 ∧ D x = false ∧ b = nI x) → ar_2 12 eg E → wX_layHierarchy_45 post J (ob_f D 12) (nI r) (d + 1) b c (nI i) xP xZ aFr aTo aLe aRd aFd aKp fa se aFb aSb aHp aPl eg aRk aTH aFH aLm aFM aTM aFl aBo aAc := by
  have bE : ∀ a b, a < 12 → b < 12 → E a b ≤ 1000000 := fun a b ha hb => (I.2.1 a b ha hb).2
  intro d
  induction d with
  | zero =>
    intro i b c fa se eg hi hb hE
    have e : i = 12 := by omega
    subst e
    rcases hb with ⟨_, z⟩ | ⟨x, x1, x2, x3⟩
    · exact absurd z (hi_ex I hr)
    · rw [x3]
      refine br_t (by decide) (xw_short (lays := true) x1 rfl (sq_yes (R := R) E x1) (sq_in I.2.1) hE bE (fun m E' e fa' se' q hE' _ => ⟨ar_n x1, nm_r (e' := upd aRk x (nI r)) (by rw [ar_u (by omega), sm_b r (by omega)]) (nm_r (ob_set (by omega) x1) (nm_r (nI_1 r) (K _ _ _ fa' se' e _ (hi_up I x1 x2 (sq_out q)) hE')))⟩))
  | succ d ih =>
    intro i b c fa se eg hid hb hE
    have hi : i < 12 := by omega
    refine br_f (nI_ge (b := 12) hi (by decide)) (xw_left hi (fun h => br_f (by decide) ?_) (fun h => br_t rfl (nm_r (nI_1 i) (ih (i + 1) b c fa se eg (by omega) ?_ hE))))
    · refine xw_short (lays := false) hi rfl (sq_no E) rfl hE bE (fun m E' e fa' se' q hE' _ => xw_edges hi (fun r' => nm_e ?_))
      rw [q] at hE'
      have nx : ∀ z : Int32, (z = 0 → ¬ b < 0) → wX_layHierarchy_96 post J (wX_layHierarchy_45 post J (ob_f D 12) (nI r) (d + 1)) (ob_f D 12) (nI r) b c (nI i) (m - r') z xP xZ aFr aTo aLe aRd aFd aKp fa' se' aFb aSb aHp aPl e aRk aTH aFH aLm aFM aTM aFl aBo aAc := by
        intro z hz
        refine xw_h110 (fun b' c' hb' => ih (i + 1) b' c' fa' se' e (by omega) ?_ hE')
        rcases hb' with ⟨e1, e2⟩ | ⟨e1, _⟩
        · rcases hb with ⟨y, _⟩ | y
          · exact absurd (by rw [y]; decide) (hz e2)
          · rw [e1]; exact Or.inr y
        · exact Or.inr ⟨i, hi, h, e1⟩
      exact br_c (fun _ => nx 1 (fun z => absurd z (by decide))) (fun hb0 => br_c (fun _ => nx 0 (fun _ => hb0)) (fun _ => nx 1 (fun z => absurd z (by decide))))
    · rcases hb with ⟨a1, a2⟩ | y
      · refine Or.inl ⟨a1, fun j hj => ?_⟩
        rcases Nat.lt_or_ge j i with z | z
        · exact a2 j z
        · have ej : j = i := by omega
          rw [ej]; exact h
      · exact Or.inr y
theorem xw_hier {post : SX → Prop} (hR : ar_2 12 aRd R) (bR : ∀ a b, R a b ≤ 1000000)
    (K : ∀ E rk fa se eg ra, ar_2 12 eg E → ar_I 12 ra rk → ch_S R E → ch_C R rk E (fun _ => True) → (∀ j, j < 12 → rk j < 12) → (∀ i, i < 12 → ∃ j, j < 12 ∧ rk j = i) → post (xP, xZ, aFr, aTo, aLe, aRd, aFd, aKp, fa, se, aFb, aSb, aHp, aPl, eg, ra, aTH, aFH, aLm, aFM, aTM, aFl, aBo, aAc)) : wpX_layHierarchy post (xP, xZ, aFr, aTo, aLe, aRd, aFd, aKp, aFa, aSe, aFb, aSb, aHp, aPl, aEg, aRk, aTH, aFH, aLm, aFM, aTM, aFl, aBo, aAc) := by
  have l31 : ∀ (d r : Nat) (D : Nat → Bool) (E : Nat → Nat → Nat) (rk : Nat → Nat) (fa se eg ra : Nat → Int32), r + d = 12 → hi_I R r D E rk ra → ar_2 12 eg E → wX_layHierarchy_31 post (d + 1) (ob_f D 12) (nI r) xP xZ aFr aTo aLe aRd aFd aKp fa se aFb aSb aHp aPl eg ra aTH aFH aLm aFM aTM aFl aBo aAc := by
    intro d
    induction d with
    | zero =>
      intro r D E rk fa se eg ra hr I hE
      have e : r = 12 := by omega
      subst e
      obtain ⟨a, b, c, d, e⟩ := hi_12 I
      exact br_t (by decide) (K E rk fa se eg ra hE c a b d e)
    | succ d ih =>
      intro r D E rk fa se eg ra hrd I hE
      have hr : r < 12 := by omega
      exact br_f (nI_ge (b := 12) hr (by decide)) ⟨12 + 1, xw_h45 hr I (fun D' E' rk' fa' se' eg' ra' I' hE' => ih (r + 1) D' E' rk' fa' se' eg' ra' (by omega) I' hE') 12 0 (-1) 0 fa se eg rfl (Or.inl ⟨rfl, fun j h => by omega⟩) hE⟩
  have l2 : ∀ (d i : Nat) (eg : Nat → Int32), i + d = 144 → (∀ j, j < i → eg j = aRd j) → wX_layHierarchy_2 post xP xZ (d + 1) (nI i) aFr aTo aLe aRd aFd aKp aFa aSe aFb aSb aHp aPl eg aRk aTH aFH aLm aFM aTM aFl aBo aAc := by
    intro d
    induction d with
    | zero =>
      intro i eg hi h
      have e : i = 144 := by omega
      subst e
      have g := l31 12 0 (fun _ => false) R (fun _ => 0) aFa aSe eg aRk rfl (hi_0 bR) (fun u v hu hv => by rw [h _ (by omega)]; exact hR u v hu hv)
      rw [ob_zero] at g
      exact br_t (by decide) ⟨12 + 1, g⟩
    | succ d ih =>
      intro i eg hid h
      have hi : i < 144 := by omega
      refine br_f (nI_ge (b := 144) hi (by decide)) ⟨ar_n hi, ar_n hi, nm_r (ar_u (by omega) eg _) (nm_r (nI_1 i) (ih (i + 1) _ (by omega) (fun j hj => ?_)))⟩
      by_cases e : j = i
      · rw [e, pk_us, ar_cl (by omega)]
      · rw [pk_un e]; exact h j (by omega)
  exact ⟨144 + 1, l2 144 0 aEg rfl (fun j h => by omega)⟩
theorem xw_u72 {post : Int32 → SX → Prop} {J J' : Int32 → (Nat → Int32) → (Nat → Int32) → (Nat → Int32) → (Nat → Int32) → (Nat → Int32) → (Nat → Int32) → (Nat → Int32) → (Nat → Int32) → (Nat → Int32) → (Nat → Int32) → (Nat → Int32) → (Nat → Int32) → (Nat → Int32) → (Nat → Int32) → (Nat → Int32) → (Nat → Int32) → (Nat → Int32) → (Nat → Int32) → (Nat → Int32) → (Nat → Int32) → (Nat → Int32) → (Nat → Int32) → Prop} {x3 : Int32} {F G : Nat → Nat} {i w : Nat} {z : Int32} (hi : i < 12) (hF : ar_I 12 aFa (ar_mx i G F)) (fK : F i ≤ 1000000) (hw : w ≤ 2000000) (hz : z = nI w) (e : G i = min (F i) w)
    (K : ∀ fa, ar_I 12 fa (ar_mx (i + 1) G F) → J' (nI (i + 1)) aFr aTo aLe aRd aFd aKp fa aSe aFb aSb aHp aPl aEg aRk aTH aFH aLm aFM aTM aFl aBo aAc) : wX_distanceUp_72 post J J' x3 (nI i) z xP xZ aFr aTo aLe aRd aFd aKp aFa aSe aFb aSb aHp aPl aEg aRk aTH aFH aLm aFM aTM aFl aBo aAc := by
  unfold wX_distanceUp_72
  refine ⟨ar_n hi, br_le (by rw [ar_r hF hi, ar_mi]) hz (by omega) (by omega) (fun h => ⟨ar_n hi, ar_n hi, nm_r (ar_us (by omega) _) (nm_r (nI_1 i) (K _ (ar_mk hF (by omega))))⟩) (fun h => ⟨ar_n hi, nm_r (ar_u (by omega) _ _) (nm_r (nI_1 i) (K _ (ar_ms hF ?_)))⟩)⟩
  rw [hz]; exact congrArg nI (by omega)
theorem xw_u25 {post : Int32 → SX → Prop} {J : Int32 → (Nat → Int32) → (Nat → Int32) → (Nat → Int32) → (Nat → Int32) → (Nat → Int32) → (Nat → Int32) → (Nat → Int32) → (Nat → Int32) → (Nat → Int32) → (Nat → Int32) → (Nat → Int32) → (Nat → Int32) → (Nat → Int32) → (Nat → Int32) → (Nat → Int32) → (Nat → Int32) → (Nat → Int32) → (Nat → Int32) → (Nat → Int32) → (Nat → Int32) → (Nat → Int32) → (Nat → Int32) → Prop} {F : Nat → Nat} {u : Nat} (hu : u < 12) (hE : ar_2 12 aEg E) (bE : ∀ a b, a < 12 → b < 12 → E a b ≤ 1000000) (hk : ar_I 12 aRk rk) (bk : ∀ j, j < 12 → rk j < 12) (fK : ∀ v, v < 12 → F v ≤ 1000000)
    (K : ∀ fa, ar_I 12 fa (dj_rx (ch_U rk E) u F) → wpX_nearestOpen (fun r => J r aFr aTo aLe aRd aFd aKp fa aSe aFb aSb aHp aPl aEg aRk aTH aFH aLm aFM aTM aFl aBo aAc) (xP, xZ, aFr, aTo, aLe, aRd, aFd, aKp, fa, aSe, aFb, aSb, aHp, aPl, aEg, aRk, aTH, aFH, aLm, aFM, aTM, aFl, aBo, aAc)) :
    ∀ (d i : Nat) (fa : Nat → Int32), i + d = 12 → ar_I 12 fa (ar_mx i (dj_rx (ch_U rk E) u F) F) → wX_distanceUp_25 post J (nI u) xP xZ (d + 1) (nI i) aFr aTo aLe aRd aFd aKp fa aSe aFb aSb aHp aPl aEg aRk aTH aFH aLm aFM aTM aFl aBo aAc := by
  intro d
  induction d with
  | zero =>
    intro i fa hi h
    have e : i = 12 := by omega
    subst e
    exact br_t (by decide) (K fa (ar_mn h))
  | succ d ih =>
    intro i fa hid h
    have hi : i < 12 := by omega
    have bi := fK i hi
    have bu := fK u hu
    have be := bE _ _ hu hi
    have r1 := bk i hi
    have r2 := bk u hu
    have e1 : fa (nI u).toNatClampNeg = nI (F u) := by rw [ar_r h hu, dj_ru]
    refine br_f (nI_ge (b := 12) hi (by decide)) ⟨ar_n hi, ar_n hu, br_le (ar_r hk hi) (ar_r hk hu) (by omega) (by omega) (fun hle => xw_u72 (w := 1000000) hi h bi (by omega) rfl ?_ (fun fa' h' => ih (i + 1) fa' (by omega) h')) (fun hlt => ⟨ar_n hu, ar_n2 (n := 12) hu hi, xw_u72 (w := F u + E u i) hi h bi (by omega) (by rw [e1, ar_r2 hE hu hi, nI_add]) ?_ (fun fa' h' => ih (i + 1) fa' (by omega) h')⟩)⟩
    · have ew : ch_U rk E u i = 1000000 := if_neg (by omega)
      show min (F i) (F u + ch_U rk E u i) = _
      rw [ew]; omega
    · have ew : ch_U rk E u i = E u i := if_pos hlt
      show min (F i) (F u + ch_U rk E u i) = _
      rw [ew]
theorem xw_u185 {post : Int32 → SX → Prop} {J J' : Int32 → (Nat → Int32) → (Nat → Int32) → (Nat → Int32) → (Nat → Int32) → (Nat → Int32) → (Nat → Int32) → (Nat → Int32) → (Nat → Int32) → (Nat → Int32) → (Nat → Int32) → (Nat → Int32) → (Nat → Int32) → (Nat → Int32) → (Nat → Int32) → (Nat → Int32) → (Nat → Int32) → (Nat → Int32) → (Nat → Int32) → (Nat → Int32) → (Nat → Int32) → (Nat → Int32) → (Nat → Int32) → Prop} {x3 : Int32} {F G : Nat → Nat} {i w : Nat} {z : Int32} (hi : i < 12) (hF : ar_I 12 aFb (ar_mx i G F)) (fK : F i ≤ 1000000) (hw : w ≤ 2000000) (hz : z = nI w) (e : G i = min (F i) w)
    (K : ∀ fa, ar_I 12 fa (ar_mx (i + 1) G F) → J' (nI (i + 1)) aFr aTo aLe aRd aFd aKp aFa aSe fa aSb aHp aPl aEg aRk aTH aFH aLm aFM aTM aFl aBo aAc) : wX_distanceUp_185 post J J' x3 (nI i) z xP xZ aFr aTo aLe aRd aFd aKp aFa aSe aFb aSb aHp aPl aEg aRk aTH aFH aLm aFM aTM aFl aBo aAc := by
  unfold wX_distanceUp_185
  refine ⟨ar_n hi, br_le (by rw [ar_r hF hi, ar_mi]) hz (by omega) (by omega) (fun h => ⟨ar_n hi, ar_n hi, nm_r (ar_us (by omega) _) (nm_r (nI_1 i) (K _ (ar_mk hF (by omega))))⟩) (fun h => ⟨ar_n hi, nm_r (ar_u (by omega) _ _) (nm_r (nI_1 i) (K _ (ar_ms hF ?_)))⟩)⟩
  rw [hz]; exact congrArg nI (by omega)
theorem xw_u138 {post : Int32 → SX → Prop} {J : Int32 → (Nat → Int32) → (Nat → Int32) → (Nat → Int32) → (Nat → Int32) → (Nat → Int32) → (Nat → Int32) → (Nat → Int32) → (Nat → Int32) → (Nat → Int32) → (Nat → Int32) → (Nat → Int32) → (Nat → Int32) → (Nat → Int32) → (Nat → Int32) → (Nat → Int32) → (Nat → Int32) → (Nat → Int32) → (Nat → Int32) → (Nat → Int32) → (Nat → Int32) → (Nat → Int32) → (Nat → Int32) → Prop} {F : Nat → Nat} {u : Nat} (hu : u < 12) (hE : ar_2 12 aEg E) (bE : ∀ a b, a < 12 → b < 12 → E a b ≤ 1000000) (hk : ar_I 12 aRk rk) (bk : ∀ j, j < 12 → rk j < 12) (fK : ∀ v, v < 12 → F v ≤ 1000000)
    (K : ∀ fa, ar_I 12 fa (dj_rx (ch_V rk E) u F) → wpX_nearestOpenBack (fun r => J r aFr aTo aLe aRd aFd aKp aFa aSe fa aSb aHp aPl aEg aRk aTH aFH aLm aFM aTM aFl aBo aAc) (xP, xZ, aFr, aTo, aLe, aRd, aFd, aKp, aFa, aSe, fa, aSb, aHp, aPl, aEg, aRk, aTH, aFH, aLm, aFM, aTM, aFl, aBo, aAc)) :
    ∀ (d i : Nat) (fa : Nat → Int32), i + d = 12 → ar_I 12 fa (ar_mx i (dj_rx (ch_V rk E) u F) F) → wX_distanceUp_138 post J (nI u) xP xZ (d + 1) (nI i) aFr aTo aLe aRd aFd aKp aFa aSe fa aSb aHp aPl aEg aRk aTH aFH aLm aFM aTM aFl aBo aAc := by
  intro d
  induction d with
  | zero =>
    intro i fa hi h
    have e : i = 12 := by omega
    subst e
    exact br_t (by decide) (K fa (ar_mn h))
  | succ d ih =>
    intro i fa hid h
    have hi : i < 12 := by omega
    have bi := fK i hi
    have bu := fK u hu
    have be := bE _ _ hi hu
    have r1 := bk i hi
    have r2 := bk u hu
    have e1 : fa (nI u).toNatClampNeg = nI (F u) := by rw [ar_r h hu, dj_ru]
    refine br_f (nI_ge (b := 12) hi (by decide)) ⟨ar_n hi, ar_n hu, br_le (ar_r hk hi) (ar_r hk hu) (by omega) (by omega) (fun hle => xw_u185 (w := 1000000) hi h bi (by omega) rfl ?_ (fun fa' h' => ih (i + 1) fa' (by omega) h')) (fun hlt => ⟨ar_n hu, ar_n2 (n := 12) hi hu, xw_u185 (w := F u + E i u) hi h bi (by omega) (by rw [e1, ar_r2 hE hi hu, nI_add]) ?_ (fun fa' h' => ih (i + 1) fa' (by omega) h')⟩)⟩
    · have ew : ch_V rk E u i = 1000000 := if_neg (by omega)
      show min (F i) (F u + ch_V rk E u i) = _
      rw [ew]; omega
    · have ew : ch_V rk E u i = E i u := if_pos hlt
      show min (F i) (F u + ch_V rk E u i) = _
      rw [ew]
theorem xw_u11 {post : Int32 → SX → Prop} {s : Nat} (hE : ar_2 12 aEg E) (bE : ∀ a b, a < 12 → b < 12 → E a b ≤ 1000000) (hk : ar_I 12 aRk rk) (bk : ∀ j, j < 12 → rk j < 12)
    (K : ∀ fa se, ar_I 12 fa (gd_d (ch_U rk E) s) → wpX_nearestOpenBack (fun r => ∃ n : Nat, wX_distanceUp_124 post xP xZ n r aFr aTo aLe aRd aFd aKp fa se aFb aSb aHp aPl aEg aRk aTH aFH aLm aFM aTM aFl aBo aAc) (xP, xZ, aFr, aTo, aLe, aRd, aFd, aKp, fa, se, aFb, aSb, aHp, aPl, aEg, aRk, aTH, aFH, aLm, aFM, aTM, aFl, aBo, aAc)) :
    ∀ (n : Nat) (F : Nat → Nat) (S : Nat → Prop) (fa se : Nat → Int32) (r : Int32), cn_c (fun j => ¬ S j) 12 < n → ar_I 12 fa F → ar_S se S → dj_I (ch_U rk E) s S F → dj_N S F r → wX_distanceUp_11 post xP xZ n r aFr aTo aLe aRd aFd aKp fa se aFb aSb aHp aPl aEg aRk aTH aFH aLm aFM aTM aFl aBo aAc := by
  intro n
  induction n with
  | zero => intro F S fa se r h; omega
  | succ n ih =>
    intro F S fa se r hn hF hS I hr
    rcases hr with ⟨r1, r2⟩ | ⟨u, u1, u2, u3, u4, u5⟩
    · exact br_t (by rw [r1]; decide) (K fa se (ar_ext hF (dj_end I r2)))
    · rw [u2]
      have hS' := ar_Su hS u1
      have I' := dj_up I u1 u5 u3
      refine br_f (br_0 (by omega)) ⟨ar_n u1, nm_e ⟨12 + 1, xw_u25 u1 hE bE hk bk I.2.1 (fun fa' hF' => xw_nof hF' hS' I'.2.1 (fun r' hr' => ih _ _ fa' _ r' (dj_cn u1 u3 hn) hF' hS' I' hr')) 12 0 fa rfl (ar_m0 hF)⟩⟩
theorem xw_u124 {post : Int32 → SX → Prop} {s : Nat} (hE : ar_2 12 aEg E) (bE : ∀ a b, a < 12 → b < 12 → E a b ≤ 1000000) (hk : ar_I 12 aRk rk) (bk : ∀ j, j < 12 → rk j < 12)
    (K : ∀ fa se, ar_I 12 fa (gd_d (ch_V rk E) s) → wpX_shortestMeeting (fun r => post r (xP, xZ, aFr, aTo, aLe, aRd, aFd, aKp, aFa, aSe, fa, se, aHp, aPl, aEg, aRk, aTH, aFH, aLm, aFM, aTM, aFl, aBo, aAc)) (xP, xZ, aFr, aTo, aLe, aRd, aFd, aKp, aFa, aSe, fa, se, aHp, aPl, aEg, aRk, aTH, aFH, aLm, aFM, aTM, aFl, aBo, aAc)) :
    ∀ (n : Nat) (F : Nat → Nat) (S : Nat → Prop) (fa se : Nat → Int32) (r : Int32), cn_c (fun j => ¬ S j) 12 < n → ar_I 12 fa F → ar_S se S → dj_I (ch_V rk E) s S F → dj_N S F r → wX_distanceUp_124 post xP xZ n r aFr aTo aLe aRd aFd aKp aFa aSe fa se aHp aPl aEg aRk aTH aFH aLm aFM aTM aFl aBo aAc := by
  intro n
  induction n with
  | zero => intro F S fa se r h; omega
  | succ n ih =>
    intro F S fa se r hn hF hS I hr
    rcases hr with ⟨r1, r2⟩ | ⟨u, u1, u2, u3, u4, u5⟩
    · exact br_t (by rw [r1]; decide) (K fa se (ar_ext hF (dj_end I r2)))
    · rw [u2]
      have hS' := ar_Su hS u1
      have I' := dj_up I u1 u5 u3
      refine br_f (br_0 (by omega)) ⟨ar_n u1, nm_e ⟨12 + 1, xw_u138 u1 hE bE hk bk I.2.1 (fun fa' hF' => xw_nob hF' hS' I'.2.1 (fun r' hr' => ih _ _ fa' _ r' (dj_cn u1 u3 hn) hF' hS' I' hr')) 12 0 fa rfl (ar_m0 hF)⟩⟩
theorem xw_eng2 {post : Int32 → SX → Prop} {s t : Nat} (hs : s < 12) (ht : t < 12) (hE : ar_2 12 aEg E) (S : ch_S R E) (hC : ch_C R rk E (fun _ => True)) (hk : ar_I 12 aRk rk) (bk : ∀ j, j < 12 → rk j < 12)
    (K : ∀ fa se fb sb, post (nI (gd_d R s t)) (xP, xZ, aFr, aTo, aLe, aRd, aFd, aKp, fa, se, fb, sb, aHp, aPl, aEg, aRk, aTH, aFH, aLm, aFM, aTM, aFl, aBo, aAc)) : wpX_distanceUp post (xP, xZ, aFr, aTo, aLe, aRd, aFd, aKp, aFa, aSe, aFb, aSb, aHp, aPl, aEg, aRk, aTH, aFH, aLm, aFM, aTM, aFl, aBo, aAc) (nI s) (nI t) := by
  have bE : ∀ a b, a < 12 → b < 12 → E a b ≤ 1000000 := fun a b ha hb => (S a b ha hb).2
  refine xw_both hs ht (fun fa se fb sb hF hS hB hZ => ?_)
  have iF := dj_0 (ch_U rk E) (s := s)
  have iB := dj_0 (ch_V rk E) (s := t)
  refine xw_nof hF hS iF.2.1 (fun r hr => ⟨_, xw_u11 hE bE hk bk ?_ _ _ _ fa se r (Nat.lt_succ_self _) hF hS iF hr⟩)
  intro fa' se' hF'
  refine xw_nob hB hZ iB.2.1 (fun q hq => ⟨_, xw_u124 hE bE hk bk ?_ _ _ _ fb sb q (Nat.lt_succ_self _) hB hZ iB hq⟩)
  intro fb' sb' hB'
  refine xw_meet hF' hB' (fun v hv => gd_le _ _ hv) (fun v hv => gd_le _ _ hv) ?_
  rw [ch_end S hC hs ht (bi_mk _ _)]
  exact K fa' se' fb' sb'
end
end
section
/-! engine 3: labels -/
def hb_f (i : Nat) : Nat := (i * 5 + 6) % 12
theorem hb_lt (i : Nat) : hb_f i < 12 := Nat.mod_lt _ (by omega)
theorem hb_ne : ∀ i, i < 12 → ∀ j, j < i → hb_f i ≠ hb_f j := by decide +kernel
theorem hb_all : ∀ j, j < 12 → ∃ i, i < 12 ∧ j = hb_f i := by decide +kernel
theorem ar_Sc {a : Nat → Int32} {S T : Nat → Prop} (h : ar_S a S) (e : ∀ j, S j ↔ T j) : ar_S a T := fun j hj => by rw [h j hj, e j]
/-- the table that a search writes: column h holds the lengths of the points noted -/
def la_I (h : Nat) (A0 A : Nat → Nat → Nat) (P : Nat → Prop) (F : Nat → Nat) : Prop :=
  (∀ x g, x < 12 → g < 12 → g ≠ h → A x g = A0 x g) ∧ ∀ x, x < 12 → (P x → A x h = F x) ∧ (¬ P x → A x h = 1000000)
theorem la_K {h : Nat} {A0 A : Nat → Nat → Nat} {P : Nat → Prop} {F : Nat → Nat} (I : la_I h A0 A P F) (k0 : ∀ x g, x < 12 → g < 12 → A0 x g ≤ 1000000) (fK : ∀ v, v < 12 → F v ≤ 1000000) : ∀ x g, x < 12 → g < 12 → A x g ≤ 1000000 := by
  intro x g hx hg
  by_cases e : g = h
  · rw [e]
    rcases Classical.em (P x) with p | p
    · rw [(I.2 x hx).1 p]; exact fK x hx
    · rw [(I.2 x hx).2 p]; omega
  · rw [I.1 x g hx hg e]; exact k0 x g hx hg
theorem la_up {W : Nat → Nat → Nat} {h u : Nat} {Q : Nat → Nat} {S : Nat → Prop} {A0 A : Nat → Nat → Nat} {P : Nat → Prop} {F : Nat → Nat} (L : ls_I W h Q S P F) (I : la_I h A0 A P F) (hu : u < 12) (hS : ¬ S u) : la_I h A0 (up_2 A u h (F u)) (fun j => P j ∨ j = u) (dj_rx W u F) := by
  have e := ls_keep L hu hS
  refine ⟨fun x g hx hg hne => ?_, fun x hx => ⟨fun p => ?_, fun p => ?_⟩⟩
  · have : up_2 A u h (F u) x g = A x g := if_neg (fun q => hne q.2)
    rw [this]; exact I.1 x g hx hg hne
  · rw [e x hx (p.elim (fun q => Or.inl (L.2.2.2.2.2.1 x hx q).1) Or.inr)]
    by_cases q : x = u
    · rw [q]; exact if_pos ⟨rfl, rfl⟩
    · have : up_2 A u h (F u) x h = A x h := if_neg (fun z => q z.1)
      rw [this]; exact (I.2 x hx).1 (p.elim id (fun z => absurd z q))
  · have : up_2 A u h (F u) x h = A x h := if_neg (fun z => p (Or.inr z.1))
    rw [this]; exact (I.2 x hx).2 (fun z => p (Or.inl z))
section
variable {xP xZ : Int32} {aFr aTo aLe aRd aFd aKp aFa aSe aFb aSb aHp aPl aEg aRk aTH aFH aLm aFM aTM aFl aBo aAc : Nat → Int32}
variable {R TH FH : Nat → Nat → Nat}
theorem xw_labels {post : Int32 → Prop} {s t : Nat} (hs : s < 12) (ht : t < 12) (hT : ar_2 12 aTH TH) (hF : ar_2 12 aFH FH) (tK : ∀ x g, x < 12 → g < 12 → TH x g ≤ 1000000) (fK : ∀ x g, x < 12 → g < 12 → FH x g ≤ 1000000)
    (K : post (nI (lb_q TH FH s t))) : wpX_distanceByLabels post (xP, xZ, aFr, aTo, aLe, aRd, aFd, aKp, aFa, aSe, aFb, aSb, aHp, aPl, aEg, aRk, aTH, aFH, aLm, aFM, aTM, aFl, aBo, aAc) (nI s) (nI t) := by
  have l : ∀ (d i : Nat), i + d = 12 → wX_distanceByLabels_6 post (nI s) (nI t) xP xZ aFr aTo aLe aRd aFd aKp aFa aSe aFb aSb aHp aPl aEg aRk aTH aFH aLm aFM aTM aFl aBo aAc (d + 1) (nI (mk_m (fun g => TH s g + FH t g) i)) (nI i) := by
    intro d
    induction d with
    | zero =>
      intro i hi
      have e : i = 12 := by omega
      subst e
      exact br_t (by decide) K
    | succ d ih =>
      intro i hid
      have hi : i < 12 := by omega
      have b1 := tK s i hs hi
      have b2 := fK t i ht hi
      have b3 := mk_K (fun g => TH s g + FH t g) i
      have g := ih (i + 1) (by omega)
      refine br_f (nI_ge (b := 12) hi (by decide)) ⟨ar_n2 (n := 12) hs hi, ar_n2 (n := 12) ht hi, nm_r (e' := nI (TH s i + FH t i)) (by rw [ar_r2 hT hs hi, ar_r2 hF ht hi, nI_add]) (br_le rfl rfl (by omega) (by omega) (fun h => nm_r (nI_1 i) ?_) (fun h => nm_r (nI_1 i) ?_))⟩
      · have e : mk_m (fun g => TH s g + FH t g) (i + 1) = mk_m (fun g => TH s g + FH t g) i := by
          show min (mk_m (fun g => TH s g + FH t g) i) (TH s i + FH t i) = _
          omega
        rw [e] at g; exact g
      · have e : mk_m (fun g => TH s g + FH t g) (i + 1) = TH s i + FH t i := by
          show min (mk_m (fun g => TH s g + FH t g) i) (TH s i + FH t i) = _
          omega
        rw [e] at g; exact g
  exact ⟨12 + 1, l 12 0 rfl⟩
theorem xw_lf11 {post : SX → Prop} {h : Nat} {Q : Nat → Nat} {B A0 : Nat → Nat → Nat} (hh : h < 12) (hR : ar_2 12 aRd R) (bR : ∀ a b, R a b ≤ 1000000) (hB : ar_2 12 aTH B) (bB : ∀ x g, x < 12 → g < 12 → B x g ≤ 1000000) (k0 : ∀ x g, x < 12 → g < 12 → A0 x g ≤ 1000000) (qK : ∀ u, Q u ≤ 1000000)
    (hQ : ∀ A' u, u < 12 → (∀ x g, x < 12 → g < 12 → g ≠ h → A' x g = A0 x g) → A' u h = 1000000 → lb_q B A' h u = Q u)
    (K : ∀ fa se ta A P F S, ls_I R h Q S P F → (∀ p, p < 12 → ¬ S p → 1000000 ≤ F p) → ar_2 12 ta A → la_I h A0 A P F → post (xP, xZ, aFr, aTo, aLe, aRd, aFd, aKp, fa, se, aFb, aSb, aHp, aPl, aEg, aRk, aTH, ta, aLm, aFM, aTM, aFl, aBo, aAc)) :
    ∀ (n : Nat) (F : Nat → Nat) (S P : Nat → Prop) (A : Nat → Nat → Nat) (fa se ta : Nat → Int32) (r : Int32), cn_c (fun j => ¬ S j) 12 < n → ar_I 12 fa F → ar_S se S → ar_2 12 ta A → ls_I R h Q S P F → la_I h A0 A P F → dj_N S F r → wX_labelFrom_11 post (nI h) n r xP xZ aFr aTo aLe aRd aFd aKp fa se aFb aSb aHp aPl aEg aRk aTH ta aLm aFM aTM aFl aBo aAc := by
  intro n
  induction n with
  | zero => intro F S P A fa se ta r hn; omega
  | succ n ih =>
    intro F S P A fa se ta r hn hF hS hA I J hr
    have fK := I.2.1
    rcases hr with ⟨r1, r2⟩ | ⟨u, u1, u2, u3, u4, u5⟩
    · exact br_t (by rw [r1]; decide) (K fa se ta A P F S I r2 hA J)
    · rw [u2]
      have kA := la_K J k0 fK
      have nP : ¬ P u := fun p => u3 (I.2.2.2.2.2.1 u u1 p).1
      have eq : lb_q B A h u = Q u := hQ A u u1 J.1 ((J.2 u u1).2 nP)
      have bu := fK u u1
      have bq := qK u
      refine br_f (br_0 (by omega)) (xw_labels hh u1 hB hA bB kA ⟨ar_n u1, br_le (congrArg nI eq) (ar_r hF u1) (by omega) (by omega) (fun hle => ?_) (fun hlt => ⟨ar_n u1, ar_n2 (n := 12) u1 hh, nm_r (e' := upd ta (u * 12 + h) (nI (F u))) (by rw [ar_ix, ar_u (by omega), ar_r hF u1]) ?_⟩)⟩)
      · unfold wX_labelFrom_52
        have hS' := ar_Su hS u1
        exact ⟨ar_n u1, nm_e (xw_nof hF hS' fK (fun r' hr' => ih F _ P A fa _ ta r' (dj_cn u1 u3 hn) hF hS' hA (ls_cut I u1 u3 u5 hle) J hr'))⟩
      · refine xw_stf u1 hF hS fK hR bR (fun fa' se' hF' hS' => ?_)
        have I' := ls_up I u1 u3 u5 hlt
        unfold wX_labelFrom_52
        have hS2 := ar_Sc (ar_Su hS' u1) (T := fun j => S j ∨ j = u) (fun j => ⟨fun z => z.elim id Or.inr, Or.inl⟩)
        exact ⟨ar_n u1, nm_e (xw_nof hF' hS2 I'.2.1 (fun r' hr' => ih _ _ _ _ fa' _ _ r' (dj_cn u1 u3 hn) hF' hS2 (up_ar hA u1 hh) I' (la_up I J u1 u3) hr'))⟩
theorem xw_lb11 {post : SX → Prop} {h : Nat} {Q : Nat → Nat} {B A0 : Nat → Nat → Nat} (hh : h < 12) (hR : ar_2 12 aRd R) (bR : ∀ a b, R a b ≤ 1000000) (hB : ar_2 12 aFH B) (bB : ∀ x g, x < 12 → g < 12 → B x g ≤ 1000000) (k0 : ∀ x g, x < 12 → g < 12 → A0 x g ≤ 1000000) (qK : ∀ u, Q u ≤ 1000000)
    (hQ : ∀ A' u, u < 12 → (∀ x g, x < 12 → g < 12 → g ≠ h → A' x g = A0 x g) → A' u h = 1000000 → lb_q A' B u h = Q u)
    (K : ∀ fa se ta A P F S, ls_I (fun a b => R b a) h Q S P F → (∀ p, p < 12 → ¬ S p → 1000000 ≤ F p) → ar_2 12 ta A → la_I h A0 A P F → post (xP, xZ, aFr, aTo, aLe, aRd, aFd, aKp, aFa, aSe, fa, se, aHp, aPl, aEg, aRk, ta, aFH, aLm, aFM, aTM, aFl, aBo, aAc)) :
    ∀ (n : Nat) (F : Nat → Nat) (S P : Nat → Prop) (A : Nat → Nat → Nat) (fa se ta : Nat → Int32) (r : Int32), cn_c (fun j => ¬ S j) 12 < n → ar_I 12 fa F → ar_S se S → ar_2 12 ta A → ls_I (fun a b => R b a) h Q S P F → la_I h A0 A P F → dj_N S F r → wX_labelTo_11 post (nI h) n r xP xZ aFr aTo aLe aRd aFd aKp aFa aSe fa se aHp aPl aEg aRk ta aFH aLm aFM aTM aFl aBo aAc := by
  intro n
  induction n with
  | zero => intro F S P A fa se ta r hn; omega
  | succ n ih =>
    intro F S P A fa se ta r hn hF hS hA I J hr
    have fK := I.2.1
    rcases hr with ⟨r1, r2⟩ | ⟨u, u1, u2, u3, u4, u5⟩
    · exact br_t (by rw [r1]; decide) (K fa se ta A P F S I r2 hA J)
    · rw [u2]
      have kA := la_K J k0 fK
      have nP : ¬ P u := fun p => u3 (I.2.2.2.2.2.1 u u1 p).1
      have eq : lb_q A B u h = Q u := hQ A u u1 J.1 ((J.2 u u1).2 nP)
      have bu := fK u u1
      have bq := qK u
      refine br_f (br_0 (by omega)) (xw_labels u1 hh hA hB kA bB ⟨ar_n u1, br_le (congrArg nI eq) (ar_r hF u1) (by omega) (by omega) (fun hle => ?_) (fun hlt => ⟨ar_n u1, ar_n2 (n := 12) u1 hh, nm_r (e' := upd ta (u * 12 + h) (nI (F u))) (by rw [ar_ix, ar_u (by omega), ar_r hF u1]) ?_⟩)⟩)
      · unfold wX_labelTo_52
        have hS' := ar_Su hS u1
        exact ⟨ar_n u1, nm_e (xw_nob hF hS' fK (fun r' hr' => ih F _ P A fa _ ta r' (dj_cn u1 u3 hn) hF hS' hA (ls_cut I u1 u3 u5 hle) J hr'))⟩
      · refine xw_stb u1 hF hS fK hR bR (fun fa' se' hF' hS' => ?_)
        have I' := ls_up I u1 u3 u5 hlt
        unfold wX_labelTo_52
        have hS2 := ar_Sc (ar_Su hS' u1) (T := fun j => S j ∨ j = u) (fun j => ⟨fun z => z.elim id Or.inr, Or.inl⟩)
        exact ⟨ar_n u1, nm_e (xw_nob hF' hS2 I'.2.1 (fun r' hr' => ih _ _ _ _ fa' _ _ r' (dj_cn u1 u3 hn) hF' hS2 (up_ar hA u1 hh) I' (la_up I J u1 u3) hr'))⟩
theorem xw_lfrom {post : SX → Prop} {h : Nat} {H : Nat → Prop} (hh : h < 12) (hR : ar_2 12 aRd R) (bR : ∀ a b, R a b ≤ 1000000) (h1 : ∀ a b, 1 ≤ R a b) (hT : ar_2 12 aTH TH) (hF : ar_2 12 aFH FH) (I : lb_I R H TH FH) (nH : ¬ H h)
    (K : ∀ fa se fb sb ta A, ar_2 12 ta A → (∀ x g, x < 12 → g < 12 → g ≠ h → A x g = FH x g) → (∀ x, x < 12 → A x h = 1000000 ∨ A x h = gd_d R h x) → (∀ x, x < 12 → gd_d R h x < 1000000 → lb_q TH FH h x ≤ gd_d R h x ∨ A x h = gd_d R h x) → post (xP, xZ, aFr, aTo, aLe, aRd, aFd, aKp, fa, se, fb, sb, aHp, aPl, aEg, aRk, aTH, ta, aLm, aFM, aTM, aFl, aBo, aAc)) : wpX_labelFrom post (xP, xZ, aFr, aTo, aLe, aRd, aFd, aKp, aFa, aSe, aFb, aSb, aHp, aPl, aEg, aRk, aTH, aFH, aLm, aFM, aTM, aFl, aBo, aAc) (nI h) := by
  have tK : ∀ x g, x < 12 → g < 12 → TH x g ≤ 1000000 := fun x g a b => (I.1 x g a b).1
  have fK : ∀ x g, x < 12 → g < 12 → FH x g ≤ 1000000 := fun x g a b => (I.2.1 x g a b).1
  have th : TH h h = 1000000 := by
    have := tK h h hh hh
    rcases Nat.lt_or_ge (TH h h) 1000000 with z | z
    · exact absurd ((I.1 h h hh hh).2 z).1 nH
    · omega
  have fh : ∀ x, x < 12 → FH x h = 1000000 := by
    intro x hx
    have := fK x h hx hh
    rcases Nat.lt_or_ge (FH x h) 1000000 with z | z
    · exact absurd ((I.2.1 x h hx hh).2 z).1 nH
    · omega
  refine xw_both hh hh (fun fa se fb sb hFa hSe _ _ => xw_nof hFa hSe (dj_0 R).2.1 (fun r hr => ⟨_, xw_lf11 (Q := lb_q TH FH h) (B := TH) (A0 := FH) hh hR bR hT tK fK (fun u => mk_K _ _) ?_ ?_ _ _ _ _ FH fa se aFH r (Nat.lt_succ_self _) hFa hSe hF (ls_0 R _) ⟨fun _ _ _ _ _ => rfl, fun x hx => ⟨fun z => z.elim, fun _ => fh x hx⟩⟩ hr⟩))
  · intro A' u hu e1 _
    refine mk_cap (fun g hg => ?_)
    by_cases e : g = h
    · right
      show 1000000 ≤ TH h g + A' u g ∧ 1000000 ≤ TH h g + FH u g
      rw [e, th]; omega
    · left
      show TH h g + A' u g = TH h g + FH u g
      rw [e1 u g hu hg e]
  · intro fa' se' ta A P F S L hm hA J
    have en := ls_end h1 L hm (lb_fw I hh)
    have eP := ls_P L en (fun u _ => mk_K _ _)
    refine K fa' se' fb sb ta A hA J.1 (fun x hx => ?_) (fun x hx hk => ?_)
    · rcases Classical.em (P x) with p | p
      · rw [(J.2 x hx).1 p]; exact Or.inr (eP x hx p)
      · exact Or.inl ((J.2 x hx).2 p)
    · rcases en x hx hk with z | ⟨z1, z2⟩
      · exact Or.inl z
      · rw [(J.2 x hx).1 z1]; exact Or.inr z2
theorem xw_lto {post : SX → Prop} {h : Nat} {H : Nat → Prop} {FH' : Nat → Nat → Nat} (hh : h < 12) (hR : ar_2 12 aRd R) (bR : ∀ a b, R a b ≤ 1000000) (h1 : ∀ a b, 1 ≤ R a b) (hT : ar_2 12 aTH TH) (hF : ar_2 12 aFH FH') (I : lb_I R H TH FH) (nH : ¬ H h) (fK : ∀ x g, x < 12 → g < 12 → FH' x g ≤ 1000000) (fe : ∀ x g, x < 12 → g < 12 → g ≠ h → FH' x g = FH x g)
    (K : ∀ fa se fb sb ta A, ar_2 12 ta A → (∀ x g, x < 12 → g < 12 → g ≠ h → A x g = TH x g) → (∀ x, x < 12 → A x h = 1000000 ∨ A x h = gd_d R x h) → (∀ x, x < 12 → gd_d R x h < 1000000 → lb_q TH FH x h ≤ gd_d R x h ∨ A x h = gd_d R x h) → post (xP, xZ, aFr, aTo, aLe, aRd, aFd, aKp, fa, se, fb, sb, aHp, aPl, aEg, aRk, ta, aFH, aLm, aFM, aTM, aFl, aBo, aAc)) : wpX_labelTo post (xP, xZ, aFr, aTo, aLe, aRd, aFd, aKp, aFa, aSe, aFb, aSb, aHp, aPl, aEg, aRk, aTH, aFH, aLm, aFM, aTM, aFl, aBo, aAc) (nI h) := by
  have tK : ∀ x g, x < 12 → g < 12 → TH x g ≤ 1000000 := fun x g a b => (I.1 x g a b).1
  have th : ∀ x, x < 12 → TH x h = 1000000 := by
    intro x hx
    have := tK x h hx hh
    rcases Nat.lt_or_ge (TH x h) 1000000 with z | z
    · exact absurd ((I.1 x h hx hh).2 z).1 nH
    · omega
  refine xw_both hh hh (fun fa se fb sb _ _ hFb hSb => xw_nob hFb hSb (dj_0 (fun a b => R b a)).2.1 (fun r hr => ⟨_, xw_lb11 (R := R) (Q := fun u => lb_q TH FH u h) (B := FH') (A0 := TH) hh hR bR hF fK tK (fun u => mk_K _ _) ?_ ?_ _ _ _ _ TH fb sb aTH r (Nat.lt_succ_self _) hFb hSb hT (ls_0 _ _) ⟨fun _ _ _ _ _ => rfl, fun x hx => ⟨fun z => z.elim, fun _ => th x hx⟩⟩ hr⟩))
  · intro A' u hu e1 e2
    refine mk_cap (fun g hg => ?_)
    by_cases e : g = h
    · right
      show 1000000 ≤ A' u g + FH' h g ∧ 1000000 ≤ TH u g + FH h g
      rw [e, e2, th u hu]; omega
    · left
      show A' u g + FH' h g = TH u g + FH h g
      rw [e1 u g hu hg e, fe h g hh hg e]
  · intro fa' se' ta A P F S L hm hA J
    have en := ls_end (fun a b => h1 b a) L hm (lb_bw I hh)
    have eP := ls_P L en (fun u _ => mk_K _ _)
    refine K fa se fa' se' ta A hA J.1 (fun x hx => ?_) (fun x hx hk => ?_)
    · rcases Classical.em (P x) with p | p
      · rw [(J.2 x hx).1 p, ← gd_tr R hx hh]; exact Or.inr (eP x hx p)
      · exact Or.inl ((J.2 x hx).2 p)
    · rw [← gd_tr R hx hh] at hk ⊢
      rcases en x hx hk with z | ⟨z1, z2⟩
      · exact Or.inl z
      · rw [(J.2 x hx).1 z1]; exact Or.inr z2
def hb_H (i : Nat) (j : Nat) : Prop := ∃ k, k < i ∧ j = hb_f k
theorem hb_s (i : Nat) : (fun j => hb_H i j ∨ j = hb_f i) = hb_H (i + 1) := by
  funext j
  apply propext
  constructor
  · rintro (⟨k, a, b⟩ | e)
    · exact ⟨k, by omega, b⟩
    · exact ⟨i, by omega, e⟩
  · rintro ⟨k, a, b⟩
    rcases Nat.lt_or_ge k i with z | z
    · exact Or.inl ⟨k, z, b⟩
    · have e : k = i := by omega
      rw [e] at b
      exact Or.inr b
theorem xw_lay3 {post : SX → Prop} (hR : ar_2 12 aRd R) (bR : ∀ a b, R a b ≤ 1000000) (h1 : ∀ a b, 1 ≤ R a b)
    (K : ∀ fa se fb sb ta fb' TH FH H, ar_2 12 ta TH → ar_2 12 fb' FH → lb_I R H TH FH → (∀ j, j < 12 → H j) → post (xP, xZ, aFr, aTo, aLe, aRd, aFd, aKp, fa, se, fb, sb, aHp, aPl, aEg, aRk, ta, fb', aLm, aFM, aTM, aFl, aBo, aAc)) : wpX_layLabels post (xP, xZ, aFr, aTo, aLe, aRd, aFd, aKp, aFa, aSe, aFb, aSb, aHp, aPl, aEg, aRk, aTH, aFH, aLm, aFM, aTM, aFl, aBo, aAc) := by
  have l33 : ∀ (d i : Nat) (fa se fb sb ta fh : Nat → Int32) (TH FH : Nat → Nat → Nat), i + d = 12 → ar_2 12 ta TH → ar_2 12 fh FH → lb_I R (hb_H i) TH FH → wX_layLabels_33 post (d + 1) (nI i) xP xZ aFr aTo aLe aRd aFd aKp fa se fb sb aHp aPl aEg aRk ta fh aLm aFM aTM aFl aBo aAc := by
    intro d
    induction d with
    | zero =>
      intro i fa se fb sb ta fh TH FH hi hT hF I
      have e : i = 12 := by omega
      subst e
      exact br_t (by decide) (K fa se fb sb ta fh TH FH _ hT hF I hb_all)
    | succ d ih =>
      intro i fa se fb sb ta fh TH FH hid hT hF I
      have hi : i < 12 := by omega
      have hh := hb_lt i
      have nH : ¬ hb_H i (hb_f i) := fun ⟨k, a, b⟩ => hb_ne i hi k a b
      have eh : nI i * 5 + 6 = nI (i * 5 + 6) := by
        show nI i * nI 5 + nI 6 = _
        rw [pk_mul, nI_add]
      refine br_f (nI_ge (b := 12) hi (by decide)) ⟨by decide, nm_r (e' := nI (hb_f i)) (by rw [eh]; exact pk_rem (d := 12) (by omega) (by omega) (by omega)) (xw_lfrom hh hR bR h1 hT hF I nH (fun fa' se' fb' sb' fh' FA hFA f0 f1 f2 => ?_))⟩
      have fK : ∀ x g, x < 12 → g < 12 → FA x g ≤ 1000000 := by
        intro x g hx hg
        by_cases e : g = hb_f i
        · rw [e]
          rcases f1 x hx with z | z
          · omega
          · rw [z]; exact gd_le R _ hx
        · rw [f0 x g hx hg e]; exact (I.2.1 x g hx hg).1
      refine xw_lto hh hR bR h1 hT hFA I nH fK f0 (fun fa2 se2 fb2 sb2 ta' TA hTA t0 t1 t2 => ?_)
      refine ⟨ar_n2 (n := 12) hh hh, nm_r (e' := upd ta' (hb_f i * 12 + hb_f i) (nI 0)) (by rw [ar_ix, ar_u (by omega)]; rfl) ⟨ar_n2 (n := 12) hh hh, nm_r (e' := upd fh' (hb_f i * 12 + hb_f i) (nI 0)) (by rw [ar_ix, ar_u (by omega)]; rfl) (nm_r (nI_1 i) (ih (i + 1) fa2 se2 fb2 sb2 _ _ _ _ (by omega) (up_ar hTA hh hh) (up_ar hFA hh hh) ?_))⟩⟩
      rw [← hb_s i]
      refine lb_step I hh nH (fun x g hx hg e => (if_neg (fun z => e z.2)).trans (t0 x g hx hg e)) (fun x g hx hg e => (if_neg (fun z => e z.2)).trans (f0 x g hx hg e)) (fun x hx => ?_) (fun x hx => ?_) (fun x hx hk => ?_) (fun x hx hk => ?_)
      · by_cases e : x = hb_f i
        · right; rw [e, gd_ss]; exact if_pos ⟨rfl, rfl⟩
        · have : up_2 TA (hb_f i) (hb_f i) 0 x (hb_f i) = TA x (hb_f i) := if_neg (fun z => e z.1)
          rw [this]; exact t1 x hx
      · by_cases e : x = hb_f i
        · right; rw [e, gd_ss]; exact if_pos ⟨rfl, rfl⟩
        · have : up_2 FA (hb_f i) (hb_f i) 0 x (hb_f i) = FA x (hb_f i) := if_neg (fun z => e z.1)
          rw [this]; exact f1 x hx
      · by_cases e : x = hb_f i
        · right; rw [e, gd_ss]; exact if_pos ⟨rfl, rfl⟩
        · have : up_2 TA (hb_f i) (hb_f i) 0 x (hb_f i) = TA x (hb_f i) := if_neg (fun z => e z.1)
          rw [this]; exact t2 x hx hk
      · by_cases e : x = hb_f i
        · right; rw [e, gd_ss]; exact if_pos ⟨rfl, rfl⟩
        · have : up_2 FA (hb_f i) (hb_f i) 0 x (hb_f i) = FA x (hb_f i) := if_neg (fun z => e z.1)
          rw [this]; exact f2 x hx hk
  have l2 : ∀ (d i : Nat) (ta fh : Nat → Int32), i + d = 144 → (∀ j, j < i → ta j = nI 1000000 ∧ fh j = nI 1000000) → wX_layLabels_2 post xP xZ (d + 1) (nI i) aFr aTo aLe aRd aFd aKp aFa aSe aFb aSb aHp aPl aEg aRk ta fh aLm aFM aTM aFl aBo aAc := by
    intro d
    induction d with
    | zero =>
      intro i ta fh hi h
      have e : i = 144 := by omega
      subst e
      have e0 : hb_H 0 = (fun _ => False) := by
        funext j
        apply propext
        exact ⟨fun ⟨k, a, _⟩ => absurd a (by omega), fun z => z.elim⟩
      exact br_t (by decide) ⟨12 + 1, l33 12 0 aFa aSe aFb aSb ta fh _ _ rfl (fun u v hu hv => (h _ (by omega)).1) (fun u v hu hv => (h _ (by omega)).2) (by rw [e0]; exact lb_0)⟩
    | succ d ih =>
      intro i ta fh hid h
      have hi : i < 144 := by omega
      refine br_f (nI_ge (b := 144) hi (by decide)) ⟨ar_n hi, nm_r (ar_u (by omega) ta _) ⟨ar_n hi, nm_r (ar_u (by omega) fh _) (nm_r (nI_1 i) (ih (i + 1) _ _ (by omega) (fun j hj => ?_)))⟩⟩
      by_cases e : j = i
      · rw [e, pk_us, pk_us]; exact ⟨rfl, rfl⟩
      · rw [pk_un e, pk_un e]; exact h j (by omega)
  exact ⟨144 + 1, l2 144 0 aTH aFH rfl (fun j h => by omega)⟩
end
end
section
/-! engine 4: landmarks -/
theorem br_sub {A B : Prop} {a b m : Nat} {x y : Int32} (hx : x = nI b - nI a) (hy : y = nI m) (ha : a ≤ 1000000) (hb : b ≤ 1000000) (hm : m ≤ 1000000) (f : b - a ≤ m → A) (g : m < b - a → B) : (x ≤ y → A) ∧ (¬ x ≤ y → B) := by
  rw [hx, hy]
  refine br_p (b - a ≤ m) ?_ f (fun h => g (by omega))
  rw [Int32.le_iff_toInt_le, pk_sub_toInt (by omega) (by omega), nI_toInt (by omega)]
  omega
def gn_N (n : Nat) (S : Nat → Prop) (F p : Nat → Nat) (r w : Int32) : Prop :=
  (r = -1 ∧ w = nI 1000000 ∧ ∀ q, q < n → ¬ S q → 1000000 ≤ F q) ∨ ∃ u, u < n ∧ r = nI u ∧ w = nI (F u + p u) ∧ ¬ S u ∧ F u < 1000000 ∧ ∀ q, q < n → ¬ S q → F q < 1000000 → F u + p u ≤ F q + p q
def as_B (S : Nat → Prop) (F : Nat → Nat) : Prop := (∀ v, v < 12 → F v < 1000000 → F v ≤ 30 * cn_c S 12) ∧ ∀ v, v < 12 → S v → F v < 1000000
theorem as_b {S : Nat → Prop} {F : Nat → Nat} (h : as_B S F) : ∀ v, v < 12 → F v < 1000000 → F v ≤ 360 := by
  intro v hv hF
  have := h.1 v hv hF
  have := cn_le S 12
  omega
theorem as_Bu {R : Nat → Nat → Nat} {S : Nat → Prop} {F : Nat → Nat} {u : Nat} (h : as_B S F) (R30 : ∀ a b, R a b = 1000000 ∨ R a b ≤ 30) (hK : ∀ v, v < 12 → F v ≤ 1000000) (hu : u < 12) (hS : ¬ S u) (hF : F u < 1000000) : as_B (fun j => S j ∨ j = u) (dj_rx R u F) := by
  have c := cn_add (P := S) hS hu
  refine ⟨fun v hv hv' => ?_, fun v hv hS' => ?_⟩
  · rw [c]
    have a := h.1 u hu hF
    have b := R30 u v
    have d := hK v hv
    have hv2 : min (F v) (F u + R u v) < 1000000 := hv'
    show min (F v) (F u + R u v) ≤ 30 * (cn_c S 12 + 1)
    by_cases z : F v < 1000000
    · have := h.1 v hv z
      omega
    · omega
  · show min (F v) (F u + R u v) < 1000000
    rcases hS' with z | z
    · have := h.2 v hv z
      omega
    · rw [z]; omega
section
variable {xP xZ : Int32} {aFr aTo aLe aRd aFd aKp aFa aSe aFb aSb aHp aPl aEg aRk aTH aFH aLm aFM aTM aFl aBo aAc : Nat → Int32}
variable {R FM TM : Nat → Nat → Nat} {F : Nat → Nat} {S : Nat → Prop}
theorem xw_lm82 {post : SX → Prop} {J : Int32 → Int32 → Int32 → (Nat → Int32) → (Nat → Int32) → (Nat → Int32) → (Nat → Int32) → (Nat → Int32) → (Nat → Int32) → (Nat → Int32) → (Nat → Int32) → (Nat → Int32) → (Nat → Int32) → (Nat → Int32) → (Nat → Int32) → (Nat → Int32) → (Nat → Int32) → (Nat → Int32) → (Nat → Int32) → (Nat → Int32) → (Nat → Int32) → (Nat → Int32) → (Nat → Int32) → (Nat → Int32) → (Nat → Int32) → Prop} {l : Nat} {B : Nat → Nat} (hl : l < 3) (hF : ar_I 12 aFa F) (hB : ar_I 12 aFb B)
    (K : ∀ fm tm, (∀ g p, g < 3 → p < 12 → (g ≠ l → fm (g * 12 + p) = aFM (g * 12 + p) ∧ tm (g * 12 + p) = aTM (g * 12 + p)) ∧ (g = l → fm (g * 12 + p) = nI (F p) ∧ tm (g * 12 + p) = nI (B p))) → J (nI (l + 1)) xP xZ aFr aTo aLe aRd aFd aKp aFa aSe aFb aSb aHp aPl aEg aRk aTH aFH aLm fm tm aFl aBo aAc) :
    ∀ (d i : Nat) (fm tm : Nat → Int32), i + d = 12 → (∀ g p, g < 3 → p < 12 → (g ≠ l → fm (g * 12 + p) = aFM (g * 12 + p) ∧ tm (g * 12 + p) = aTM (g * 12 + p)) ∧ (g = l → p < i → fm (g * 12 + p) = nI (F p) ∧ tm (g * 12 + p) = nI (B p))) → wX_layLandmarks_82 post J (nI l) xP xZ (d + 1) (nI i) aFr aTo aLe aRd aFd aKp aFa aSe aFb aSb aHp aPl aEg aRk aTH aFH aLm fm tm aFl aBo aAc := by
  intro d
  induction d with
  | zero =>
    intro i fm tm hi h
    have e : i = 12 := by omega
    subst e
    exact br_t (by decide) (nm_r (nI_1 l) (K fm tm (fun g p hg hp => ⟨(h g p hg hp).1, fun e => (h g p hg hp).2 e hp⟩)))
  | succ d ih =>
    intro i fm tm hid h
    have hi : i < 12 := by omega
    refine br_f (nI_ge (b := 12) hi (by decide)) ⟨ar_n hi, ar_n2 (n := 3) hl hi, nm_r (e' := upd fm (l * 12 + i) (nI (F i))) (by rw [ar_ix, ar_u (by omega), ar_r hF hi]) ⟨ar_n hi, ar_n2 (n := 3) hl hi, nm_r (e' := upd tm (l * 12 + i) (nI (B i))) (by rw [ar_ix, ar_u (by omega), ar_r hB hi]) (nm_r (nI_1 i) (ih (i + 1) _ _ (by omega) (fun g p hg hp => ⟨fun e => ?_, fun e hpi => ?_⟩)))⟩⟩
    · rw [pk_un (by omega), pk_un (by omega)]
      exact (h g p hg hp).1 e
    · by_cases q : p = i
      · rw [e, q, pk_us, pk_us]; exact ⟨rfl, rfl⟩
      · rw [pk_un (by omega), pk_un (by omega)]
        exact (h g p hg hp).2 e (by omega)
theorem xw_lm41 {post : SX → Prop} {J : Int32 → Int32 → Int32 → (Nat → Int32) → (Nat → Int32) → (Nat → Int32) → (Nat → Int32) → (Nat → Int32) → (Nat → Int32) → (Nat → Int32) → (Nat → Int32) → (Nat → Int32) → (Nat → Int32) → (Nat → Int32) → (Nat → Int32) → (Nat → Int32) → (Nat → Int32) → (Nat → Int32) → (Nat → Int32) → (Nat → Int32) → (Nat → Int32) → (Nat → Int32) → (Nat → Int32) → (Nat → Int32) → (Nat → Int32) → Prop} {x1 : Int32} {s : Nat} (hR : ar_2 12 aRd R) (bR : ∀ a b, R a b ≤ 1000000) (K : ∀ fa se, ar_I 12 fa (gd_d R s) → wpX_nearestOpenBack (fun r => ∃ n : Nat, wX_layLandmarks_63 post J x1 n r xP xZ aFr aTo aLe aRd aFd aKp fa se aFb aSb aHp aPl aEg aRk aTH aFH aLm aFM aTM aFl aBo aAc) (xP, xZ, aFr, aTo, aLe, aRd, aFd, aKp, fa, se, aFb, aSb, aHp, aPl, aEg, aRk, aTH, aFH, aLm, aFM, aTM, aFl, aBo, aAc)) :
    ∀ (n : Nat) (F : Nat → Nat) (S : Nat → Prop) (fa se : Nat → Int32) (r : Int32), cn_c (fun j => ¬ S j) 12 < n → ar_I 12 fa F → ar_S se S → dj_I R s S F → dj_N S F r → wX_layLandmarks_41 post J x1 n r xP xZ aFr aTo aLe aRd aFd aKp fa se aFb aSb aHp aPl aEg aRk aTH aFH aLm aFM aTM aFl aBo aAc := by
  intro n
  induction n with
  | zero => intro F S fa se r h; omega
  | succ n ih =>
    intro F S fa se r hn hF hS I hr
    rcases hr with ⟨r1, r2⟩ | ⟨u, u1, u2, u3, u4, u5⟩
    · exact br_t (by rw [r1]; decide) (K fa se (ar_ext hF (dj_end I r2)))
    · rw [u2]
      have I' := dj_up I u1 u5 u3
      exact br_f (br_0 (by omega)) (xw_stf u1 hF hS I.2.1 hR bR (fun fa' se' hF' hS' => xw_nof hF' hS' I'.2.1 (fun r' hr' => ih _ _ fa' se' r' (dj_cn u1 u3 hn) hF' hS' I' hr')))
theorem xw_lm63 {post : SX → Prop} {J : Int32 → Int32 → Int32 → (Nat → Int32) → (Nat → Int32) → (Nat → Int32) → (Nat → Int32) → (Nat → Int32) → (Nat → Int32) → (Nat → Int32) → (Nat → Int32) → (Nat → Int32) → (Nat → Int32) → (Nat → Int32) → (Nat → Int32) → (Nat → Int32) → (Nat → Int32) → (Nat → Int32) → (Nat → Int32) → (Nat → Int32) → (Nat → Int32) → (Nat → Int32) → (Nat → Int32) → (Nat → Int32) → (Nat → Int32) → Prop} {x1 : Int32} {s : Nat} (hR : ar_2 12 aRd R) (bR : ∀ a b, R a b ≤ 1000000) (K : ∀ fa se, ar_I 12 fa (gd_d (fun a b => R b a) s) → ∃ n : Nat, wX_layLandmarks_82 post J x1 xP xZ n 0 aFr aTo aLe aRd aFd aKp aFa aSe fa se aHp aPl aEg aRk aTH aFH aLm aFM aTM aFl aBo aAc) :
    ∀ (n : Nat) (F : Nat → Nat) (S : Nat → Prop) (fa se : Nat → Int32) (r : Int32), cn_c (fun j => ¬ S j) 12 < n → ar_I 12 fa F → ar_S se S → dj_I (fun a b => R b a) s S F → dj_N S F r → wX_layLandmarks_63 post J x1 n r xP xZ aFr aTo aLe aRd aFd aKp aFa aSe fa se aHp aPl aEg aRk aTH aFH aLm aFM aTM aFl aBo aAc := by
  intro n
  induction n with
  | zero => intro F S fa se r h; omega
  | succ n ih =>
    intro F S fa se r hn hF hS I hr
    rcases hr with ⟨r1, r2⟩ | ⟨u, u1, u2, u3, u4, u5⟩
    · exact br_t (by rw [r1]; decide) (K fa se (ar_ext hF (dj_end I r2)))
    · rw [u2]
      have I' := dj_up I u1 u5 u3
      exact br_f (br_0 (by omega)) (xw_stb u1 hF hS I.2.1 hR bR (fun fa' se' hF' hS' => xw_nob hF' hS' I'.2.1 (fun r' hr' => ih _ _ fa' se' r' (dj_cn u1 u3 hn) hF' hS' I' hr')))
theorem xw_lay4 {post : SX → Prop} (hR : ar_2 12 aRd R) (bR : ∀ a b, R a b ≤ 1000000)
    (K : ∀ fa se fb sb lm fm tm, ar_2 3 fm (fun l p => gd_d R (lm_f l) p) → ar_2 3 tm (fun l p => gd_d R p (lm_f l)) → post (xP, xZ, aFr, aTo, aLe, aRd, aFd, aKp, fa, se, fb, sb, aHp, aPl, aEg, aRk, aTH, aFH, lm, fm, tm, aFl, aBo, aAc)) : wpX_layLandmarks post (xP, xZ, aFr, aTo, aLe, aRd, aFd, aKp, aFa, aSe, aFb, aSb, aHp, aPl, aEg, aRk, aTH, aFH, aLm, aFM, aTM, aFl, aBo, aAc) := by
  have l2 : ∀ (d l : Nat) (fa se fb sb lm fm tm : Nat → Int32), l + d = 3 → (∀ g p, g < l → p < 12 → fm (g * 12 + p) = nI (gd_d R (lm_f g) p) ∧ tm (g * 12 + p) = nI (gd_d R p (lm_f g))) → wX_layLandmarks_2 post (d + 1) (nI l) xP xZ aFr aTo aLe aRd aFd aKp fa se fb sb aHp aPl aEg aRk aTH aFH lm fm tm aFl aBo aAc := by
    intro d
    induction d with
    | zero =>
      intro l fa se fb sb lm fm tm hl h
      have e : l = 3 := by omega
      subst e
      exact br_t (by decide) (K fa se fb sb lm fm tm (fun g p hg hp => (h g p hg hp).1) (fun g p hg hp => (h g p hg hp).2))
    | succ d ih =>
      intro l fa se fb sb lm fm tm hld h
      have hl : l < 3 := by omega
      have hh := lm_lt l
      have e5 : nI l * 5 - nI l * 5 / 12 * 12 = nI (lm_f l) := by
        have : nI l * 5 = nI (l * 5) := pk_mul l 5
        rw [this]
        exact pk_rem (d := 12) (by omega) (by omega) (by omega)
      refine br_f (nI_ge (b := 3) hl (by decide)) ⟨by decide, ar_n hl, nm_r (e' := upd lm l (nI (lm_f l))) (by rw [ar_u (by omega), e5, sm_b _ (by omega)]) ⟨ar_n hl, ar_n hl, ?_⟩⟩
      rw [ar_cl (by omega), pk_us]
      refine xw_both hh hh (fun fa' se' fb' sb' hF hS hB hZ => xw_nof hF hS (dj_0 R).2.1 (fun r hr => ⟨_, xw_lm41 hR bR ?_ _ _ _ fa' se' r (Nat.lt_succ_self _) hF hS (dj_0 R) hr⟩))
      intro fa2 se2 hF2
      refine xw_nob hB hZ (dj_0 (fun a b => R b a)).2.1 (fun q hq => ⟨_, xw_lm63 hR bR ?_ _ _ _ fb' sb' q (Nat.lt_succ_self _) hB hZ (dj_0 (fun a b => R b a)) hq⟩)
      intro fb2 sb2 hB2
      refine ⟨12 + 1, xw_lm82 hl hF2 hB2 (fun fm' tm' g => ih (l + 1) fa2 se2 fb2 sb2 _ fm' tm' (by omega) (fun g' p hg hp => ?_)) 12 0 fm tm rfl (fun g p _ _ => ⟨fun _ => ⟨rfl, rfl⟩, fun _ z => by omega⟩)⟩
      by_cases e : g' = l
      · have := (g g' p (by omega) hp).2 e
        rw [this.1, this.2, e, gd_tr R hp hh]; exact ⟨rfl, rfl⟩
      · have := (g g' p (by omega) hp).1 e
        rw [this.1, this.2]
        exact h g' p (by omega) hp
  exact ⟨3 + 1, l2 3 0 aFa aSe aFb aSb aLm aFM aTM rfl (fun g p h => by omega)⟩
theorem xw_al71 {post : Int32 → Prop} {J : Int32 → Int32 → Prop} {p t l m : Nat} (hp : p < 12) (ht : t < 12) (hl : l < 3) (hT : ar_2 3 aTM TM) (tK : ∀ l p, l < 3 → p < 12 → TM l p ≤ 1000000) (hm : m ≤ 1000000)
    (K : J (nI (max m (al_t (TM l t) (TM l p)))) (nI (l + 1))) : wX_atLeast_71 post J (nI p) (nI t) (nI l) (nI m) xP xZ aFr aTo aLe aRd aFd aKp aFa aSe aFb aSb aHp aPl aEg aRk aTH aFH aLm aFM aTM aFl aBo aAc := by
  unfold wX_atLeast_71
  have b1 := tK l p hl hp
  have b2 := tK l t hl ht
  have z0 : al_t (TM l t) (TM l p) ≤ m → J (nI m) (nI (l + 1)) := fun h => by
    rw [show max m (al_t (TM l t) (TM l p)) = m by omega] at K; exact K
  refine ⟨ar_n2 (n := 3) hl hp, nm_r (e' := nI (TM l p)) (ar_r2 hT hl hp) ⟨ar_n2 (n := 3) hl ht, nm_r (e' := nI (TM l t)) (ar_r2 hT hl ht) (br_le (a := 1000000) rfl rfl (by omega) (by omega) (fun h => nm_r (nI_1 l) (z0 ?_)) (fun h1 => br_le (a := 1000000) rfl rfl (by omega) (by omega) (fun h => nm_r (nI_1 l) (z0 ?_)) (fun h2 => ?_)))⟩⟩
  · unfold al_t; rw [if_neg (by omega)]; omega
  · unfold al_t; rw [if_neg (by omega)]; omega
  · have e : al_t (TM l t) (TM l p) = TM l p - TM l t := if_pos ⟨h2, h1⟩
    rw [e] at z0 K
    refine br_sub rfl rfl b2 b1 hm (fun h => nm_r (nI_1 l) (z0 h)) (fun h => nm_r (e' := nI (TM l p - TM l t)) (pk_sub (by omega)) (nm_r (nI_1 l) ?_))
    rw [show max m (TM l p - TM l t) = TM l p - TM l t by omega] at K
    exact K
theorem xw_least {post : Int32 → Prop} {p t : Nat} (hp : p < 12) (ht : t < 12) (hF : ar_2 3 aFM FM) (hT : ar_2 3 aTM TM) (fK : ∀ l p, l < 3 → p < 12 → FM l p ≤ 1000000) (tK : ∀ l p, l < 3 → p < 12 → TM l p ≤ 1000000)
    (K : post (nI (al_f FM TM p t 3))) : wpX_atLeast post (xP, xZ, aFr, aTo, aLe, aRd, aFd, aKp, aFa, aSe, aFb, aSb, aHp, aPl, aEg, aRk, aTH, aFH, aLm, aFM, aTM, aFl, aBo, aAc) (nI p) (nI t) := by
  have aK : ∀ l, l ≤ 3 → al_f FM TM p t l ≤ 1000000 := by
    intro l
    induction l with
    | zero => intro _; exact Nat.zero_le _
    | succ l ih =>
      intro hl
      have a := ih (by omega)
      have b := fK l t (by omega) ht
      have c := tK l p (by omega) hp
      simp only [al_f, al_t]
      split <;> split <;> omega
  have l5 : ∀ (d l : Nat), l + d = 3 → wX_atLeast_5 post (nI p) (nI t) xP xZ aFr aTo aLe aRd aFd aKp aFa aSe aFb aSb aHp aPl aEg aRk aTH aFH aLm aFM aTM aFl aBo aAc (d + 1) (nI (al_f FM TM p t l)) (nI l) := by
    intro d
    induction d with
    | zero =>
      intro l hl
      have e : l = 3 := by omega
      subst e
      exact br_t (by decide) K
    | succ d ih =>
      intro l hld
      have hl : l < 3 := by omega
      have b1 := fK l p hl hp
      have b2 := fK l t hl ht
      have b3 := aK l (by omega)
      have g := ih (l + 1) (by omega)
      have nx : ∀ m : Nat, m ≤ 1000000 → m = max (al_f FM TM p t l) (al_t (FM l p) (FM l t)) → wX_atLeast_71 post (wX_atLeast_5 post (nI p) (nI t) xP xZ aFr aTo aLe aRd aFd aKp aFa aSe aFb aSb aHp aPl aEg aRk aTH aFH aLm aFM aTM aFl aBo aAc (d + 1)) (nI p) (nI t) (nI l) (nI m) xP xZ aFr aTo aLe aRd aFd aKp aFa aSe aFb aSb aHp aPl aEg aRk aTH aFH aLm aFM aTM aFl aBo aAc := by
        intro m hm e
        refine xw_al71 hp ht hl hT tK hm ?_
        rw [e]; exact g
      refine br_f (nI_ge (b := 3) hl (by decide)) ⟨ar_n2 (n := 3) hl hp, nm_r (e' := nI (FM l p)) (ar_r2 hF hl hp) ⟨ar_n2 (n := 3) hl ht, nm_r (e' := nI (FM l t)) (ar_r2 hF hl ht) (br_le (a := 1000000) rfl rfl (by omega) (by omega) (fun h => ?_) (fun h1 => br_le (a := 1000000) rfl rfl (by omega) (by omega) (fun h => ?_) (fun h2 => ?_)))⟩⟩
      · unfold wX_atLeast_70
        refine nx _ b3 ?_
        unfold al_t; rw [if_neg (by omega)]; omega
      · unfold wX_atLeast_70
        refine nx _ b3 ?_
        unfold al_t; rw [if_neg (by omega)]; omega
      · have e : al_t (FM l p) (FM l t) = FM l t - FM l p := if_pos ⟨h1, h2⟩
        refine br_sub rfl rfl b1 b2 b3 (fun h => ?_) (fun h => ?_)
        · unfold wX_atLeast_70
          exact nx _ b3 (by rw [e]; omega)
        · rw [pk_sub (show FM l p ≤ FM l t by omega)]
          exact nx _ (by omega) (by rw [e]; omega)
  exact ⟨3 + 1, l5 3 0 rfl⟩
theorem xw_g57 {post : Int32 → Prop} {J : Int32 → Int32 → Int32 → Prop} {x1 b : Int32} {i m w : Nat} {z : Int32} (hm : m ≤ 1000000) (hw : w ≤ 2000000) (hz : z = nI w) (K0 : m ≤ w → J b (nI m) (nI (i + 1))) (K1 : w < m → J (nI i) (nI w) (nI (i + 1))) : wX_nearestToGoal_57 post J x1 b (nI m) (nI i) z xP xZ aFr aTo aLe aRd aFd aKp aFa aSe aFb aSb aHp aPl aEg aRk aTH aFH aLm aFM aTM aFl aBo aAc := by
  unfold wX_nearestToGoal_57 wX_nearestToGoal_71
  rw [hz]
  exact br_le rfl rfl (by omega) (by omega) (fun h => br_le rfl rfl (by omega) (by omega) (fun _ => nm_r (nI_1 i) (K0 h)) (fun h2 => absurd h2 (by omega))) (fun h => br_le rfl rfl (by omega) (by omega) (fun h2 => absurd h2 (by omega)) (fun _ => nm_r (nI_1 i) (K1 h)))
theorem xw_goal {post : Int32 → Prop} {t : Nat} (ht : t < 12) (hF : ar_I 12 aFa F) (hS : ar_S aSe S) (fK : ∀ v, v < 12 → F v ≤ 1000000) (fB : ∀ v, v < 12 → F v < 1000000 → F v ≤ 360) (hM : ar_2 3 aFM FM) (hT : ar_2 3 aTM TM) (mK : ∀ l p, l < 3 → p < 12 → FM l p ≤ 1000000) (tK : ∀ l p, l < 3 → p < 12 → TM l p ≤ 1000000)
    (aB : ∀ p, p < 12 → al_f FM TM p t 3 ≤ 360) (K : ∀ r w, gn_N 12 S F (fun p => al_f FM TM p t 3) r w → post r) : wpX_nearestToGoal post (xP, xZ, aFr, aTo, aLe, aRd, aFd, aKp, aFa, aSe, aFb, aSb, aHp, aPl, aEg, aRk, aTH, aFH, aLm, aFM, aTM, aFl, aBo, aAc) (nI t) := by
  have l : ∀ (d i : Nat) (r w : Int32), i + d = 12 → gn_N i S F (fun p => al_f FM TM p t 3) r w → wX_nearestToGoal_8 post (nI t) xP xZ aFr aTo aLe aRd aFd aKp aFa aSe aFb aSb aHp aPl aEg aRk aTH aFH aLm aFM aTM aFl aBo aAc (d + 1) r w (nI i) := by
    intro d
    induction d with
    | zero =>
      intro i r w hi h
      have e : i = 12 := by omega
      subst e
      exact br_t (by decide) (K r w h)
    | succ d ih =>
      intro i r w hid h
      have hi : i < 12 := by omega
      have bi := fK i hi
      have ai := aB i hi
      obtain ⟨m, hm, rfl⟩ : ∃ m, m ≤ 1000000 ∧ w = nI m := by
        rcases h with ⟨_, b, _⟩ | ⟨u, a, _, b, _, c, _⟩
        · exact ⟨_, Nat.le_refl _, b⟩
        · have := fB u (by omega) c
          have := aB u (by omega)
          exact ⟨_, by show F u + al_f FM TM u t 3 ≤ 1000000; omega, b⟩
      have keep : (¬ S i → 1000000 ≤ F i) → wX_nearestToGoal_37 post (wX_nearestToGoal_8 post (nI t) xP xZ aFr aTo aLe aRd aFd aKp aFa aSe aFb aSb aHp aPl aEg aRk aTH aFH aLm aFM aTM aFl aBo aAc (d + 1)) (nI t) r (nI m) (nI i) xP xZ aFr aTo aLe aRd aFd aKp aFa aSe aFb aSb aHp aPl aEg aRk aTH aFH aLm aFM aTM aFl aBo aAc := by
        intro hk
        unfold wX_nearestToGoal_37
        refine xw_g57 (w := 1000000) hm (by omega) rfl (fun _ => ih (i + 1) r (nI m) (by omega) ?_) (fun z => absurd z (by omega))
        rcases h with ⟨a, b, c⟩ | ⟨u, a, b, b', c, d', e⟩
        · refine Or.inl ⟨a, b, fun q hq hS' => ?_⟩
          rcases Nat.lt_or_ge q i with z | z
          · exact c q z hS'
          · have eq : q = i := by omega
            rw [eq] at hS' ⊢; exact hk hS'
        · refine Or.inr ⟨u, by omega, b, b', c, d', fun q hq hS' hq' => ?_⟩
          rcases Nat.lt_or_ge q i with z | z
          · exact e q z hS' hq'
          · have eq : q = i := by omega
            rw [eq] at hS' hq'
            have := hk hS'
            omega
      refine br_f (nI_ge (b := 12) hi (by decide)) ⟨ar_n hi, ?_⟩
      rcases Classical.em (S i) with q | q
      · exact br_f (ar_S1 hS hi q) (keep (fun z => absurd q z))
      · refine br_t (ar_S0 hS hi q) ⟨ar_n hi, br_lt (b := 1000000) (ar_r hF hi) rfl (by omega) (by omega) (fun hlt => ⟨ar_n hi, xw_least hi ht hM hT mK tK ?_⟩) (fun hle => keep (fun _ => hle))⟩
        have fi := fB i hi hlt
        refine xw_g57 (w := F i + al_f FM TM i t 3) hm (by omega) (by rw [ar_r hF hi, nI_add]) (fun hle => ih (i + 1) r (nI m) (by omega) ?_) (fun hw => ih (i + 1) (nI i) _ (by omega) ?_)
        · rcases h with ⟨a, b, c⟩ | ⟨u, a, b, b', c, d', e⟩
          · have : m = 1000000 := (nI_eq (by omega) (by omega)).mp b
            omega
          · have e1 : m = F u + al_f FM TM u t 3 := (nI_eq (by omega) (by have := fB u (by omega) d'; have := aB u (by omega); show F u + al_f FM TM u t 3 < 2 ^ 31; omega)).mp b'
            refine Or.inr ⟨u, by omega, b, b', c, d', fun q' hq hS' hq' => ?_⟩
            rcases Nat.lt_or_ge q' i with z | z
            · exact e q' z hS' hq'
            · have eq : q' = i := by omega
              rw [eq]
              show F u + al_f FM TM u t 3 ≤ F i + al_f FM TM i t 3
              omega
        · refine Or.inr ⟨i, by omega, rfl, rfl, q, hlt, fun q' hq hS' hq' => ?_⟩
          show F i + al_f FM TM i t 3 ≤ F q' + al_f FM TM q' t 3
          rcases Nat.lt_or_ge q' i with z | z
          · rcases h with ⟨a, b, c⟩ | ⟨u, a, b, b', c, d', e⟩
            · have := c q' z hS'
              omega
            · have e1 : m = F u + al_f FM TM u t 3 := (nI_eq (by omega) (by have := fB u (by omega) d'; have := aB u (by omega); show F u + al_f FM TM u t 3 < 2 ^ 31; omega)).mp b'
              have e2 : F u + al_f FM TM u t 3 ≤ F q' + al_f FM TM q' t 3 := e q' z hS' hq'
              omega
          · have eq : q' = i := by omega
            rw [eq]; omega
  exact ⟨12 + 1, l 12 0 (-1) 1000000 rfl (Or.inl ⟨rfl, rfl, fun p h => by omega⟩)⟩
theorem xw_eng4 {post : Int32 → SX → Prop} {s t : Nat} (hs : s < 12) (ht : t < 12) (hR : ar_2 12 aRd R) (bR : ∀ a b, R a b ≤ 1000000) (R30 : ∀ a b, R a b = 1000000 ∨ R a b ≤ 30) (bd : ∀ s u, s < 12 → u < 12 → gd_d R s u < 1000000 → gd_d R s u ≤ 360)
    (hM : ar_2 3 aFM FM) (hT : ar_2 3 aTM TM) (M : al_M R FM TM) (K : ∀ fa se fb sb, post (nI (gd_d R s t)) (xP, xZ, aFr, aTo, aLe, aRd, aFd, aKp, fa, se, fb, sb, aHp, aPl, aEg, aRk, aTH, aFH, aLm, aFM, aTM, aFl, aBo, aAc)) : wpX_distanceWithLandmarks post (xP, xZ, aFr, aTo, aLe, aRd, aFd, aKp, aFa, aSe, aFb, aSb, aHp, aPl, aEg, aRk, aTH, aFH, aLm, aFM, aTM, aFl, aBo, aAc) (nI s) (nI t) := by
  have mK : ∀ l p, l < 3 → p < 12 → FM l p ≤ 1000000 := fun l p hl hp => by rw [(M l p hl hp).1]; exact gd_le R _ hp
  have tK : ∀ l p, l < 3 → p < 12 → TM l p ≤ 1000000 := fun l p hl hp => by rw [(M l p hl hp).2]; exact gd_le R _ (lm_lt l)
  have aB : ∀ p, p < 12 → al_f FM TM p t 3 ≤ 360 := fun p hp => al_bd M bd hp ht 3 (by omega)
  have hp : ∀ x y, x < 12 → y < 12 → gd_d R y t < 1000000 → al_f FM TM x t 3 ≤ R x y + al_f FM TM y t 3 := fun x y hx hy hk => al_co M bd hx hy ht hk 3 (by omega)
  have hr : ∀ x y, x < 12 → y < 12 → gd_d R y t < 1000000 → R x y < 1000000 → gd_d R x t < 1000000 := by
    intro x y hx hy hk hw
    have a := gd_tri R x hy ht
    have b := gd_ed R hx hy
    have c := bd y t hy ht hk
    have d := R30 x y
    omega
  have hpt : al_f FM TM t t 3 = 0 := al_tt M ht
  refine xw_both hs ht (fun fa se fb sb hF hS _ _ => ?_)
  have l : ∀ (n : Nat) (F : Nat → Nat) (S : Nat → Prop) (fa se : Nat → Int32) (r w : Int32), cn_c (fun j => ¬ S j) 12 < n → ar_I 12 fa F → ar_S se S → as_I R (fun p => al_f FM TM p t 3) s t S F → as_B S F → ¬ S t → gn_N 12 S F (fun p => al_f FM TM p t 3) r w → wX_distanceWithLandmarks_12 post (nI t) n r xP xZ aFr aTo aLe aRd aFd aKp fa se fb sb aHp aPl aEg aRk aTH aFH aLm aFM aTM aFl aBo aAc := by
    intro n
    induction n with
    | zero => intro F S fa se r w h; omega
    | succ n ih =>
      intro F S fa se r w hn hF hS I B nt hr'
      have fK := I.2.1
      have lo := I.2.2.1 t ht
      rcases hr' with ⟨r1, r2, r3⟩ | ⟨u, u1, u2, u3, u4, u5, u6⟩
      · refine br_t (by rw [r1]; decide) ?_
        unfold wX_distanceWithLandmarks_35
        have hne : ¬ r = nI t := by
          intro z
          have : ¬ nI t < 0 := br_0 (by omega)
          rw [← z, r1] at this
          exact this (by decide)
        have g := as_end hp hr I hs ht hpt nt (c := 1000000) (Nat.le_refl _) (fun q hq nS _ => by have := r3 q hq nS; omega) (fun q hq Sq _ => by have := as_b B q hq (B.2 q hq Sq); have h360 := aB q hq; show F q + al_f FM TM q t 3 ≤ 1000000; omega)
        have g2 := gd_le R s ht
        have e : gd_d R s t = 1000000 := by omega
        have k := K fa se fb sb
        rw [e] at k
        exact br_f hne k
      · rw [u2]
        have bu := fK u u1
        refine br_f (br_0 (by omega)) (br_eq (a := u) (b := t) rfl rfl (by omega) (by omega) (fun e => ?_) (fun hne => ?_))
        · unfold wX_distanceWithLandmarks_35
          refine br_t (by rw [e]) ⟨ar_n ht, ?_⟩
          have u6' : ∀ q, q < 12 → ¬ S q → F q < 1000000 → F u + al_f FM TM u t 3 ≤ F q + al_f FM TM q t 3 := u6
          rw [e, hpt] at u6'
          have g := as_end hp hr I hs ht hpt nt (c := F t) (fK t ht) (fun q hq nS _ => by
            rcases Nat.lt_or_ge (F q) 1000000 with z | z
            · have := u6' q hq nS z
              show F t ≤ F q + al_f FM TM q t 3
              omega
            · have := fK t ht
              omega) (fun q hq Sq hqt => by
            have := I.2.2.2.2 q hq hqt Sq t ht (by rw [gd_ss]; omega) nt
            have this' : F q + al_f FM TM q t 3 ≤ F t + al_f FM TM t t 3 := this
            show F q + al_f FM TM q t 3 ≤ F t
            omega)
          have e2 : F t = gd_d R s t := by omega
          have k := K fa se fb sb
          rw [← e2] at k
          rw [ar_r hF ht]
          exact k
        · have fu := as_b B u u1 u5
          have au := aB u u1
          have I' := as_up hp hr I u1 u5 u4 u6 (fun _ _ => by show F u + al_f FM TM u t 3 ≤ 1000000; omega)
          have B' := as_Bu B R30 fK u1 u4 u5
          refine xw_stf u1 hF hS fK hR bR (fun fa' se' hF' hS' => xw_goal ht hF' hS' I'.2.1 (as_b B') hM hT mK tK aB (fun r' w' hr' => ih _ _ fa' se' r' w' (dj_cn u1 u4 hn) hF' hS' I' B' (fun z => z.elim nt (fun z => hne z.symm)) hr'))
  have B0 : as_B (fun _ => False) (dj_in s) := by
    refine ⟨fun v _ h => ?_, fun _ _ z => z.elim⟩
    unfold dj_in at h ⊢
    by_cases e : v = s
    · rw [if_pos e]; omega
    · rw [if_neg e] at h; omega
  have I0 := as_0 R (fun p => al_f FM TM p t 3) (s := s) (t := t)
  exact xw_goal ht hF hS I0.2.1 (as_b B0) hM hT mK tK aB (fun r w hr' => ⟨_, l _ _ _ fa se r w (Nat.lt_succ_self _) hF hS I0 B0 (fun z => z) hr'⟩)
end
end
section
/-! engine 5: flags -/
def fs_g (b0 b1 b2 b3 : Bool) : Int32 := ob_f (fun j => if j = 0 then b0 else if j = 1 then b1 else if j = 2 then b2 else b3) 4
theorem fs_d : ∀ b0 b1 b2 b3 : Bool, vp_nar .byte (fs_g b0 b1 b2 b3).toInt8.toInt32 = fs_g b0 b1 b2 b3 := by decide +kernel
theorem fs_b (B : Nat → Bool) : vp_nar .byte (ob_f B 4).toInt8.toInt32 = ob_f B 4 := by
  have e : ob_f B 4 = fs_g (B 0) (B 1) (B 2) (B 3) := by
    refine ob_cg (fun j hj => ?_)
    by_cases h0 : j = 0
    · rw [if_pos h0, h0]
    · by_cases h1 : j = 1
      · rw [if_neg h0, if_pos h1, h1]
      · by_cases h2 : j = 2
        · rw [if_neg h0, if_neg h1, if_pos h2, h2]
        · rw [if_neg h0, if_neg h1, if_neg h2, show j = 3 by omega]
  rw [e]; exact fs_d _ _ _ _
theorem fs_3 {t : Nat} (ht : t < 12) : nI t / 3 = nI (t / 3) := pk_div (d := 3) (by omega) (by omega) (by omega)
/-- road k is on a shortest way to t -/
def fs_on (R : Nat → Nat → Nat) (th : Nat → Bool) (fr to ln : Nat → Nat) (k t : Nat) : Prop := th k = true ∧ gd_d R (to k) t < 1000000 ∧ gd_d R (fr k) t = ln k + gd_d R (to k) t
section
variable {xP xZ : Int32} {aFr aTo aLe aRd aFd aKp aFa aSe aFb aSb aHp aPl aEg aRk aTH aFH aLm aFM aTM aFl aBo aAc : Nat → Int32}
variable {th : Nat → Bool} {fr to ln : Nat → Nat}
theorem xw_f126 {post : SX → Prop} {J23 : Int32 → Int32 → Int32 → (Nat → Int32) → (Nat → Int32) → (Nat → Int32) → (Nat → Int32) → (Nat → Int32) → (Nat → Int32) → (Nat → Int32) → (Nat → Int32) → (Nat → Int32) → (Nat → Int32) → (Nat → Int32) → (Nat → Int32) → (Nat → Int32) → (Nat → Int32) → (Nat → Int32) → (Nat → Int32) → (Nat → Int32) → (Nat → Int32) → (Nat → Int32) → (Nat → Int32) → (Nat → Int32) → (Nat → Int32) → Prop} {J : Int32 → (Nat → Int32) → (Nat → Int32) → (Nat → Int32) → (Nat → Int32) → (Nat → Int32) → (Nat → Int32) → (Nat → Int32) → (Nat → Int32) → (Nat → Int32) → (Nat → Int32) → (Nat → Int32) → (Nat → Int32) → (Nat → Int32) → (Nat → Int32) → (Nat → Int32) → (Nat → Int32) → (Nat → Int32) → (Nat → Int32) → (Nat → Int32) → (Nat → Int32) → (Nat → Int32) → (Nat → Int32) → Prop} {t k : Nat} {z : Int32} {b : Nat → Bool} (hk : k < 28) (ht : t < 12) (hb : aFl k = ob_f b 4) (hz : z = 0 ∨ z = 1)
    (K : ∀ c, (∀ g, b g = true → c g = true) → (z = 1 → c (t / 3) = true) → J (nI (k + 1)) aFr aTo aLe aRd aFd aKp aFa aSe aFb aSb aHp aPl aEg aRk aTH aFH aLm aFM aTM (upd aFl k (ob_f c 4)) aBo aAc) : wX_layFlags_126 post J23 J (nI t) (nI k) z xP xZ aFr aTo aLe aRd aFd aKp aFa aSe aFb aSb aHp aPl aEg aRk aTH aFH aLm aFM aTM aFl aBo aAc := by
  unfold wX_layFlags_126
  have ek : aFl (nI k).toNatClampNeg = ob_f b 4 := by rw [ar_cl (by omega)]; exact hb
  have h4 : t / 3 < 4 := by omega
  refine ⟨ar_n hk, ?_⟩
  rcases hz with hz | hz
  · refine br_t hz ⟨ar_n hk, nm_r (e' := upd aFl k (ob_f b 4)) (by rw [ar_u (by omega), ek, ob_or0, fs_b]) (nm_r (nI_1 k) (K b (fun _ h => h) (fun h => absurd (hz.symm.trans h) (by decide))))⟩
  · refine br_f (by rw [hz]; decide) ⟨by decide, ar_n hk, nm_r (e' := upd aFl k (ob_f (fun j => if j = t / 3 then true else b j) 4)) (by rw [ar_u (by omega), ek, fs_3 ht, ob_set (by omega) h4, fs_b]) (nm_r (nI_1 k) (K _ (fun g h => ?_) (fun _ => if_pos rfl)))⟩
    show (if g = t / 3 then true else b g) = true
    split
    · rfl
    · exact h
theorem xw_f59 {post : SX → Prop} {J : Int32 → Int32 → Int32 → (Nat → Int32) → (Nat → Int32) → (Nat → Int32) → (Nat → Int32) → (Nat → Int32) → (Nat → Int32) → (Nat → Int32) → (Nat → Int32) → (Nat → Int32) → (Nat → Int32) → (Nat → Int32) → (Nat → Int32) → (Nat → Int32) → (Nat → Int32) → (Nat → Int32) → (Nat → Int32) → (Nat → Int32) → (Nat → Int32) → (Nat → Int32) → (Nat → Int32) → (Nat → Int32) → (Nat → Int32) → Prop} {t : Nat} {R : Nat → Nat → Nat} (N : nx_I th fr to ln xP aFr aTo aLe) (OK : nt_ok th fr to ln) (ht : t < 12) (hB : ar_I 12 aFb (fun p => gd_d R p t))
    (K : ∀ (fl : Nat → Int32) (B : Nat → Nat → Bool), (∀ k, k < 28 → fl k = ob_f (B k) 4) → (∀ k v, k < 28 → v < t + 1 → fs_on R th fr to ln k v → B k (v / 3) = true) → J (nI (t + 1)) xP xZ aFr aTo aLe aRd aFd aKp aFa aSe aFb aSb aHp aPl aEg aRk aTH aFH aLm aFM aTM fl aBo aAc) :
    ∀ (d k : Nat) (fl : Nat → Int32) (B : Nat → Nat → Bool), k + d = 28 → (∀ j, j < 28 → fl j = ob_f (B j) 4) → (∀ j v, j < 28 → (v < t ∨ (v = t ∧ j < k)) → fs_on R th fr to ln j v → B j (v / 3) = true) → wX_layFlags_59 post J (nI t) xP xZ (d + 1) (nI k) aFr aTo aLe aRd aFd aKp aFa aSe aFb aSb aHp aPl aEg aRk aTH aFH aLm aFM aTM fl aBo aAc := by
  intro d
  induction d with
  | zero =>
    intro k fl B hk h1 h2
    have e : k = 28 := by omega
    subst e
    exact br_t (by decide) (nm_r (nI_1 t) (K fl B h1 (fun k v hk hv => h2 k v hk (by omega))))
  | succ d ih =>
    intro k fl B hkd h1 h2
    have hk : k < 28 := by omega
    obtain ⟨n1, n2, n3⟩ := N.2 k hk
    obtain ⟨o1, o2, o3, o4⟩ := OK k hk
    have ek : (nI k).toNatClampNeg = k := ar_cl (by omega)
    have nx : ∀ z : Int32, (z = 0 ∨ z = 1) → (fs_on R th fr to ln k t → z = 1) → wX_layFlags_126 post J (wX_layFlags_59 post J (nI t) xP xZ (d + 1)) (nI t) (nI k) z xP xZ aFr aTo aLe aRd aFd aKp aFa aSe aFb aSb aHp aPl aEg aRk aTH aFH aLm aFM aTM fl aBo aAc := by
      intro z hz ho
      refine xw_f126 hk ht (h1 k hk) hz (fun c c1 c2 => ih (k + 1) _ (fun j => if j = k then c else B j) (by omega) (fun j hj => ?_) (fun j v hj hv hon => ?_))
      · show upd fl k (ob_f c 4) j = ob_f (if j = k then c else B j) 4
        by_cases e : j = k
        · rw [e, pk_us, if_pos rfl]
        · rw [pk_un e, if_neg e]; exact h1 j hj
      · show (if j = k then c else B j) (v / 3) = true
        by_cases e : j = k
        · rw [if_pos e]
          rcases hv with hv | ⟨hv, _⟩
          · exact c1 _ (by rw [← e]; exact h2 j v hj (Or.inl hv) hon)
          · rw [hv]; rw [e, hv] at hon; exact c2 (ho hon)
        · rw [if_neg e]
          exact h2 j v hj (by omega) hon
    have bT := gd_le R (to k) ht
    have bF := gd_le R (fr k) ht
    have eT : aFb (aTo (nI k).toNatClampNeg).toNatClampNeg = nI (gd_d R (to k) t) := by rw [ek, n2, ar_cl (by omega)]; exact hB (to k) o2
    have eF : aFb (aFr (nI k).toNatClampNeg).toNatClampNeg = nI (gd_d R (fr k) t) := by rw [ek, n1, ar_cl (by omega)]; exact hB (fr k) o1
    refine br_f (nI_ge (b := 28) hk (by decide)) (xw_has N.1 hk (fun hth => br_f (by decide) ⟨ar_n hk, by rw [ek, n2]; exact ar_n o2, br_le (a := 1000000) rfl eT (by omega) (by omega) (fun h => ?_) (fun h => ⟨ar_n hk, by rw [ek, n1]; exact ar_n o1, ar_n hk, ar_n hk, by rw [ek, n2]; exact ar_n o2, br_eq (a := gd_d R (fr k) t) (b := ln k + gd_d R (to k) t) eF (by rw [eT, ek, n3, nI_add]) (by omega) (by omega) (fun h' => nx 1 (Or.inr rfl) (fun _ => rfl)) (fun h' => ?_)⟩)⟩) (fun hth => br_t rfl ?_))
    · unfold wX_layFlags_125
      exact nx 0 (Or.inl rfl) (fun o => absurd o.2.1 (by omega))
    · unfold wX_layFlags_125
      exact nx 0 (Or.inl rfl) (fun o => absurd o.2.2 h')
    · unfold wX_layFlags_125
      exact nx 0 (Or.inl rfl) (fun o => absurd o.1 hth)
theorem xw_f40 {post : SX → Prop} {J : Int32 → Int32 → Int32 → (Nat → Int32) → (Nat → Int32) → (Nat → Int32) → (Nat → Int32) → (Nat → Int32) → (Nat → Int32) → (Nat → Int32) → (Nat → Int32) → (Nat → Int32) → (Nat → Int32) → (Nat → Int32) → (Nat → Int32) → (Nat → Int32) → (Nat → Int32) → (Nat → Int32) → (Nat → Int32) → (Nat → Int32) → (Nat → Int32) → (Nat → Int32) → (Nat → Int32) → (Nat → Int32) → (Nat → Int32) → Prop} {x1 : Int32} {s : Nat} {R : Nat → Nat → Nat} (hR : ar_2 12 aRd R) (bR : ∀ a b, R a b ≤ 1000000) (K : ∀ fb sb, ar_I 12 fb (gd_d (fun a b => R b a) s) → ∃ n : Nat, wX_layFlags_59 post J x1 xP xZ n 0 aFr aTo aLe aRd aFd aKp aFa aSe fb sb aHp aPl aEg aRk aTH aFH aLm aFM aTM aFl aBo aAc) :
    ∀ (n : Nat) (F : Nat → Nat) (S : Nat → Prop) (fb sb : Nat → Int32) (r : Int32), cn_c (fun j => ¬ S j) 12 < n → ar_I 12 fb F → ar_S sb S → dj_I (fun a b => R b a) s S F → dj_N S F r → wX_layFlags_40 post J x1 n r xP xZ aFr aTo aLe aRd aFd aKp aFa aSe fb sb aHp aPl aEg aRk aTH aFH aLm aFM aTM aFl aBo aAc := by
  intro n
  induction n with
  | zero => intro F S fb sb r h; omega
  | succ n ih =>
    intro F S fb sb r hn hF hS I hr
    rcases hr with ⟨r1, r2⟩ | ⟨u, u1, u2, u3, u4, u5⟩
    · exact br_t (by rw [r1]; decide) (K fb sb (ar_ext hF (dj_end I r2)))
    · rw [u2]
      have I' := dj_up I u1 u5 u3
      exact br_f (br_0 (by omega)) (xw_stb u1 hF hS I.2.1 hR bR (fun fa' se' hF' hS' => xw_nob hF' hS' I'.2.1 (fun r' hr' => ih _ _ fa' se' r' (dj_cn u1 u3 hn) hF' hS' I' hr')))
theorem xw_lay5 {post : SX → Prop} {R : Nat → Nat → Nat} (N : nx_I th fr to ln xP aFr aTo aLe) (OK : nt_ok th fr to ln) (hR : ar_2 12 aRd R) (bR : ∀ a b, R a b ≤ 1000000)
    (K : ∀ (fa se fb sb fl : Nat → Int32) (B : Nat → Nat → Bool), (∀ k, k < 28 → fl k = ob_f (B k) 4) → (∀ k v, k < 28 → v < 12 → fs_on R th fr to ln k v → B k (v / 3) = true) → post (xP, xZ, aFr, aTo, aLe, aRd, aFd, aKp, fa, se, fb, sb, aHp, aPl, aEg, aRk, aTH, aFH, aLm, aFM, aTM, fl, aBo, aAc)) : wpX_layFlags post (xP, xZ, aFr, aTo, aLe, aRd, aFd, aKp, aFa, aSe, aFb, aSb, aHp, aPl, aEg, aRk, aTH, aFH, aLm, aFM, aTM, aFl, aBo, aAc) := by
  have l23 : ∀ (d t : Nat) (fa se fb sb fl : Nat → Int32) (B : Nat → Nat → Bool), t + d = 12 → (∀ k, k < 28 → fl k = ob_f (B k) 4) → (∀ k v, k < 28 → v < t → fs_on R th fr to ln k v → B k (v / 3) = true) → wX_layFlags_23 post (d + 1) (nI t) xP xZ aFr aTo aLe aRd aFd aKp fa se fb sb aHp aPl aEg aRk aTH aFH aLm aFM aTM fl aBo aAc := by
    intro d
    induction d with
    | zero =>
      intro t fa se fb sb fl B ht h1 h2
      have e : t = 12 := by omega
      subst e
      exact br_t (by decide) (K fa se fb sb fl B h1 h2)
    | succ d ih =>
      intro t fa se fb sb fl B htd h1 h2
      have ht : t < 12 := by omega
      refine br_f (nI_ge (b := 12) ht (by decide)) (xw_both ht ht (fun fa' se' fb' sb' _ _ hB hZ => xw_nob hB hZ (dj_0 (fun a b => R b a)).2.1 (fun q hq => ⟨_, xw_f40 hR bR ?_ _ _ _ fb' sb' q (Nat.lt_succ_self _) hB hZ (dj_0 (fun a b => R b a)) hq⟩)))
      intro fb2 sb2 hB2
      exact ⟨28 + 1, xw_f59 (R := R) N OK ht (ar_ext hB2 (fun p hp => gd_tr R hp ht)) (fun fl' B' g1 g2 => ih (t + 1) fa' se' fb2 sb2 fl' B' (by omega) g1 g2) 28 0 fl B rfl h1 (fun k v hk hv => h2 k v hk (by omega))⟩
  have l2 : ∀ (d i : Nat) (fl : Nat → Int32), i + d = 28 → (∀ j, j < i → fl j = 0) → wX_layFlags_2 post xP xZ (d + 1) (nI i) aFr aTo aLe aRd aFd aKp aFa aSe aFb aSb aHp aPl aEg aRk aTH aFH aLm aFM aTM fl aBo aAc := by
    intro d
    induction d with
    | zero =>
      intro i fl hi h
      have e : i = 28 := by omega
      subst e
      exact br_t (by decide) ⟨12 + 1, l23 12 0 aFa aSe aFb aSb fl (fun _ _ => false) rfl (fun k hk => by rw [h k hk, ob_zero]) (fun k v _ h => by omega)⟩
    | succ d ih =>
      intro i fl hid h
      have hi : i < 28 := by omega
      refine br_f (nI_ge (b := 28) hi (by decide)) ⟨ar_n hi, nm_r (e' := upd fl i 0) (by rw [ar_u (by omega), sm_0]) (nm_r (nI_1 i) (ih (i + 1) _ (by omega) (fun j hj => ?_)))⟩
      by_cases e : j = i
      · rw [e, pk_us]
      · rw [pk_un e]; exact h j (by omega)
  exact ⟨28 + 1, l2 28 0 aFl rfl (fun j h => by omega)⟩
theorem xw_ff20 {post : Int32 → SX → Prop} {J : Int32 → Int32 → (Nat → Int32) → (Nat → Int32) → (Nat → Int32) → (Nat → Int32) → (Nat → Int32) → (Nat → Int32) → (Nat → Int32) → (Nat → Int32) → (Nat → Int32) → (Nat → Int32) → (Nat → Int32) → (Nat → Int32) → (Nat → Int32) → (Nat → Int32) → (Nat → Int32) → (Nat → Int32) → (Nat → Int32) → (Nat → Int32) → (Nat → Int32) → (Nat → Int32) → (Nat → Int32) → (Nat → Int32) → Prop} {s u t μ : Nat} {D : Nat → Nat} {ok : Nat → Bool} {B : Nat → Nat → Bool} (N : nx_I th fr to ln xP aFr aTo aLe) (OK : nt_ok th fr to ln) (hu : u < 12) (ht : t < 12) (hB : ∀ k, k < 28 → aFl k = ob_f (B k) 4) (hok : ∀ k, ok k = (th k && B k (t / 3))) (hl : ∀ k, k < 28 → ok k = true → D (to k) ≤ D (fr k) + ln k)
    (KJ : ∀ z F M fa hp pl, hp_X z 12 hp pl M → ar_I 12 fa F → hq_I ok fr to ln D s M F → 13 * hq_s F 12 + z < μ → J xP (nI z) aFr aTo aLe aRd aFd aKp fa aSe aFb aSb hp pl aEg aRk aTH aFH aLm aFM aTM aFl aBo aAc) :
    ∀ (d k z : Nat) (F : Nat → Nat) (M : Nat → Prop) (fa hp pl : Nat → Int32), k + d = 28 → hp_X z 12 hp pl M → ar_I 12 fa F → hq_J ok fr to ln D s u k M F → 13 * hq_s F 12 + z < μ → wX_distanceByFlags_20 post J (nI t) (nI u) (d + 1) (nI k) xP (nI z) aFr aTo aLe aRd aFd aKp fa aSe aFb aSb hp pl aEg aRk aTH aFH aLm aFM aTM aFl aBo aAc := by
  intro d
  induction d with
  | zero =>
    intro k z F M fa hp pl hk H hF hJ hμ
    have e : k = 28 := by omega
    subst e
    exact br_t (by decide) (KJ z F M fa hp pl H hF (hq_done hJ) hμ)
  | succ d ih =>
    intro k z F M fa hp pl hkd H hF hJ hμ
    have hk : k < 28 := by omega
    obtain ⟨n1, n2, n3⟩ := N.2 k hk
    obtain ⟨o1, o2, o3, o4⟩ := OK k hk
    have ek : (nI k).toNatClampNeg = k := ar_cl (by omega)
    refine br_f (nI_ge (b := 28) hk (by decide)) (xw_has N.1 hk (fun hth => br_f (by decide) ⟨ar_n hk, br_eq (a := fr k) (b := u) (by rw [ek]; exact n1) rfl (by omega) (by omega) (fun e => ⟨ar_n hk, by decide, br_p (B k (t / 3) = false) ?_ (fun hb => nm_r (nI_1 k) (ih (k + 1) z F M fa hp pl (by omega) H hF (hq_skip hJ (fun z _ => ?_)) hμ)) (fun hb => ⟨ar_n hk, ar_n hu, ar_n hk, ?_⟩)⟩) (fun e => nm_r (nI_1 k) (ih (k + 1) z F M fa hp pl (by omega) H hF (hq_skip hJ (fun _ z => absurd z e)) hμ))⟩) (fun hth => br_t rfl (nm_r (nI_1 k) (ih (k + 1) z F M fa hp pl (by omega) H hF (hq_skip hJ (fun z => ?_)) hμ))))
    · rw [ek, hB k hk, fs_3 ht]
      exact ob_tst (by omega) (by omega)
    · rw [hok, hb] at z
      simp at z
    · have hoK : ok k = true := by rw [hok, hth]; simpa using hb
      have bu := hJ.2.1 u hu
      have bt' := hJ.2.1 (to k) o2
      rw [ek, n2, n3, ar_r hF hu, nI_add]
      refine xw_reach rfl o2 H hF bt' (by omega) (fun hle => nm_r (nI_1 k) (ih (k + 1) z F M fa hp pl (by omega) H hF (hq_skip hJ (fun _ _ => hle)) hμ)) (fun hlt z' hp' pl' fa' hz H' F' => nm_r (nI_1 k) (ih (k + 1) z' _ _ fa' hp' pl' (by omega) H' F' (hq_reach hl hk hoK e hu hlt hJ) ?_))
      have := hq_lt hlt (n := 12) o2
      omega
    · rw [hok] at z
      have hf : th k = false := by simpa using hth
      rw [hf] at z
      simp at z
theorem xw_ff5 {post : Int32 → SX → Prop} {s t : Nat} {D : Nat → Nat} {ok : Nat → Bool} {B : Nat → Nat → Bool} (N : nx_I th fr to ln xP aFr aTo aLe) (OK : nt_ok th fr to ln) (ht : t < 12) (hB : ∀ k, k < 28 → aFl k = ob_f (B k) 4) (hok : ∀ k, ok k = (th k && B k (t / 3))) (hl : ∀ k, k < 28 → ok k = true → D (to k) ≤ D (fr k) + ln k)
    (K : ∀ xZ F fa hp pl, ar_I 12 fa F → F s = 0 → (∀ v, v < 12 → F v ≤ 1000000) → (∀ v, v < 12 → D v ≤ F v) → (∀ k, k < 28 → ok k = true → F (to k) ≤ F (fr k) + ln k) → post (nI (F t)) (xP, xZ, aFr, aTo, aLe, aRd, aFd, aKp, fa, aSe, aFb, aSb, hp, pl, aEg, aRk, aTH, aFH, aLm, aFM, aTM, aFl, aBo, aAc)) :
    ∀ (n z : Nat) (F : Nat → Nat) (M : Nat → Prop) (fa hp pl : Nat → Int32), hp_X z 12 hp pl M → ar_I 12 fa F → hq_I ok fr to ln D s M F → 13 * hq_s F 12 + z < n → wX_distanceByFlags_5 post (nI t) n xP (nI z) aFr aTo aLe aRd aFd aKp fa aSe aFb aSb hp pl aEg aRk aTH aFH aLm aFM aTM aFl aBo aAc := by
  intro n
  induction n with
  | zero => intro z F M fa hp pl _ _ _ h; omega
  | succ n ih =>
    intro z F M fa hp pl H hF hI hn
    have z12 := hp_12 H
    rcases Nat.eq_zero_or_pos z with e | h0
    · have hM := cn_0 (e ▸ H.1.symm)
      refine br_t (by rw [e]; decide) ⟨ar_n ht, ?_⟩
      rw [ar_r hF ht]
      exact K _ F fa hp pl hF hI.1 hI.2.1 hI.2.2.1 (fun k hk hth => hI.2.2.2 k hk hth (hM _ (OK k hk).1))
    · obtain ⟨y, rfl⟩ : ∃ y, z = y + 1 := ⟨z - 1, by omega⟩
      refine br_f (nI_nle h0 (by omega)) (xw_take rfl H (fun b hp' pl' hb Mb H' => ⟨28 + 1, xw_ff20 (μ := n) N OK hb ht hB hok hl ?_ 28 0 y F _ fa hp' pl' rfl H' hF (hq_take hI) (by omega)⟩))
      intro z' F' M' fa' hp'' pl'' a b c d
      exact ih z' F' M' fa' hp'' pl'' a b c d
theorem xw_eng5 {post : Int32 → SX → Prop} {s t : Nat} {B : Nat → Nat → Bool} (N : nx_I th fr to ln xP aFr aTo aLe) (OK : nt_ok th fr to ln) (hs : s < 12) (ht : t < 12) (hB : ∀ k, k < 28 → aFl k = ob_f (B k) 4) (hon : ∀ k v, k < 28 → v < 12 → fs_on (nt_R th fr to ln) th fr to ln k v → B k (v / 3) = true)
    (K : ∀ xZ fa se hp pl, post (nI (gd_d (nt_R th fr to ln) s t)) (xP, xZ, aFr, aTo, aLe, aRd, aFd, aKp, fa, se, aFb, aSb, hp, pl, aEg, aRk, aTH, aFH, aLm, aFM, aTM, aFl, aBo, aAc)) : wpX_distanceByFlags post (xP, xZ, aFr, aTo, aLe, aRd, aFd, aKp, aFa, aSe, aFb, aSb, aHp, aPl, aEg, aRk, aTH, aFH, aLm, aFM, aTM, aFl, aBo, aAc) (nI s) (nI t) := by
  have hl : ∀ k, k < 28 → (th k && B k (t / 3)) = true → gd_d (nt_R th fr to ln) s (to k) ≤ gd_d (nt_R th fr to ln) s (fr k) + ln k := fun k hk h => nt_st OK (gd_self _ s) hk (by simp at h; exact h.1)
  refine xw_start hs (fun fa se hp pl hF H => ⟨_, xw_ff5 (D := gd_d (nt_R th fr to ln) s) (s := s) (ok := fun k => th k && B k (t / 3)) N OK ht hB (fun _ => rfl) hl ?_ _ 1 (dj_in s) _ fa hp pl H hF (hq_0 (gd_ss _ s) (fun v hv => gd_le _ s hv)) (Nat.lt_succ_self _)⟩)
  intro z F fa' hp' pl' hF' f0 fK fl fc
  have up := fl_up OK hs ht f0 (fK t ht) fc (fun k hk a b c => by
    have := hon k t hk ht ⟨a, b, c⟩
    show (th k && B k (t / 3)) = true
    rw [a, this]; rfl)
  have lo := fl t ht
  have e : F t = gd_d (nt_R th fr to ln) s t := by omega
  rw [e]
  exact K z fa' se hp' pl'
end
end
section
/-! engine 6: cells -/
theorem cl_4 {p : Nat} (hp : p < 1000) : nI p / 4 = nI (p / 4) := pk_div (d := 4) (by omega) (by omega) (by omega)
theorem cl_12 {p : Nat} (hp : p < 1000) : nI p / 12 = nI (p / 12) := pk_div (d := 12) (by omega) (by omega) (by omega)
theorem cl_m {p : Nat} (hp : p < 1000) : nI p - nI p / 12 * 12 = nI (p % 12) := pk_rem (d := 12) (by omega) (by omega) (by omega)
theorem xw_cell {post : Int32 → Prop} {p : Nat} (hp : p < 1000) (K : post (nI (p / 4))) : wpX_cellOf post (nI p) :=
  And.intro (by decide) (by rw [cl_4 hp]; exact K)
theorem fw_k1 {A : Nat → Nat → Nat} {m u : Nat} (h : A m m = 0) : fw_s m A u m = A u m := by
  show min (A u m) (A u m + A m m) = A u m
  omega
theorem fw_k2 {A : Nat → Nat → Nat} {m v : Nat} (h : A m m = 0) : fw_s m A m v = A m v := by
  show min (A m v) (A m m + A m v) = A m v
  omega
section
variable {xP xZ : Int32} {aFr aTo aLe aRd aFd aKp aFa aSe aFb aSb aHp aPl aEg aRk aTH aFH aLm aFM aTM aFl aBo aAc : Nat → Int32}
variable {th : Nat → Bool} {fr to ln : Nat → Nat} {R A : Nat → Nat → Nat}
theorem xw_c140 {post : SX → Prop} {J : Int32 → (Nat → Int32) → (Nat → Int32) → (Nat → Int32) → (Nat → Int32) → (Nat → Int32) → (Nat → Int32) → (Nat → Int32) → (Nat → Int32) → (Nat → Int32) → (Nat → Int32) → (Nat → Int32) → (Nat → Int32) → (Nat → Int32) → (Nat → Int32) → (Nat → Int32) → (Nat → Int32) → (Nat → Int32) → (Nat → Int32) → (Nat → Int32) → (Nat → Int32) → (Nat → Int32) → (Nat → Int32) → Prop} {i : Nat} {z : Int32} (hi : i < 144) (hz : i / 12 ≠ i % 12 → z = nI (fw_0 R (i / 12) (i % 12)))
    (K : ∀ ac, (∀ j, j ≠ i → ac j = aAc j) → ac i = nI (fw_0 R (i / 12) (i % 12)) → J (nI (i + 1)) aFr aTo aLe aRd aFd aKp aFa aSe aFb aSb aHp aPl aEg aRk aTH aFH aLm aFM aTM aFl aBo ac) : wX_layCells_140 post J (nI i) z (nI i) xP xZ aFr aTo aLe aRd aFd aKp aFa aSe aFb aSb aHp aPl aEg aRk aTH aFH aLm aFM aTM aFl aBo aAc := by
  unfold wX_layCells_140
  refine ⟨ar_n hi, nm_r (ar_u (by omega) _ _) ⟨by decide, by decide, br_eq (a := i / 12) (b := i % 12) (cl_12 (by omega)) (cl_m (by omega)) (by omega) (by omega) (fun e => ⟨ar_n hi, nm_r (ar_u (by omega) _ _) (nm_r (nI_1 i) (K _ (fun j hj => ?_) ?_))⟩) (fun e => ⟨ar_n hi, ar_n hi, nm_r (ar_us (by omega) _) (nm_r (nI_1 i) (K _ (fun j hj => pk_un hj) ?_))⟩)⟩⟩
  · rw [pk_un hj, pk_un hj]
  · rw [pk_us]
    unfold fw_0
    rw [if_pos e]; rfl
  · rw [pk_us]; exact hz e
theorem xw_c184 {post : SX → Prop} {J : Int32 → (Nat → Int32) → (Nat → Int32) → (Nat → Int32) → (Nat → Int32) → (Nat → Int32) → (Nat → Int32) → (Nat → Int32) → (Nat → Int32) → (Nat → Int32) → (Nat → Int32) → (Nat → Int32) → (Nat → Int32) → (Nat → Int32) → (Nat → Int32) → (Nat → Int32) → (Nat → Int32) → (Nat → Int32) → (Nat → Int32) → (Nat → Int32) → (Nat → Int32) → (Nat → Int32) → (Nat → Int32) → Prop} {m : Nat} (hm : m < 12) (e0 : A m m = 0) (bA : ∀ u v, u < 12 → v < 12 → A u v ≤ 1000000)
    (K : ∀ ac, ar_2 12 ac (fw_s m A) → J (nI (m + 1)) aFr aTo aLe aRd aFd aKp aFa aSe aFb aSb aHp aPl aEg aRk aTH aFH aLm aFM aTM aFl aBo ac) :
    ∀ (d i : Nat) (ac : Nat → Int32), i + d = 144 → ar_2 12 ac (fun u v => if u * 12 + v < i then fw_s m A u v else A u v) → wX_layCells_184 post J (nI m) xP xZ (d + 1) (nI i) aFr aTo aLe aRd aFd aKp aFa aSe aFb aSb aHp aPl aEg aRk aTH aFH aLm aFM aTM aFl aBo ac := by
  intro d
  induction d with
  | zero =>
    intro i ac hi h
    have e : i = 144 := by omega
    subst e
    exact br_t (by decide) (nm_r (nI_1 m) (K ac (ar_ex2 h (fun u v hu hv => if_pos (by omega)))))
  | succ d ih =>
    intro i ac hid h
    have hi : i < 144 := by omega
    have hu : i / 12 < 12 := by omega
    have hv : i % 12 < 12 := by omega
    have b1 := bA (i / 12) m hu hm
    have b2 := bA m (i % 12) hm hv
    have b3 := bA (i / 12) (i % 12) hu hv
    have x1 : nI i / 12 * 12 + nI m = nI (i / 12 * 12 + m) := by rw [cl_12 (by omega), ar_ix]
    have x2 : nI m * 12 + (nI i - nI i / 12 * 12) = nI (m * 12 + i % 12) := by rw [cl_m (by omega), ar_ix]
    have r1 : ac (nI i / 12 * 12 + nI m).toNatClampNeg = nI (A (i / 12) m) := by
      rw [x1, ar_cl (by omega), h _ _ hu hm]
      refine congrArg nI ?_
      show (if i / 12 * 12 + m < i then fw_s m A (i / 12) m else A (i / 12) m) = A (i / 12) m
      rw [fw_k1 e0]
      split <;> rfl
    have r2 : ac (nI m * 12 + (nI i - nI i / 12 * 12)).toNatClampNeg = nI (A m (i % 12)) := by
      rw [x2, ar_cl (by omega), h _ _ hm hv]
      refine congrArg nI ?_
      show (if m * 12 + i % 12 < i then fw_s m A m (i % 12) else A m (i % 12)) = A m (i % 12)
      rw [fw_k2 e0]
      split <;> rfl
    have r3 : ac (nI i).toNatClampNeg = nI (A (i / 12) (i % 12)) := by
      have g := h _ _ hu hv
      rw [show i / 12 * 12 + i % 12 = i by omega] at g
      rw [ar_cl (by omega), g]
      refine congrArg nI ?_
      show (if i / 12 * 12 + i % 12 < i then fw_s m A (i / 12) (i % 12) else A (i / 12) (i % 12)) = A (i / 12) (i % 12)
      rw [if_neg (by omega)]
    have nx : ∀ x, x = nI (fw_s m A (i / 12) (i % 12)) → wX_layCells_184 post J (nI m) xP xZ (d + 1) (nI (i + 1)) aFr aTo aLe aRd aFd aKp aFa aSe aFb aSb aHp aPl aEg aRk aTH aFH aLm aFM aTM aFl aBo (upd ac i x) := by
      intro x hx
      refine ih (i + 1) _ (by omega) (fun u v hu' hv' => ?_)
      show upd ac i x (u * 12 + v) = nI (if u * 12 + v < i + 1 then fw_s m A u v else A u v)
      by_cases e : u * 12 + v = i
      · have e1 : i / 12 = u := by omega
        have e2 : i % 12 = v := by omega
        rw [e, pk_us, hx, if_pos (by omega), e1, e2]
      · rw [pk_un e, h u v hu' hv']
        refine congrArg nI ?_
        show (if u * 12 + v < i then fw_s m A u v else A u v) = _
        by_cases l : u * 12 + v < i
        · rw [if_pos l, if_pos (by omega)]
        · rw [if_neg l, if_neg (by omega)]
    refine br_f (nI_ge (b := 144) hi (by decide)) ⟨by decide, by rw [x1]; exact ar_n (by omega), by decide, by rw [x2]; exact ar_n (by omega), nm_r (e' := nI (A (i / 12) m + A m (i % 12))) (by rw [r1, r2, nI_add]) ⟨ar_n hi, br_le r3 rfl (by omega) (by omega) (fun hle => ⟨ar_n hi, ar_n hi, nm_r (ar_u (by omega) _ _) (nm_r (nI_1 i) (nx _ ?_))⟩) (fun hlt => ⟨ar_n hi, nm_r (ar_u (by omega) _ _) (nm_r (nI_1 i) (nx _ ?_))⟩)⟩⟩
    · rw [r3]
      refine congrArg nI ?_
      show _ = min (A (i / 12) (i % 12)) (A (i / 12) m + A m (i % 12))
      omega
    · refine congrArg nI ?_
      show _ = min (A (i / 12) (i % 12)) (A (i / 12) m + A m (i % 12))
      omega
theorem xw_lay6 {post : SX → Prop} (N : nx_I th fr to ln xP aFr aTo aLe) (OK : nt_ok th fr to ln) (hR : ar_2 12 aRd R) (bR : ∀ a b, R a b ≤ 1000000)
    (K : ∀ (bo ac : Nat → Int32) (A : Nat → Nat → Nat), ar_2 12 ac A → fw_I R 12 A → (∀ k, k < 28 → th k = true → fr k / 4 ≠ to k / 4 → ¬ bo (fr k) = 0 ∧ ¬ bo (to k) = 0) → post (xP, xZ, aFr, aTo, aLe, aRd, aFd, aKp, aFa, aSe, aFb, aSb, aHp, aPl, aEg, aRk, aTH, aFH, aLm, aFM, aTM, aFl, bo, ac)) : wpX_layCells post (xP, xZ, aFr, aTo, aLe, aRd, aFd, aKp, aFa, aSe, aFb, aSb, aHp, aPl, aEg, aRk, aTH, aFH, aLm, aFM, aTM, aFl, aBo, aAc) := by
  have l176 : ∀ (bo : Nat → Int32), (∀ k, k < 28 → th k = true → fr k / 4 ≠ to k / 4 → ¬ bo (fr k) = 0 ∧ ¬ bo (to k) = 0) → ∀ (d m : Nat) (ac : Nat → Int32) (A : Nat → Nat → Nat), m + d = 12 → ar_2 12 ac A → fw_I R m A → wX_layCells_176 post xP xZ (d + 1) (nI m) aFr aTo aLe aRd aFd aKp aFa aSe aFb aSb aHp aPl aEg aRk aTH aFH aLm aFM aTM aFl bo ac := by
    intro bo hbo d
    induction d with
    | zero =>
      intro m ac A hm hA I
      have e : m = 12 := by omega
      subst e
      exact br_t (by decide) (K bo ac A hA I hbo)
    | succ d ih =>
      intro m ac A hmd hA I
      have hm : m < 12 := by omega
      exact br_f (nI_ge (b := 12) hm (by decide)) ⟨144 + 1, xw_c184 hm (I.1 m hm) (fun u v hu hv => (I.2.1 u v hu hv).1) (fun ac' hA' => ih (m + 1) ac' _ (by omega) hA' (fw_up hm I)) 144 0 ac rfl (ar_ex2 hA (fun u v _ _ => (if_neg (by omega)).symm))⟩
  have l90 : ∀ (bo : Nat → Int32), (∀ k, k < 28 → th k = true → fr k / 4 ≠ to k / 4 → ¬ bo (fr k) = 0 ∧ ¬ bo (to k) = 0) → ∀ (d i : Nat) (ac : Nat → Int32), i + d = 144 → (∀ j, j < i → ac j = nI (fw_0 R (j / 12) (j % 12))) → wX_layCells_90 post xP xZ (d + 1) (nI i) aFr aTo aLe aRd aFd aKp aFa aSe aFb aSb aHp aPl aEg aRk aTH aFH aLm aFM aTM aFl bo ac := by
    intro bo hbo d
    induction d with
    | zero =>
      intro i ac hi h
      have e : i = 144 := by omega
      subst e
      refine br_t (by decide) ⟨12 + 1, l176 bo hbo 12 0 ac (fw_0 R) rfl (fun u v hu hv => ?_) (fw_i bR)⟩
      rw [h _ (by omega), show (u * 12 + v) / 12 = u by omega, show (u * 12 + v) % 12 = v by omega]
    | succ d ih =>
      intro i ac hid h
      have hi : i < 144 := by omega
      have hu : i / 12 < 12 := by omega
      have hv : i % 12 < 12 := by omega
      have nx : ∀ z : Int32, (i / 12 ≠ i % 12 → z = nI (fw_0 R (i / 12) (i % 12))) → wX_layCells_140 post (wX_layCells_90 post xP xZ (d + 1)) (nI i) z (nI i) xP xZ aFr aTo aLe aRd aFd aKp aFa aSe aFb aSb aHp aPl aEg aRk aTH aFH aLm aFM aTM aFl bo ac := by
        intro z hz
        refine xw_c140 (R := R) hi hz (fun ac' h1 h2 => ih (i + 1) ac' (by omega) (fun j hj => ?_))
        by_cases e : j = i
        · rw [e]; exact h2
        · rw [h1 j e]; exact h j (by omega)
      refine br_f (nI_ge (b := 144) hi (by decide)) ⟨by decide, ?_⟩
      rw [cl_m (by omega), cl_12 (by omega)]
      refine xw_cell (by omega) ⟨by decide, xw_cell (by omega) (br_eq (a := i / 12 / 4) (b := i % 12 / 4) rfl rfl (by omega) (by omega) (fun e => ?_) (fun e => ?_))⟩
      · unfold wX_layCells_119
        refine br_f (by decide) ⟨ar_n hi, nx _ (fun hne => ?_)⟩
        have g := hR _ _ hu hv
        rw [show i / 12 * 12 + i % 12 = i by omega] at g
        rw [ar_cl (by omega), g]
        refine congrArg nI ?_
        unfold fw_0
        rw [if_neg hne, if_pos e]
      · unfold wX_layCells_119
        refine br_t rfl (nx _ (fun hne => ?_))
        unfold fw_0
        rw [if_neg hne, if_neg e]; rfl
  have l23 : ∀ (d k : Nat) (bo : Nat → Int32), k + d = 28 → (∀ j, j < k → th j = true → fr j / 4 ≠ to j / 4 → ¬ bo (fr j) = 0 ∧ ¬ bo (to j) = 0) → wX_layCells_23 post xP xZ (d + 1) (nI k) aFr aTo aLe aRd aFd aKp aFa aSe aFb aSb aHp aPl aEg aRk aTH aFH aLm aFM aTM aFl bo aAc := by
    intro d
    induction d with
    | zero =>
      intro k bo hk h
      have e : k = 28 := by omega
      subst e
      exact br_t (by decide) ⟨144 + 1, l90 bo h 144 0 aAc rfl (fun j h => by omega)⟩
    | succ d ih =>
      intro k bo hkd h
      have hk : k < 28 := by omega
      obtain ⟨n1, n2, n3⟩ := N.2 k hk
      obtain ⟨o1, o2, o3, o4⟩ := OK k hk
      have ek : (nI k).toNatClampNeg = k := ar_cl (by omega)
      have old : (th k = true → fr k / 4 ≠ to k / 4 → False) → wX_layCells_23 post xP xZ (d + 1) (nI (k + 1)) aFr aTo aLe aRd aFd aKp aFa aSe aFb aSb aHp aPl aEg aRk aTH aFH aLm aFM aTM aFl bo aAc := by
        intro hn
        refine ih (k + 1) bo (by omega) (fun j hj a b => ?_)
        rcases Nat.lt_or_ge j k with z | z
        · exact h j z a b
        · have e : j = k := by omega
          rw [e] at a b
          exact (hn a b).elim
      refine br_f (nI_ge (b := 28) hk (by decide)) (xw_has N.1 hk (fun hth => br_f (by decide) ⟨ar_n hk, ?_⟩) (fun hth => br_t rfl (nm_r (nI_1 k) (old (fun z => absurd z hth)))))
      rw [ek, n1, n2]
      refine xw_cell (by omega) ⟨ar_n hk, xw_cell (by omega) (br_eq (a := fr k / 4) (b := to k / 4) rfl rfl (by omega) (by omega) (fun e => nm_r (nI_1 k) (old (fun _ z => z e))) (fun e => ⟨ar_n hk, ar_n o1, nm_r (ar_u (by omega) _ _) ⟨ar_n hk, ar_n o2, nm_r (ar_u (by omega) _ _) (nm_r (nI_1 k) (ih (k + 1) _ (by omega) (fun j hj a b => ?_)))⟩⟩))⟩
      have k1 : ∀ y, ¬ bo y = 0 → ¬ upd (upd bo (fr k) (vp_nar .boolean 1)) (to k) (vp_nar .boolean 1) y = 0 := by
        intro y hy
        by_cases q : y = to k
        · rw [q, pk_us]; decide
        · rw [pk_un q]
          by_cases q2 : y = fr k
          · rw [q2, pk_us]; decide
          · rw [pk_un q2]; exact hy
      rcases Nat.lt_or_ge j k with z | z
      · exact ⟨k1 _ (h j z a b).1, k1 _ (h j z a b).2⟩
      · have e : j = k := by omega
        rw [e]
        constructor
        · by_cases q : fr k = to k
          · rw [q, pk_us]; decide
          · rw [pk_un q, pk_us]; decide
        · rw [pk_us]; decide
  have l2 : ∀ (d i : Nat) (bo : Nat → Int32), i + d = 12 → wX_layCells_2 post xP xZ (d + 1) (nI i) aFr aTo aLe aRd aFd aKp aFa aSe aFb aSb aHp aPl aEg aRk aTH aFH aLm aFM aTM aFl bo aAc := by
    intro d
    induction d with
    | zero =>
      intro i bo hi
      have e : i = 12 := by omega
      subst e
      exact br_t (by decide) ⟨28 + 1, l23 28 0 bo rfl (fun j h => by omega)⟩
    | succ d ih =>
      intro i bo hid
      have hi : i < 12 := by omega
      exact br_f (nI_ge (b := 12) hi (by decide)) ⟨ar_n hi, nm_e (nm_r (nI_1 i) (ih (i + 1) _ (by omega)))⟩
  exact ⟨12 + 1, l2 12 0 aBo rfl⟩
theorem xw_over {post : Int32 → Prop} {u v s t : Nat} (hu : u < 12) (hv : v < 12) (hs : s < 12) (ht : t < 12) (hR : ar_2 12 aRd R) (hA : ar_2 12 aAc A) (K : post (nI (ov_w R A (fun j => ¬ aBo j = 0) s t u v))) : wpX_stepOver post (xP, xZ, aFr, aTo, aLe, aRd, aFd, aKp, aFa, aSe, aFb, aSb, aHp, aPl, aEg, aRk, aTH, aFH, aLm, aFM, aTM, aFl, aBo, aAc) (nI u) (nI v) (nI s) (nI t) := by
  have j34 : (u / 4 ≠ v / 4 ∨ u / 4 = s / 4 ∨ u / 4 = t / 4) → wX_stepOver_34 post (nI u) (nI v) xP xZ aFr aTo aLe aRd aFd aKp aFa aSe aFb aSb aHp aPl aEg aRk aTH aFH aLm aFM aTM aFl aBo aAc := by
    intro h
    unfold wX_stepOver_34
    refine ⟨ar_n2 (n := 12) hu hv, ?_⟩
    rw [ov_a h] at K
    rw [ar_r2 hR hu hv]; exact K
  have eu : (nI u).toNatClampNeg = u := ar_cl (by omega)
  have ev : (nI v).toNatClampNeg = v := ar_cl (by omega)
  unfold wpX_stepOver
  refine xw_cell (p := u) (by omega) ?_
  refine xw_cell (p := v) (by omega) ?_
  refine (br_eq (a := u / 4) (b := v / 4) rfl rfl (by omega) (by omega) (fun e => xw_cell (p := s) (by omega) (br_eq (a := u / 4) (b := s / 4) rfl rfl (by omega) (by omega) (fun h => j34 (Or.inr (Or.inl h))) (fun h1 => xw_cell (p := t) (by omega) (br_eq (a := u / 4) (b := t / 4) rfl rfl (by omega) (by omega) (fun h => j34 (Or.inr (Or.inr h))) (fun h2 => ⟨ar_n hu, br_c (fun b1 => ?_) (fun b1 => ⟨ar_n hv, br_c (fun b2 => ?_) (fun b2 => ⟨ar_n2 (n := 12) hu hv, ?_⟩)⟩)⟩))))) (fun e => j34 (Or.inl e)))
  · rw [eu] at b1
    rw [ov_c (bo := fun j => ¬ aBo j = 0) e h1 h2 (fun z => z.1 b1)] at K; exact K
  · rw [ev] at b2
    rw [ov_c (bo := fun j => ¬ aBo j = 0) e h1 h2 (fun z => z.2 b2)] at K; exact K
  · rw [eu] at b1
    rw [ev] at b2
    rw [ov_b e h1 h2 b1 b2] at K
    rw [ar_r2 hA hu hv]; exact K
theorem xw_oc25 {post : Int32 → SX → Prop} {J : Int32 → (Nat → Int32) → (Nat → Int32) → (Nat → Int32) → (Nat → Int32) → (Nat → Int32) → (Nat → Int32) → (Nat → Int32) → (Nat → Int32) → (Nat → Int32) → (Nat → Int32) → (Nat → Int32) → (Nat → Int32) → (Nat → Int32) → (Nat → Int32) → (Nat → Int32) → (Nat → Int32) → (Nat → Int32) → (Nat → Int32) → (Nat → Int32) → (Nat → Int32) → (Nat → Int32) → (Nat → Int32) → Prop} {F : Nat → Nat} {u s t : Nat} (hu : u < 12) (hs : s < 12) (ht : t < 12) (hR : ar_2 12 aRd R) (hA : ar_2 12 aAc A) (bW : ∀ a b, a < 12 → b < 12 → ov_w R A (fun j => ¬ aBo j = 0) s t a b ≤ 1000000) (fK : ∀ v, v < 12 → F v ≤ 1000000)
    (K : ∀ fa, ar_I 12 fa (dj_rx (ov_w R A (fun j => ¬ aBo j = 0) s t) u F) → wpX_nearestOpen (fun r => J r aFr aTo aLe aRd aFd aKp fa aSe aFb aSb aHp aPl aEg aRk aTH aFH aLm aFM aTM aFl aBo aAc) (xP, xZ, aFr, aTo, aLe, aRd, aFd, aKp, fa, aSe, aFb, aSb, aHp, aPl, aEg, aRk, aTH, aFH, aLm, aFM, aTM, aFl, aBo, aAc)) :
    ∀ (d i : Nat) (fa : Nat → Int32), i + d = 12 → ar_I 12 fa (ar_mx i (dj_rx (ov_w R A (fun j => ¬ aBo j = 0) s t) u F) F) → wX_distanceOverCells_25 post J (nI s) (nI t) (nI u) xP xZ (d + 1) (nI i) aFr aTo aLe aRd aFd aKp fa aSe aFb aSb aHp aPl aEg aRk aTH aFH aLm aFM aTM aFl aBo aAc := by
  intro d
  induction d with
  | zero =>
    intro i fa hi h
    have e : i = 12 := by omega
    subst e
    exact br_t (by decide) (K fa (ar_mn h))
  | succ d ih =>
    intro i fa hid h
    have hi : i < 12 := by omega
    have bi := fK i hi
    have bu := fK u hu
    have be := bW u i hu hi
    have e1 : fa (nI u).toNatClampNeg = nI (F u) := by rw [ar_r h hu, dj_ru]
    have e2 : fa (nI i).toNatClampNeg = nI (F i) := by rw [ar_r h hi, ar_mi]
    refine br_f (nI_ge (b := 12) hi (by decide)) ⟨ar_n hu, xw_over hu hi hs ht hR hA (nm_r (e' := nI (F u + ov_w R A (fun j => ¬ aBo j = 0) s t u i)) (by rw [e1, nI_add]) ⟨ar_n hi, br_le e2 rfl (by omega) (by omega) (fun hle => ⟨ar_n hi, ar_n hi, nm_r (ar_us (by omega) fa) (nm_r (nI_1 i) (ih (i + 1) fa (by omega) (ar_mk h ?_)))⟩) (fun hlt => ⟨ar_n hi, nm_r (ar_u (by omega) fa _) (nm_r (nI_1 i) (ih (i + 1) _ (by omega) (ar_ms h ?_)))⟩)⟩)⟩
    · show min (F i) (F u + ov_w R A (fun j => ¬ aBo j = 0) s t u i) = F i
      omega
    · refine congrArg nI ?_
      show _ = min (F i) (F u + ov_w R A (fun j => ¬ aBo j = 0) s t u i)
      omega
theorem xw_eng6 {post : Int32 → SX → Prop} {s t : Nat} (hs : s < 12) (ht : t < 12) (hR : ar_2 12 aRd R) (bR : ∀ a b, R a b ≤ 1000000) (h1 : ∀ a b, 1 ≤ R a b) (hA : ar_2 12 aAc A) (I : fw_I R 12 A) (hb : ∀ a b, a < 12 → b < 12 → a / 4 ≠ b / 4 → R a b < 1000000 → ¬ aBo a = 0 ∧ ¬ aBo b = 0)
    (K : ∀ fa se fb sb, post (nI (gd_d R s t)) (xP, xZ, aFr, aTo, aLe, aRd, aFd, aKp, fa, se, fb, sb, aHp, aPl, aEg, aRk, aTH, aFH, aLm, aFM, aTM, aFl, aBo, aAc)) : wpX_distanceOverCells post (xP, xZ, aFr, aTo, aLe, aRd, aFd, aKp, aFa, aSe, aFb, aSb, aHp, aPl, aEg, aRk, aTH, aFH, aLm, aFM, aTM, aFl, aBo, aAc) (nI s) (nI t) := by
  have bW : ∀ a b, a < 12 → b < 12 → ov_w R A (fun j => ¬ aBo j = 0) s t a b ≤ 1000000 := by
    intro a b ha hb'
    have x := bR a b
    have y := (I.2.1 a b ha hb').1
    unfold ov_w
    split
    · split
      · exact x
      · split
        · exact x
        · split
          · split
            · exact y
            · omega
          · omega
    · exact x
  have l : ∀ (fb sb : Nat → Int32) (n : Nat) (F : Nat → Nat) (S : Nat → Prop) (fa se : Nat → Int32) (r : Int32), cn_c (fun j => ¬ S j) 12 < n → ar_I 12 fa F → ar_S se S → dj_I (ov_w R A (fun j => ¬ aBo j = 0) s t) s S F → dj_N S F r → wX_distanceOverCells_11 post (nI s) (nI t) xP xZ n r aFr aTo aLe aRd aFd aKp fa se fb sb aHp aPl aEg aRk aTH aFH aLm aFM aTM aFl aBo aAc := by
    intro fb sb n
    induction n with
    | zero => intro F S fa se r h; omega
    | succ n ih =>
      intro F S fa se r hn hF hS I' hr
      rcases hr with ⟨r1, r2⟩ | ⟨u, u1, u2, u3, u4, u5⟩
      · refine br_t (by rw [r1]; decide) ⟨ar_n ht, ?_⟩
        rw [ar_r hF ht, dj_end I' r2 t ht, ov_end h1 I hb hs ht]
        exact K fa se fb sb
      · rw [u2]
        have hS' := ar_Su hS u1
        have I2 := dj_up I' u1 u5 u3
        refine br_f (br_0 (by omega)) ⟨ar_n u1, nm_e ⟨12 + 1, xw_oc25 u1 hs ht hR hA bW I'.2.1 (fun fa' hF' => xw_nof hF' hS' I2.2.1 (fun r' hr' => ih _ _ fa' _ r' (dj_cn u1 u3 hn) hF' hS' I2 hr')) 12 0 fa rfl (ar_m0 hF)⟩⟩
  refine xw_both hs ht (fun fa se fb sb hF hS _ _ => xw_nof hF hS (dj_0 (ov_w R A (fun j => ¬ aBo j = 0) s t)).2.1 (fun r hr => ⟨_, l fb sb _ _ _ fa se r (Nat.lt_succ_self _) hF hS (dj_0 _) hr⟩))
end
end
section
/-! all seven -/
def en_P (th : Nat → Bool) (fr to ln : Nat → Nat) (e : Nat) (rd eg rk tH fH fm tm fl bo ac : Nat → Int32) : Prop :=
  ar_2 12 rd (nt_R th fr to ln) ∧
  (e = 2 → ∃ E rkf, ar_2 12 eg E ∧ ar_I 12 rk rkf ∧ ch_S (nt_R th fr to ln) E ∧ ch_C (nt_R th fr to ln) rkf E (fun _ => True) ∧ ∀ j, j < 12 → rkf j < 12) ∧
  (e = 3 → ∃ TH FH H, ar_2 12 tH TH ∧ ar_2 12 fH FH ∧ lb_I (nt_R th fr to ln) H TH FH ∧ ∀ j, j < 12 → H j) ∧
  (e = 4 → ar_2 3 fm (fun l p => gd_d (nt_R th fr to ln) (lm_f l) p) ∧ ar_2 3 tm (fun l p => gd_d (nt_R th fr to ln) p (lm_f l))) ∧
  (e = 5 → ∃ B : Nat → Nat → Bool, (∀ k, k < 28 → fl k = ob_f (B k) 4) ∧ ∀ k v, k < 28 → v < 12 → fs_on (nt_R th fr to ln) th fr to ln k v → B k (v / 3) = true) ∧
  (e = 6 → ∃ A, ar_2 12 ac A ∧ fw_I (nt_R th fr to ln) 12 A ∧ ∀ k, k < 28 → th k = true → fr k / 4 ≠ to k / 4 → ¬ bo (fr k) = 0 ∧ ¬ bo (to k) = 0)
section
variable {xP xZ : Int32} {aFr aTo aLe aRd aFd aKp aFa aSe aFb aSb aHp aPl aEg aRk aTH aFH aLm aFM aTM aFl aBo aAc : Nat → Int32}
variable {th : Nat → Bool} {fr to ln : Nat → Nat}
theorem xw_prep {post : SX → Prop} {e : Nat} (he : e < 7) (N : nx_I th fr to ln xP aFr aTo aLe) (OK : nt_ok th fr to ln)
    (K : ∀ (xZ' : Int32) (aRd' aFd' aFa' aSe' aFb' aSb' aHp' aPl' aEg' aRk' aTH' aFH' aLm' aFM' aTM' aFl' aBo' aAc' : Nat → Int32), xZ' = xZ → aFd' = aFd → aHp' = aHp → aPl' = aPl → en_P th fr to ln e aRd' aEg' aRk' aTH' aFH' aFM' aTM' aFl' aBo' aAc' → post (xP, xZ', aFr, aTo, aLe, aRd', aFd', aKp, aFa', aSe', aFb', aSb', aHp', aPl', aEg', aRk', aTH', aFH', aLm', aFM', aTM', aFl', aBo', aAc')) : wpX_prepare post (xP, xZ, aFr, aTo, aLe, aRd, aFd, aKp, aFa, aSe, aFb, aSb, aHp, aPl, aEg, aRk, aTH, aFH, aLm, aFM, aTM, aFl, aBo, aAc) (nI e) := by
  have bR : ∀ a b, nt_R th fr to ln a b ≤ 1000000 := fun a b => nt_K 28 a b
  have h1 : ∀ a b, 1 ≤ nt_R th fr to ln a b := fun a b => nt_1 OK a b
  unfold wpX_prepare
  refine xw_roads N OK (fun rd hR => ?_)
  refine br_eq (a := e) (b := 2) rfl rfl (by omega) (by omega) (fun z => xw_hier hR bR (fun E rk fa se eg ra a b c d f g => K _ _ _ _ _ _ _ _ _ _ _ _ _ _ _ _ _ _ _ rfl rfl rfl rfl ⟨hR, fun _ => ⟨E, rk, a, b, c, d, f⟩, fun q => by omega, fun q => by omega, fun q => by omega, fun q => by omega⟩)) (fun z2 => ?_)
  refine br_eq (a := e) (b := 3) rfl rfl (by omega) (by omega) (fun z => xw_lay3 hR bR h1 (fun fa se fb sb ta fb' TH FH H a b c d => K _ _ _ _ _ _ _ _ _ _ _ _ _ _ _ _ _ _ _ rfl rfl rfl rfl ⟨hR, fun q => by omega, fun _ => ⟨TH, FH, H, a, b, c, d⟩, fun q => by omega, fun q => by omega, fun q => by omega⟩)) (fun z3 => ?_)
  refine br_eq (a := e) (b := 4) rfl rfl (by omega) (by omega) (fun z => xw_lay4 hR bR (fun fa se fb sb lm fm tm a b => K _ _ _ _ _ _ _ _ _ _ _ _ _ _ _ _ _ _ _ rfl rfl rfl rfl ⟨hR, fun q => by omega, fun q => by omega, fun _ => ⟨a, b⟩, fun q => by omega, fun q => by omega⟩)) (fun z4 => ?_)
  refine br_eq (a := e) (b := 5) rfl rfl (by omega) (by omega) (fun z => xw_lay5 N OK hR bR (fun fa se fb sb fl B a b => K _ _ _ _ _ _ _ _ _ _ _ _ _ _ _ _ _ _ _ rfl rfl rfl rfl ⟨hR, fun q => by omega, fun q => by omega, fun q => by omega, fun _ => ⟨B, a, b⟩, fun q => by omega⟩)) (fun z5 => ?_)
  exact br_eq (a := e) (b := 6) rfl rfl (by omega) (by omega) (fun z => xw_lay6 N OK hR bR (fun bo ac A a b c => K _ _ _ _ _ _ _ _ _ _ _ _ _ _ _ _ _ _ _ rfl rfl rfl rfl ⟨hR, fun q => by omega, fun q => by omega, fun q => by omega, fun q => by omega, fun _ => ⟨A, a, b, c⟩⟩)) (fun z6 => K _ _ _ _ _ _ _ _ _ _ _ _ _ _ _ _ _ _ _ rfl rfl rfl rfl ⟨hR, fun q => by omega, fun q => by omega, fun q => by omega, fun q => by omega, fun q => by omega⟩)
theorem xw_by {post : Int32 → SX → Prop} {e s t : Nat} (he : e < 7) (hs : s < 12) (ht : t < 12) (N : nx_I th fr to ln xP aFr aTo aLe) (OK : nt_ok th fr to ln) (P : en_P th fr to ln e aRd aEg aRk aTH aFH aFM aTM aFl aBo aAc)
    (K : ∀ xZ aFa aSe aFb aSb aHp aPl, post (nI (gd_d (nt_R th fr to ln) s t)) (xP, xZ, aFr, aTo, aLe, aRd, aFd, aKp, aFa, aSe, aFb, aSb, aHp, aPl, aEg, aRk, aTH, aFH, aLm, aFM, aTM, aFl, aBo, aAc)) : wpX_distanceBy post (xP, xZ, aFr, aTo, aLe, aRd, aFd, aKp, aFa, aSe, aFb, aSb, aHp, aPl, aEg, aRk, aTH, aFH, aLm, aFM, aTM, aFl, aBo, aAc) (nI e) (nI s) (nI t) := by
  have bR : ∀ a b, nt_R th fr to ln a b ≤ 1000000 := fun a b => nt_K 28 a b
  have h1 : ∀ a b, 1 ≤ nt_R th fr to ln a b := fun a b => nt_1 OK a b
  obtain ⟨hR, p2, p3, p4, p5, p6⟩ := P
  unfold wpX_distanceBy
  refine br_f (br_0 (by omega)) (br_lt (a := 5) (b := e) rfl rfl (by omega) (by omega) (fun h => ?_) (fun h => ?_))
  · obtain ⟨A, a, b, c⟩ := p6 (by omega)
    refine xw_eng6 hs ht hR bR h1 a b (fun x y hx hy hne hk => ?_) (fun fa se fb sb => K _ _ _ _ _ _ _)
    rcases nt_ex (th := th) (fr := fr) (to := to) (ln := ln) 28 x y with z | ⟨k, hk2, k1, k2, k3, k4⟩
    · have z' : nt_R th fr to ln x y = 1000000 := z
      omega
    · have := c k hk2 k1 (by rw [k2, k3]; exact hne)
      rw [k2, k3] at this
      exact this
  · refine br_eq (a := e) (b := 0) rfl rfl (by omega) (by omega) (fun z => ?_) (fun z0 => ?_)
    · refine xw_search N OK hs (fun z fa se hp pl hF => ⟨ar_n ht, ?_⟩)
      rw [ar_r hF ht]
      exact K _ _ _ _ _ _ _
    refine br_eq (a := e) (b := 1) rfl rfl (by omega) (by omega) (fun z => xw_eng1 hs ht hR bR (fun fa se fb sb => K _ _ _ _ _ _ _)) (fun z1 => ?_)
    refine br_eq (a := e) (b := 2) rfl rfl (by omega) (by omega) (fun z => ?_) (fun z2 => ?_)
    · obtain ⟨E, rk, a, b, c, d, f⟩ := p2 z
      exact xw_eng2 hs ht a c d b f (fun fa se fb sb => K _ _ _ _ _ _ _)
    refine br_eq (a := e) (b := 3) rfl rfl (by omega) (by omega) (fun z => ?_) (fun z3 => ?_)
    · obtain ⟨TH, FH, H, a, b, c, d⟩ := p3 z
      refine xw_labels hs ht a b (fun x g hx hg => (c.1 x g hx hg).1) (fun x g hx hg => (c.2.1 x g hx hg).1) ?_
      rw [lb_end c d hs ht]
      exact K _ _ _ _ _ _ _
    refine br_eq (a := e) (b := 4) rfl rfl (by omega) (by omega) (fun z => ?_) (fun z4 => ?_)
    · obtain ⟨a, b⟩ := p4 z
      exact xw_eng4 hs ht hR bR (nt_30 OK) (fun s u hs hu hk => nt_bd OK hs hu hk) a b (fun l p _ _ => ⟨rfl, rfl⟩) (fun fa se fb sb => K _ _ _ _ _ _ _)
    refine br_eq (a := e) (b := 5) rfl rfl (by omega) (by omega) (fun z => ?_) (fun z5 => trivial)
    obtain ⟨B, a, b⟩ := p5 z
    exact xw_eng5 N OK hs ht a b (fun z fa se hp pl => K _ _ _ _ _ _ _)
theorem xw_find {post : SX → Prop} {e : Nat} (he : e < 7) (N : nx_I th fr to ln xP aFr aTo aLe) (OK : nt_ok th fr to ln)
    (K : ∀ (xZ' : Int32) (aRd' aFd' aFa' aSe' aFb' aSb' aHp' aPl' aEg' aRk' aTH' aFH' aLm' aFM' aTM' aFl' aBo' aAc' : Nat → Int32), ar_2 12 aRd' (nt_R th fr to ln) → ar_2 12 aFd' (gd_d (nt_R th fr to ln)) → post (xP, xZ', aFr, aTo, aLe, aRd', aFd', aKp, aFa', aSe', aFb', aSb', aHp', aPl', aEg', aRk', aTH', aFH', aLm', aFM', aTM', aFl', aBo', aAc')) : wpX_findAll post (xP, xZ, aFr, aTo, aLe, aRd, aFd, aKp, aFa, aSe, aFb, aSb, aHp, aPl, aEg, aRk, aTH, aFH, aLm, aFM, aTM, aFl, aBo, aAc) (nI e) := by
  unfold wpX_findAll
  refine xw_prep he N OK (fun xZ' aRd' aFd' aFa' aSe' aFb' aSb' aHp' aPl' aEg' aRk' aTH' aFH' aLm' aFM' aTM' aFl' aBo' aAc' _ _ _ _ P => ?_)
  have l : ∀ (d i : Nat) (xZ2 : Int32) (fd fa se fb sb hp pl : Nat → Int32), i + d = 144 → (∀ j, j < i → fd j = nI (gd_d (nt_R th fr to ln) (j / 12) (j % 12))) → wX_findAll_7 post (nI e) (d + 1) (nI i) xP xZ2 aFr aTo aLe aRd' fd aKp fa se fb sb hp pl aEg' aRk' aTH' aFH' aLm' aFM' aTM' aFl' aBo' aAc' := by
    intro d
    induction d with
    | zero =>
      intro i xZ2 fd fa se fb sb hp pl hi h
      have ei : i = 144 := by omega
      subst ei
      refine br_t (by decide) (K _ _ _ _ _ _ _ _ _ _ _ _ _ _ _ _ _ _ _ P.1 (fun u v hu hv => ?_))
      rw [h _ (by omega), show (u * 12 + v) / 12 = u by omega, show (u * 12 + v) % 12 = v by omega]
    | succ d ih =>
      intro i xZ2 fd fa se fb sb hp pl hid h
      have hi : i < 144 := by omega
      have hu : i / 12 < 12 := by omega
      have hv : i % 12 < 12 := by omega
      have bd := gd_le (nt_R th fr to ln) (i / 12) hv
      refine br_f (nI_ge (b := 144) hi (by decide)) ⟨by decide, by decide, ?_⟩
      rw [cl_m (by omega), cl_12 (by omega)]
      refine xw_by he hu hv N OK P (fun xZ3 fa' se' fb' sb' hp' pl' => br_le (a := 1000000) rfl rfl (by omega) (by omega) (fun hle => ⟨ar_n hi, nm_r (ar_u (by omega) _ _) (nm_r (nI_1 i) (ih (i + 1) _ _ _ _ _ _ _ _ (by omega) (fun j hj => ?_)))⟩) (fun hlt => ⟨ar_n hi, nm_r (ar_u (by omega) _ _) (nm_r (nI_1 i) (ih (i + 1) _ _ _ _ _ _ _ _ (by omega) (fun j hj => ?_)))⟩))
      · by_cases ej : j = i
        · rw [ej, pk_us, show gd_d (nt_R th fr to ln) (i / 12) (i % 12) = 1000000 by omega]; rfl
        · rw [pk_un ej]; exact h j (by omega)
      · by_cases ej : j = i
        · rw [ej, pk_us]
        · rw [pk_un ej]; exact h j (by omega)
  exact ⟨144 + 1, l 144 0 _ _ _ _ _ _ _ _ rfl (fun j h => by omega)⟩
theorem xw_eng_n {post : Int32 → Prop} {x : Int32} (h : x < 0 ∨ nI 7 ≤ x) (K : post 0) : wpX_isEngine post x := by
  unfold wpX_isEngine
  rcases h with h | h
  · exact br_t h K
  · exact br_c (fun _ => K) (fun _ => br_t h K)
theorem xw_eng_y {post : Int32 → Prop} {e : Nat} (h : e < 7) (K : post 1) : wpX_isEngine post (nI e) :=
  br_f (br_0 (by omega)) (br_f (nI_ge (b := 7) h (by decide)) K)
theorem xw_pt_n {post : Int32 → Prop} {x : Int32} (h : x < 0 ∨ nI 12 ≤ x) (K : post 0) : wpX_isPoint post x := by
  unfold wpX_isPoint
  rcases h with h | h
  · exact br_t h K
  · exact br_c (fun _ => K) (fun _ => br_t h K)
theorem xw_pt_y {post : Int32 → Prop} {e : Nat} (h : e < 12) (K : post 1) : wpX_isPoint post (nI e) :=
  br_f (br_0 (by omega)) (br_f (nI_ge (b := 12) h (by decide)) K)
theorem xw_has_n {post : Int32 → Prop} {x : Int32} (h : x < 0 ∨ nI 28 ≤ x) (K : post 0) : wpX_has post (xP, xZ, aFr, aTo, aLe, aRd, aFd, aKp, aFa, aSe, aFb, aSb, aHp, aPl, aEg, aRk, aTH, aFH, aLm, aFM, aTM, aFl, aBo, aAc) x := by
  unfold wpX_has
  rcases h with h | h
  · exact br_t h K
  · exact br_c (fun _ => K) (fun _ => br_t h K)
theorem xw_dist {post : Int32 → SX → Prop} {e s t : Nat} (he : e < 7) (hs : s < 12) (ht : t < 12) (N : nx_I th fr to ln xP aFr aTo aLe) (OK : nt_ok th fr to ln)
    (K : ∀ (xZ' : Int32) (aRd' aFd' aFa' aSe' aFb' aSb' aHp' aPl' aEg' aRk' aTH' aFH' aLm' aFM' aTM' aFl' aBo' aAc' : Nat → Int32), post (ye_f (gd_d (nt_R th fr to ln) s t)) (xP, xZ', aFr, aTo, aLe, aRd', aFd', aKp, aFa', aSe', aFb', aSb', aHp', aPl', aEg', aRk', aTH', aFH', aLm', aFM', aTM', aFl', aBo', aAc')) : wpX_distance post (xP, xZ, aFr, aTo, aLe, aRd, aFd, aKp, aFa, aSe, aFb, aSb, aHp, aPl, aEg, aRk, aTH, aFH, aLm, aFM, aTM, aFl, aBo, aAc) (nI e) (nI s) (nI t) := by
  unfold wpX_distance
  have bd := gd_le (nt_R th fr to ln) s ht
  refine xw_eng_y he (br_f (by decide) (xw_pt_y hs (br_f (by decide) (xw_pt_y ht (br_f (by decide) (xw_prep he N OK (fun xZ' aRd' aFd' aFa' aSe' aFb' aSb' aHp' aPl' aEg' aRk' aTH' aFH' aLm' aFM' aTM' aFl' aBo' aAc' _ _ _ _ P => xw_by he hs ht N OK P (fun xZ3 fa' se' fb' sb' hp' pl' => br_le (a := 1000000) rfl rfl (by omega) (by omega) (fun hle => ?_) (fun hlt => ?_)))))))))
  · have k : ye_f (gd_d (nt_R th fr to ln) s t) = -3 := if_neg (by omega)
    rw [k] at K
    exact K _ _ _ _ _ _ _ _ _ _ _ _ _ _ _ _ _ _ _
  · have k : ye_f (gd_d (nt_R th fr to ln) s t) = nI (gd_d (nt_R th fr to ln) s t) := if_pos hlt
    rw [k] at K
    exact K _ _ _ _ _ _ _ _ _ _ _ _ _ _ _ _ _ _ _
end
end
section
/-! answers, without the program -/
def bw_P (G : Nat → Nat → Nat) (s t : Nat) (p : Nat) : Bool := decide (G s t < 1000000 ∧ G s p < 1000000 ∧ G p t < 1000000 ∧ G s p + G p t = G s t)
def ad_P (G : Nat → Nat → Nat) (s : Nat) (r : Int32) (t : Nat) : Bool := decide (G s t < 1000000 ∧ ¬ r < nI (G s t))
def nl_P (G : Nat → Nat → Nat) (th : Nat → Bool) (fr to ln : Nat → Nat) (k : Nat) : Bool := decide (th k = true ∧ G (fr k) (to k) < ln k)
def mx_f (f : Nat → Nat) : Nat → Nat
  | 0 => 0
  | n + 1 => if f n < 1000000 ∧ mx_f f n < f n then f n else mx_f f n
theorem mx_K (f : Nat → Nat) : ∀ n, mx_f f n < 1000000
  | 0 => (by decide : 0 < 1000000)
  | n + 1 => by
    have := mx_K f n
    simp only [mx_f]
    split <;> omega
theorem mx_e (f : Nat → Nat) (n : Nat) : mx_f f (n + 1) = max (mx_f f n) (if f n < 1000000 then f n else 0) := by
  simp only [mx_f]
  by_cases h : f n < 1000000
  · rw [if_pos h]
    by_cases g : mx_f f n < f n
    · rw [if_pos ⟨h, g⟩]; omega
    · rw [if_neg (fun z => g z.2)]; omega
  · rw [if_neg h, if_neg (fun z => h z.1)]; omega
def mx_g (G : Nat → Nat → Nat) : Nat → Nat
  | 0 => 0
  | s + 1 => max (mx_g G s) (mx_f (G s) 12)
theorem mx_row (G : Nat → Nat → Nat) (s : Nat) : ∀ j, j ≤ 12 → mx_f (fun i => G (i / 12) (i % 12)) (s * 12) = mx_g G s → mx_f (fun i => G (i / 12) (i % 12)) (s * 12 + j) = max (mx_g G s) (mx_f (G s) j)
  | 0, _, h => by
    show mx_f (fun i => G (i / 12) (i % 12)) (s * 12) = max (mx_g G s) 0
    omega
  | j + 1, hj, h => by
    have ih := mx_row G s j (by omega) h
    have e1 := mx_e (fun i => G (i / 12) (i % 12)) (s * 12 + j)
    have e2 := mx_e (G s) j
    have e3 : G ((s * 12 + j) / 12) ((s * 12 + j) % 12) = G s j := by
      rw [show (s * 12 + j) / 12 = s by omega, show (s * 12 + j) % 12 = j by omega]
    rw [e3] at e1
    show mx_f (fun i => G (i / 12) (i % 12)) (s * 12 + j + 1) = _
    rw [e1, ih, e2]
    omega
theorem mx_all (G : Nat → Nat → Nat) : ∀ s, mx_f (fun i => G (i / 12) (i % 12)) (s * 12) = mx_g G s
  | 0 => rfl
  | s + 1 => by
    have := mx_row G s 12 (by omega) (mx_all G s)
    rw [show (s + 1) * 12 = s * 12 + 12 by omega, this]
    rfl
def rs_f (rk : Nat → Nat) : Nat → Int32
  | 0 => 0
  | n + 1 => rs_f rk n ||| ((1 : Int32) <<< (nI (rk n) &&& 31))
theorem rs_bt {rk : Nat → Nat} (hr : ∀ j, j < 12 → rk j < 12) : ∀ {n : Nat}, n ≤ 12 → ∀ i, i < 32 → (bt (rs_f rk n) i = true ↔ ∃ j, j < n ∧ rk j = i)
  | 0, _, i, _ => by
    rw [show rs_f rk 0 = 0 from rfl, b_0]
    exact ⟨fun z => Bool.noConfusion z, fun ⟨j, h, _⟩ => by omega⟩
  | n + 1, hn, i, hi => by
    have ih := rs_bt hr (n := n) (by omega) i hi
    have h1 := hr n (by omega)
    show bt (rs_f rk n ||| ((1 : Int32) <<< (nI (rk n) &&& 31))) i = true ↔ _
    rw [b_or, ob_one (by omega) hi, Bool.or_eq_true, ih, decide_eq_true_eq]
    constructor
    · rintro (⟨j, a, b⟩ | e)
      · exact ⟨j, by omega, b⟩
      · exact ⟨n, by omega, e.symm⟩
    · rintro ⟨j, a, b⟩
      rcases Nat.lt_or_ge j n with z | z
      · exact Or.inl ⟨j, z, b⟩
      · have e : j = n := by omega
        rw [e] at b
        exact Or.inr b.symm
theorem rs_4095 : ∀ i, i < 32 → bt 4095 i = decide (i < 12) := by decide +kernel
theorem rs_all {rk : Nat → Nat} (hr : ∀ j, j < 12 → rk j < 12) (hs : ∀ i, i < 12 → ∃ j, j < 12 ∧ rk j = i) : rs_f rk 12 = 4095 := by
  apply b_ext
  intro i hi
  rw [rs_4095 i hi]
  have h := rs_bt hr (n := 12) (by omega) i hi
  by_cases e : i < 12
  · rw [decide_eq_true e]
    exact h.mpr (hs i e)
  · rw [decide_eq_false e]
    rcases hb : bt (rs_f rk 12) i with _ | _
    · rfl
    · obtain ⟨j, a, b⟩ := h.mp hb
      have := hr j a
      omega
section
variable {xP xZ : Int32} {aFr aTo aLe aRd aFd aKp aFa aSe aFb aSb aHp aPl aEg aRk aTH aFH aLm aFM aTM aFl aBo aAc : Nat → Int32}
variable {th : Nat → Bool} {fr to ln : Nat → Nat} {G : Nat → Nat → Nat}
theorem xl_between {post : Int32 → SX → Prop} {s t : Nat} (hs : s < 12) (ht : t < 12) (hG : ar_2 12 aFd G) (bG : ∀ s t, s < 12 → t < 12 → G s t ≤ 1000000) (K : post (ob_f (bw_P G s t) 12) (xP, xZ, aFr, aTo, aLe, aRd, aFd, aKp, aFa, aSe, aFb, aSb, aHp, aPl, aEg, aRk, aTH, aFH, aLm, aFM, aTM, aFl, aBo, aAc)) : ∃ n : Nat, wX_between_39 post (nI s) (nI t) (nI (G s t)) xP xZ aFr aTo aLe aRd aFd aKp aFa aSe aFb aSb aHp aPl aEg aRk aTH aFH aLm aFM aTM aFl aBo aAc n 0 0 := by
  have bst := bG s t hs ht
  by_cases hk : G s t < 1000000
  · have l : ∀ (d i : Nat), i + d = 12 → wX_between_39 post (nI s) (nI t) (nI (G s t)) xP xZ aFr aTo aLe aRd aFd aKp aFa aSe aFb aSb aHp aPl aEg aRk aTH aFH aLm aFM aTM aFl aBo aAc (d + 1) (ob_f (bw_P G s t) i) (nI i) := by
      intro d
      induction d with
      | zero =>
        intro i hi
        have e : i = 12 := by omega
        subst e
        exact br_t (by decide) K
      | succ d ih =>
        intro i hid
        have hi : i < 12 := by omega
        have b1 := bG s i hs hi
        have b2 := bG i t hi ht
        refine br_f (nI_ge (b := 12) hi (by decide)) (br_le (a := 1000000) rfl rfl (by omega) (by omega) (fun h => absurd h (by omega)) (fun _ => ⟨ar_n2 (n := 12) hs hi, ar_n2 (n := 12) hi ht, br_eq (a := G s i + G i t) (b := G s t) (by rw [ar_r2 hG hs hi, ar_r2 hG hi ht, nI_add]) rfl (by omega) (by omega) (fun h => nm_r (e' := ob_f (bw_P G s t) (i + 1)) ?_ (nm_r (nI_1 i) (ih (i + 1) (by omega)))) (fun h => nm_r (e' := ob_f (bw_P G s t) (i + 1)) ?_ (nm_r (nI_1 i) (ih (i + 1) (by omega))))⟩))
        · exact (ob_t (decide_eq_true ⟨hk, by omega, by omega, h⟩)).symm
        · rw [ob_or0]
          exact (ob_e (fun z => h (of_decide_eq_true z).2.2.2)).symm
    exact ⟨12 + 1, l 12 0 rfl⟩
  · have e : ob_f (bw_P G s t) 12 = 0 := by
      rw [← ob_zero 12]
      exact ob_cg (fun j _ => decide_eq_false (fun z => hk z.1))
    rw [e] at K
    exact ⟨1, br_f (by decide) (br_le (a := 1000000) rfl rfl (by omega) (by omega) (fun _ => K) (fun h => absurd h (by omega)))⟩
theorem xm_between {post : Int32 → SX → Prop} {s t : Nat} (hs : s < 12) (ht : t < 12) (N : nx_I th fr to ln xP aFr aTo aLe) (OK : nt_ok th fr to ln)
    (K : ∀ (xZ' : Int32) (aRd' aFd' aFa' aSe' aFb' aSb' aHp' aPl' aEg' aRk' aTH' aFH' aLm' aFM' aTM' aFl' aBo' aAc' : Nat → Int32), post (ob_f (bw_P (gd_d (nt_R th fr to ln)) s t) 12) (xP, xZ', aFr, aTo, aLe, aRd', aFd', aKp, aFa', aSe', aFb', aSb', aHp', aPl', aEg', aRk', aTH', aFH', aLm', aFM', aTM', aFl', aBo', aAc')) : wpX_between post (xP, xZ, aFr, aTo, aLe, aRd, aFd, aKp, aFa, aSe, aFb, aSb, aHp, aPl, aEg, aRk, aTH, aFH, aLm, aFM, aTM, aFl, aBo, aAc) (nI s) (nI t) := by
  unfold wpX_between
  refine xw_pt_y hs (br_f (by decide) (xw_pt_y ht (br_f (by decide) (xw_find (e := 2) (by omega) N OK (fun xZ' aRd' aFd' aFa' aSe' aFb' aSb' aHp' aPl' aEg' aRk' aTH' aFH' aLm' aFM' aTM' aFl' aBo' aAc' hR hG => ⟨ar_n2 (n := 12) hs ht, nm_r (e' := nI (gd_d (nt_R th fr to ln) s t)) (ar_r2 hG hs ht) (xl_between hs ht hG (fun s t _ ht => gd_le _ s ht) (K xZ' aRd' aFd' aFa' aSe' aFb' aSb' aHp' aPl' aEg' aRk' aTH' aFH' aLm' aFM' aTM' aFl' aBo' aAc'))⟩)))))
theorem xl_around {post : Int32 → SX → Prop} {s : Nat} {r : Int32} (hs : s < 12) (hG : ar_2 12 aFd G) (bG : ∀ s t, s < 12 → t < 12 → G s t ≤ 1000000) (K : post (ob_f (ad_P G s r) 12) (xP, xZ, aFr, aTo, aLe, aRd, aFd, aKp, aFa, aSe, aFb, aSb, aHp, aPl, aEg, aRk, aTH, aFH, aLm, aFM, aTM, aFl, aBo, aAc)) : ∃ n : Nat, wX_around_19 post (nI s) r xP xZ aFr aTo aLe aRd aFd aKp aFa aSe aFb aSb aHp aPl aEg aRk aTH aFH aLm aFM aTM aFl aBo aAc n 0 0 := by
  have l : ∀ (d i : Nat), i + d = 12 → wX_around_19 post (nI s) r xP xZ aFr aTo aLe aRd aFd aKp aFa aSe aFb aSb aHp aPl aEg aRk aTH aFH aLm aFM aTM aFl aBo aAc (d + 1) (ob_f (ad_P G s r) i) (nI i) := by
    intro d
    induction d with
    | zero =>
      intro i hi
      have e : i = 12 := by omega
      subst e
      exact br_t (by decide) K
    | succ d ih =>
      intro i hid
      have hi : i < 12 := by omega
      have b1 := bG s i hs hi
      refine br_f (nI_ge (b := 12) hi (by decide)) ⟨ar_n2 (n := 12) hs hi, nm_r (e' := nI (G s i)) (ar_r2 hG hs hi) (br_le (a := 1000000) rfl rfl (by omega) (by omega) (fun h => nm_r (e' := ob_f (ad_P G s r) (i + 1)) ?_ (nm_r (nI_1 i) (ih (i + 1) (by omega)))) (fun h => br_c (fun h2 => nm_r (e' := ob_f (ad_P G s r) (i + 1)) ?_ (nm_r (nI_1 i) (ih (i + 1) (by omega)))) (fun h2 => nm_r (e' := ob_f (ad_P G s r) (i + 1)) ?_ (nm_r (nI_1 i) (ih (i + 1) (by omega))))))⟩
      · rw [ob_or0]
        exact (ob_e (fun z => absurd (of_decide_eq_true z).1 (by omega))).symm
      · rw [ob_or0]
        exact (ob_e (fun z => (of_decide_eq_true z).2 h2)).symm
      · exact (ob_t (decide_eq_true ⟨h, h2⟩)).symm
  exact ⟨12 + 1, l 12 0 rfl⟩
theorem xm_around {post : Int32 → SX → Prop} {s : Nat} {r : Int32} (hs : s < 12) (N : nx_I th fr to ln xP aFr aTo aLe) (OK : nt_ok th fr to ln)
    (K : ∀ (xZ' : Int32) (aRd' aFd' aFa' aSe' aFb' aSb' aHp' aPl' aEg' aRk' aTH' aFH' aLm' aFM' aTM' aFl' aBo' aAc' : Nat → Int32), post (ob_f (ad_P (gd_d (nt_R th fr to ln)) s r) 12) (xP, xZ', aFr, aTo, aLe, aRd', aFd', aKp, aFa', aSe', aFb', aSb', aHp', aPl', aEg', aRk', aTH', aFH', aLm', aFM', aTM', aFl', aBo', aAc')) : wpX_around post (xP, xZ, aFr, aTo, aLe, aRd, aFd, aKp, aFa, aSe, aFb, aSb, aHp, aPl, aEg, aRk, aTH, aFH, aLm, aFM, aTM, aFl, aBo, aAc) (nI s) r := by
  unfold wpX_around
  refine xw_pt_y hs (br_f (by decide) (xw_find (e := 3) (by omega) N OK (fun xZ' aRd' aFd' aFa' aSe' aFb' aSb' aHp' aPl' aEg' aRk' aTH' aFH' aLm' aFM' aTM' aFl' aBo' aAc' hR hG => xl_around hs hG (fun s t _ ht => gd_le _ s ht) (K xZ' aRd' aFd' aFa' aSe' aFb' aSb' aHp' aPl' aEg' aRk' aTH' aFH' aLm' aFM' aTM' aFl' aBo' aAc'))))
theorem xl_far {post : Int32 → SX → Prop} {s : Nat} (hs : s < 12) (hG : ar_2 12 aFd G) (bG : ∀ s t, s < 12 → t < 12 → G s t ≤ 1000000) (K : post (nI (mx_f (G s) 12)) (xP, xZ, aFr, aTo, aLe, aRd, aFd, aKp, aFa, aSe, aFb, aSb, aHp, aPl, aEg, aRk, aTH, aFH, aLm, aFM, aTM, aFl, aBo, aAc)) : ∃ n : Nat, wX_farthest_19 post (nI s) xP xZ aFr aTo aLe aRd aFd aKp aFa aSe aFb aSb aHp aPl aEg aRk aTH aFH aLm aFM aTM aFl aBo aAc n 0 0 := by
  have l : ∀ (d i : Nat), i + d = 12 → wX_farthest_19 post (nI s) xP xZ aFr aTo aLe aRd aFd aKp aFa aSe aFb aSb aHp aPl aEg aRk aTH aFH aLm aFM aTM aFl aBo aAc (d + 1) (nI (mx_f (G s) i)) (nI i) := by
    intro d
    induction d with
    | zero =>
      intro i hi
      have e : i = 12 := by omega
      subst e
      exact br_t (by decide) K
    | succ d ih =>
      intro i hid
      have hi : i < 12 := by omega
      have b1 := bG s i hs hi
      have b2 := mx_K (G s) i
      have g := ih (i + 1) (by omega)
      refine br_f (nI_ge (b := 12) hi (by decide)) ⟨ar_n2 (n := 12) hs hi, nm_r (e' := nI (G s i)) (ar_r2 hG hs hi) (br_le (a := 1000000) rfl rfl (by omega) (by omega) (fun h => nm_r (nI_1 i) ?_) (fun h => br_le rfl rfl (by omega) (by omega) (fun h2 => nm_r (nI_1 i) ?_) (fun h2 => nm_r (nI_1 i) ?_)))⟩
      · rw [show mx_f (G s) (i + 1) = mx_f (G s) i from if_neg (by omega)] at g; exact g
      · rw [show mx_f (G s) (i + 1) = mx_f (G s) i from if_neg (by omega)] at g; exact g
      · rw [show mx_f (G s) (i + 1) = G s i from if_pos (by omega)] at g; exact g
  exact ⟨12 + 1, l 12 0 rfl⟩
theorem xm_far {post : Int32 → SX → Prop} {s : Nat} (hs : s < 12) (N : nx_I th fr to ln xP aFr aTo aLe) (OK : nt_ok th fr to ln)
    (K : ∀ (xZ' : Int32) (aRd' aFd' aFa' aSe' aFb' aSb' aHp' aPl' aEg' aRk' aTH' aFH' aLm' aFM' aTM' aFl' aBo' aAc' : Nat → Int32), post (nI (mx_f (gd_d (nt_R th fr to ln) s) 12)) (xP, xZ', aFr, aTo, aLe, aRd', aFd', aKp, aFa', aSe', aFb', aSb', aHp', aPl', aEg', aRk', aTH', aFH', aLm', aFM', aTM', aFl', aBo', aAc')) : wpX_farthest post (xP, xZ, aFr, aTo, aLe, aRd, aFd, aKp, aFa, aSe, aFb, aSb, aHp, aPl, aEg, aRk, aTH, aFH, aLm, aFM, aTM, aFl, aBo, aAc) (nI s) := by
  unfold wpX_farthest
  refine xw_pt_y hs (br_f (by decide) (xw_find (e := 6) (by omega) N OK (fun xZ' aRd' aFd' aFa' aSe' aFb' aSb' aHp' aPl' aEg' aRk' aTH' aFH' aLm' aFM' aTM' aFl' aBo' aAc' hR hG => xl_far hs hG (fun s t _ ht => gd_le _ s ht) (K xZ' aRd' aFd' aFa' aSe' aFb' aSb' aHp' aPl' aEg' aRk' aTH' aFH' aLm' aFM' aTM' aFl' aBo' aAc'))))
theorem xl_wide {post : Int32 → SX → Prop} (hG : ar_2 12 aFd G) (bG : ∀ s t, s < 12 → t < 12 → G s t ≤ 1000000) (K : post (nI (mx_f (fun i => G (i / 12) (i % 12)) 144)) (xP, xZ, aFr, aTo, aLe, aRd, aFd, aKp, aFa, aSe, aFb, aSb, aHp, aPl, aEg, aRk, aTH, aFH, aLm, aFM, aTM, aFl, aBo, aAc)) : ∃ n : Nat, wX_widest_9 post xP xZ aFr aTo aLe aRd aFd aKp aFa aSe aFb aSb aHp aPl aEg aRk aTH aFH aLm aFM aTM aFl aBo aAc n 0 0 := by
  have l : ∀ (d i : Nat), i + d = 144 → wX_widest_9 post xP xZ aFr aTo aLe aRd aFd aKp aFa aSe aFb aSb aHp aPl aEg aRk aTH aFH aLm aFM aTM aFl aBo aAc (d + 1) (nI (mx_f (fun i => G (i / 12) (i % 12)) i)) (nI i) := by
    intro d
    induction d with
    | zero =>
      intro i hi
      have e : i = 144 := by omega
      subst e
      exact br_t (by decide) K
    | succ d ih =>
      intro i hid
      have hi : i < 144 := by omega
      have hu : i / 12 < 12 := by omega
      have hv : i % 12 < 12 := by omega
      have b1 := bG _ _ hu hv
      have b2 := mx_K (fun i => G (i / 12) (i % 12)) i
      have g := ih (i + 1) (by omega)
      have r : aFd (nI i).toNatClampNeg = nI (G (i / 12) (i % 12)) := by
        have q := hG _ _ hu hv
        rw [show i / 12 * 12 + i % 12 = i by omega] at q
        rw [ar_cl (by omega), q]
      refine br_f (nI_ge (b := 144) hi (by decide)) ⟨ar_n hi, br_le (a := 1000000) rfl r (by omega) (by omega) (fun h => nm_r (nI_1 i) ?_) (fun h => ⟨ar_n hi, br_le r rfl (by omega) (by omega) (fun h2 => nm_r (nI_1 i) ?_) (fun h2 => ⟨ar_n hi, nm_r r (nm_r (nI_1 i) ?_)⟩)⟩)⟩
      · rw [show mx_f (fun i => G (i / 12) (i % 12)) (i + 1) = mx_f (fun i => G (i / 12) (i % 12)) i from if_neg (fun z => by have z1 : G (i / 12) (i % 12) < 1000000 := z.1; omega)] at g; exact g
      · rw [show mx_f (fun i => G (i / 12) (i % 12)) (i + 1) = mx_f (fun i => G (i / 12) (i % 12)) i from if_neg (fun z => by have z2 : mx_f (fun i => G (i / 12) (i % 12)) i < G (i / 12) (i % 12) := z.2; omega)] at g; exact g
      · rw [show mx_f (fun i => G (i / 12) (i % 12)) (i + 1) = G (i / 12) (i % 12) from if_pos ⟨h, h2⟩] at g; exact g
  exact ⟨144 + 1, l 144 0 rfl⟩
theorem xm_wide {post : Int32 → SX → Prop} (N : nx_I th fr to ln xP aFr aTo aLe) (OK : nt_ok th fr to ln)
    (K : ∀ (xZ' : Int32) (aRd' aFd' aFa' aSe' aFb' aSb' aHp' aPl' aEg' aRk' aTH' aFH' aLm' aFM' aTM' aFl' aBo' aAc' : Nat → Int32), post (nI (mx_g (gd_d (nt_R th fr to ln)) 12)) (xP, xZ', aFr, aTo, aLe, aRd', aFd', aKp, aFa', aSe', aFb', aSb', aHp', aPl', aEg', aRk', aTH', aFH', aLm', aFM', aTM', aFl', aBo', aAc')) : wpX_widest post (xP, xZ, aFr, aTo, aLe, aRd, aFd, aKp, aFa, aSe, aFb, aSb, aHp, aPl, aEg, aRk, aTH, aFH, aLm, aFM, aTM, aFl, aBo, aAc) := by
  unfold wpX_widest
  refine xw_find (e := 1) (by omega) N OK (fun xZ' aRd' aFd' aFa' aSe' aFb' aSb' aHp' aPl' aEg' aRk' aTH' aFH' aLm' aFM' aTM' aFl' aBo' aAc' hR hG => xl_wide hG (fun s t _ ht => gd_le _ s ht) ?_)
  rw [mx_all (gd_d (nt_R th fr to ln)) 12]
  exact K xZ' aRd' aFd' aFa' aSe' aFb' aSb' aHp' aPl' aEg' aRk' aTH' aFH' aLm' aFM' aTM' aFl' aBo' aAc'
theorem xl_need {post : Int32 → SX → Prop} (N : nx_I th fr to ln xP aFr aTo aLe) (OK : nt_ok th fr to ln) (hG : ar_2 12 aFd G) (bG : ∀ s t, s < 12 → t < 12 → G s t ≤ 1000000) (K : post (ob_f (nl_P G th fr to ln) 28) (xP, xZ, aFr, aTo, aLe, aRd, aFd, aKp, aFa, aSe, aFb, aSb, aHp, aPl, aEg, aRk, aTH, aFH, aLm, aFM, aTM, aFl, aBo, aAc)) : ∃ n : Nat, wX_needless_9 post xP xZ aFr aTo aLe aRd aFd aKp aFa aSe aFb aSb aHp aPl aEg aRk aTH aFH aLm aFM aTM aFl aBo aAc n 0 0 := by
  have l : ∀ (d i : Nat), i + d = 28 → wX_needless_9 post xP xZ aFr aTo aLe aRd aFd aKp aFa aSe aFb aSb aHp aPl aEg aRk aTH aFH aLm aFM aTM aFl aBo aAc (d + 1) (ob_f (nl_P G th fr to ln) i) (nI i) := by
    intro d
    induction d with
    | zero =>
      intro i hi
      have e : i = 28 := by omega
      subst e
      exact br_t (by decide) K
    | succ d ih =>
      intro k hkd
      have hk : k < 28 := by omega
      obtain ⟨n1, n2, n3⟩ := N.2 k hk
      obtain ⟨o1, o2, o3, o4⟩ := OK k hk
      have ek : (nI k).toNatClampNeg = k := ar_cl (by omega)
      have b1 := bG _ _ o1 o2
      have g := ih (k + 1) (by omega)
      have j57 : ¬ nl_P G th fr to ln k = true → wX_needless_57 post (wX_needless_9 post xP xZ aFr aTo aLe aRd aFd aKp aFa aSe aFb aSb aHp aPl aEg aRk aTH aFH aLm aFM aTM aFl aBo aAc (d + 1)) (ob_f (nl_P G th fr to ln) k) (nI k) xP xZ aFr aTo aLe aRd aFd aKp aFa aSe aFb aSb aHp aPl aEg aRk aTH aFH aLm aFM aTM aFl aBo aAc := by
        intro hn
        unfold wX_needless_57 wX_needless_58
        refine br_t rfl (nm_r (e' := ob_f (nl_P G th fr to ln) (k + 1)) ?_ (nm_r (nI_1 k) g))
        rw [ob_or0, ob_e hn]
      have rd : aFd (aFr (nI k).toNatClampNeg * 12 + aTo (nI k).toNatClampNeg).toNatClampNeg = nI (G (fr k) (to k)) := by rw [ek, n1, n2, ar_r2 hG o1 o2]
      refine br_f (nI_ge (b := 28) hk (by decide)) (xw_has N.1 hk (fun hth => br_f (by decide) ⟨ar_n hk, ar_n hk, ar_n hk, by rw [ek, n1, n2]; exact ar_n2 (n := 12) o1 o2, br_le (a := ln k) (by rw [ek]; exact n3) rd (by omega) (by omega) (fun h => j57 (fun z => absurd (of_decide_eq_true z).2 (by omega))) (fun h => ?_)⟩) (fun hth => br_t rfl (j57 (fun z => absurd (of_decide_eq_true z).1 hth))))
      unfold wX_needless_58
      exact br_f (by decide) (nm_r (e' := ob_f (nl_P G th fr to ln) (k + 1)) (ob_t (decide_eq_true ⟨hth, h⟩)).symm (nm_r (nI_1 k) g))
  exact ⟨28 + 1, l 28 0 rfl⟩
theorem xm_need {post : Int32 → SX → Prop} (N : nx_I th fr to ln xP aFr aTo aLe) (OK : nt_ok th fr to ln)
    (K : ∀ (xZ' : Int32) (aRd' aFd' aFa' aSe' aFb' aSb' aHp' aPl' aEg' aRk' aTH' aFH' aLm' aFM' aTM' aFl' aBo' aAc' : Nat → Int32), post (ob_f (nl_P (gd_d (nt_R th fr to ln)) th fr to ln) 28) (xP, xZ', aFr, aTo, aLe, aRd', aFd', aKp, aFa', aSe', aFb', aSb', aHp', aPl', aEg', aRk', aTH', aFH', aLm', aFM', aTM', aFl', aBo', aAc')) : wpX_needless post (xP, xZ, aFr, aTo, aLe, aRd, aFd, aKp, aFa, aSe, aFb, aSb, aHp, aPl, aEg, aRk, aTH, aFH, aLm, aFM, aTM, aFl, aBo, aAc) := by
  unfold wpX_needless
  exact xw_find (e := 5) (by omega) N OK (fun xZ' aRd' aFd' aFa' aSe' aFb' aSb' aHp' aPl' aEg' aRk' aTH' aFH' aLm' aFM' aTM' aFl' aBo' aAc' hR hG => xl_need N OK hG (fun s t _ ht => gd_le _ s ht) (K xZ' aRd' aFd' aFa' aSe' aFb' aSb' aHp' aPl' aEg' aRk' aTH' aFH' aLm' aFM' aTM' aFl' aBo' aAc'))
theorem xm_agree {post : Int32 → SX → Prop} {e o : Nat} (he : e < 7) (ho : o < 7) (N : nx_I th fr to ln xP aFr aTo aLe) (OK : nt_ok th fr to ln)
    (K : ∀ (aKp' : Nat → Int32) (xZ' : Int32) (aRd' aFd' aFa' aSe' aFb' aSb' aHp' aPl' aEg' aRk' aTH' aFH' aLm' aFM' aTM' aFl' aBo' aAc' : Nat → Int32), post 1 (xP, xZ', aFr, aTo, aLe, aRd', aFd', aKp', aFa', aSe', aFb', aSb', aHp', aPl', aEg', aRk', aTH', aFH', aLm', aFM', aTM', aFl', aBo', aAc')) : wpX_agree post (xP, xZ, aFr, aTo, aLe, aRd, aFd, aKp, aFa, aSe, aFb, aSb, aHp, aPl, aEg, aRk, aTH, aFH, aLm, aFM, aTM, aFl, aBo, aAc) (nI e) (nI o) := by
  unfold wpX_agree
  refine xw_eng_y he (br_f (by decide) (xw_eng_y ho (br_f (by decide) (xw_find he N OK (fun xZ2 aRd2 aFd2 aFa2 aSe2 aFb2 aSb2 aHp2 aPl2 aEg2 aRk2 aTH2 aFH2 aLm2 aFM2 aTM2 aFl2 aBo2 aAc2 hR hG => ?_)))))
  have l : ∀ (d i : Nat) (kp : Nat → Int32), i + d = 144 → (∀ j, j < i → kp j = aFd2 j) → wX_agree_23 post (nI o) xP xZ2 (d + 1) (nI i) aFr aTo aLe aRd2 aFd2 kp aFa2 aSe2 aFb2 aSb2 aHp2 aPl2 aEg2 aRk2 aTH2 aFH2 aLm2 aFM2 aTM2 aFl2 aBo2 aAc2 := by
    intro d
    induction d with
    | zero =>
      intro i kp hi h
      have ei : i = 144 := by omega
      subst ei
      refine br_t (by decide) (xw_find ho N OK (fun xZ3 aRd3 aFd3 aFa3 aSe3 aFb3 aSb3 aHp3 aPl3 aEg3 aRk3 aTH3 aFH3 aLm3 aFM3 aTM3 aFl3 aBo3 aAc3 hR' hG' => ?_))
      have same : ∀ j, j < 144 → kp j = aFd3 j := by
        intro j hj
        have q := hG _ _ (show j / 12 < 12 by omega) (show j % 12 < 12 by omega)
        have q' := hG' _ _ (show j / 12 < 12 by omega) (show j % 12 < 12 by omega)
        rw [show j / 12 * 12 + j % 12 = j by omega] at q q'
        rw [h j hj, q, q']
      have l58 : ∀ (d i : Nat), i + d = 144 → wX_agree_58 post xP xZ3 aFr aTo aLe aRd3 aFd3 kp aFa3 aSe3 aFb3 aSb3 aHp3 aPl3 aEg3 aRk3 aTH3 aFH3 aLm3 aFM3 aTM3 aFl3 aBo3 aAc3 (d + 1) 1 (nI i) := by
        intro d
        induction d with
        | zero =>
          intro i hi
          have ei : i = 144 := by omega
          subst ei
          exact br_t (by decide) ⟨rfl, K kp xZ3 aRd3 aFd3 aFa3 aSe3 aFb3 aSb3 aHp3 aPl3 aEg3 aRk3 aTH3 aFH3 aLm3 aFM3 aTM3 aFl3 aBo3 aAc3⟩
        | succ d ih =>
          intro i hid
          have hi : i < 144 := by omega
          exact br_f (nI_ge (b := 144) hi (by decide)) (br_f (by decide) ⟨ar_n hi, ar_n hi, br_t (by rw [ar_cl (by omega)]; exact same i hi) (nm_r (nI_1 i) (ih (i + 1) (by omega)))⟩)
      exact ⟨144 + 1, l58 144 0 rfl⟩
    | succ d ih =>
      intro i kp hid h
      have hi : i < 144 := by omega
      refine br_f (nI_ge (b := 144) hi (by decide)) ⟨ar_n hi, ar_n hi, nm_r (ar_u (by omega) _ _) (nm_r (nI_1 i) (ih (i + 1) _ (by omega) (fun j hj => ?_)))⟩
      by_cases ej : j = i
      · rw [ej, pk_us, ar_cl (by omega)]
      · rw [pk_un ej]; exact h j (by omega)
  exact ⟨144 + 1, l 144 0 aKp rfl (fun j h => by omega)⟩
end
end
section
/-! whether what is prepared is sound; over; detour; roads -/
theorem ye_lt {d : Nat} (h : d < 1000000) : ye_f d = nI d := if_pos h
theorem ye_ge {d : Nat} (h : ¬ d < 1000000) : ye_f d = -3 := if_neg h
theorem ye_n3 {d : Nat} (hd : d ≤ 1000000) : ye_f d = -3 ↔ ¬ d < 1000000 := by
  constructor
  · intro h z
    rw [ye_lt z] at h
    have : ¬ nI d < 0 := br_0 (by omega)
    rw [h] at this
    exact this (by decide)
  · exact ye_ge
theorem ye_0 {d : Nat} (hd : d ≤ 1000000) : ye_f d < 0 ↔ ¬ d < 1000000 := by
  constructor
  · intro h z
    rw [ye_lt z] at h
    exact br_0 (by omega) h
  · intro h
    rw [ye_ge h]; decide
section
variable {xP xZ : Int32} {aFr aTo aLe aRd aFd aKp aFa aSe aFb aSb aHp aPl aEg aRk aTH aFH aLm aFM aTM aFl aBo aAc : Nat → Int32}
variable {th : Nat → Bool} {fr to ln : Nat → Nat} {G : Nat → Nat → Nat}
theorem xl_214 {post : Int32 → SX → Prop} {rk : Nat → Nat} (hk : ar_I 12 aRk rk) (hr : ∀ j, j < 12 → rk j < 12) (hs : ∀ i, i < 12 → ∃ j, j < 12 ∧ rk j = i) (K : post 1 (xP, xZ, aFr, aTo, aLe, aRd, aFd, aKp, aFa, aSe, aFb, aSb, aHp, aPl, aEg, aRk, aTH, aFH, aLm, aFM, aTM, aFl, aBo, aAc)) : ∃ n : Nat, wX_sound_214 post 1 xP xZ aFr aTo aLe aRd aFd aKp aFa aSe aFb aSb aHp aPl aEg aRk aTH aFH aLm aFM aTM aFl aBo aAc n 0 0 := by
  have l : ∀ (d i : Nat), i + d = 12 → wX_sound_214 post 1 xP xZ aFr aTo aLe aRd aFd aKp aFa aSe aFb aSb aHp aPl aEg aRk aTH aFH aLm aFM aTM aFl aBo aAc (d + 1) (rs_f rk i) (nI i) := by
    intro d
    induction d with
    | zero =>
      intro i hi
      have e : i = 12 := by omega
      subst e
      exact br_t (by decide) (br_f (by decide) (br_t (rs_all hr hs) K))
    | succ d ih =>
      intro i hid
      have hi : i < 12 := by omega
      exact br_f (nI_ge (b := 12) hi (by decide)) ⟨ar_n hi, nm_r (e' := rs_f rk (i + 1)) (by rw [ar_r hk hi]; rfl) (nm_r (nI_1 i) (ih (i + 1) (by omega)))⟩
  exact ⟨12 + 1, l 12 0 rfl⟩
theorem xl_52 {post : Int32 → SX → Prop} {R E A TH FH : Nat → Nat → Nat} {H : Nat → Prop} {rk : Nat → Nat} (hkp : ar_2 12 aKp (gd_d R)) (hE : ar_2 12 aEg E) (S : ch_S R E) (hk : ar_I 12 aRk rk) (hr : ∀ j, j < 12 → rk j < 12) (hs : ∀ i, i < 12 → ∃ j, j < 12 ∧ rk j = i)
    (hT : ar_2 12 aTH TH) (hF : ar_2 12 aFH FH) (I : lb_I R H TH FH) (hM : ar_2 3 aFM (fun l p => gd_d R (lm_f l) p)) (hN : ar_2 3 aTM (fun l p => gd_d R p (lm_f l))) (hA : ar_2 12 aAc A) (J : fw_I R 12 A) (K : post 1 (xP, xZ, aFr, aTo, aLe, aRd, aFd, aKp, aFa, aSe, aFb, aSb, aHp, aPl, aEg, aRk, aTH, aFH, aLm, aFM, aTM, aFl, aBo, aAc)) : ∃ n : Nat, wX_sound_52 post xP xZ aFr aTo aLe aRd aFd aKp aFa aSe aFb aSb aHp aPl aEg aRk aTH aFH aLm aFM aTM aFl aBo aAc n 1 0 := by
  have l : ∀ (d i : Nat), i + d = 144 → wX_sound_52 post xP xZ aFr aTo aLe aRd aFd aKp aFa aSe aFb aSb aHp aPl aEg aRk aTH aFH aLm aFM aTM aFl aBo aAc (d + 1) 1 (nI i) := by
    intro d
    induction d with
    | zero =>
      intro i hi
      have e : i = 144 := by omega
      subst e
      exact br_t (by decide) (xl_214 hk hr hs K)
    | succ d ih =>
      intro i hid
      have hi : i < 144 := by omega
      have hu : i / 12 < 12 := by omega
      have hv : i % 12 < 12 := by omega
      have ei : (nI i).toNatClampNeg = i := ar_cl (by omega)
      have ej : i / 12 * 12 + i % 12 = i := by omega
      have rK : aKp (nI i).toNatClampNeg = nI (gd_d R (i / 12) (i % 12)) := by rw [ei, ← hkp _ _ hu hv, ej]
      have rE : aEg (nI i).toNatClampNeg = nI (E (i / 12) (i % 12)) := by rw [ei, ← hE _ _ hu hv, ej]
      have rA : aAc (nI i).toNatClampNeg = nI (A (i / 12) (i % 12)) := by rw [ei, ← hA _ _ hu hv, ej]
      have rT : aTH (nI i).toNatClampNeg = nI (TH (i / 12) (i % 12)) := by rw [ei, ← hT _ _ hu hv, ej]
      have rF : aFH (nI i).toNatClampNeg = nI (FH (i / 12) (i % 12)) := by rw [ei, ← hF _ _ hu hv, ej]
      have k1 := gd_le R (i / 12) hv
      have k2 := S _ _ hu hv
      have k3 := J.2.1 _ _ hu hv
      have k4 := I.1 _ _ hu hv
      have k5 := I.2.1 _ _ hu hv
      have k6 := al_le (R := R) (FM := fun l p => gd_d R (lm_f l) p) (TM := fun l p => gd_d R p (lm_f l)) (fun _ _ _ _ => ⟨rfl, rfl⟩) hu hv 3 (by omega)
      have k7 := gd_le R (i % 12) hu
      have g := ih (i + 1) (by omega)
      have j156 : wX_sound_156 post (wX_sound_52 post xP xZ aFr aTo aLe aRd aFd aKp aFa aSe aFb aSb aHp aPl aEg aRk aTH aFH aLm aFM aTM aFl aBo aAc (d + 1)) (nI i) (nI (i / 12)) (nI (i % 12)) xP xZ aFr aTo aLe aRd aFd aKp aFa aSe aFb aSb aHp aPl aEg aRk aTH aFH aLm aFM aTM aFl aBo aAc := by
        unfold wX_sound_156 wX_sound_161
        exact br_f (by decide) ⟨ar_n hi, br_le (a := 1000000) rfl rF (by omega) (by omega) (fun _ => nm_r (nI_1 i) g) (fun h => ⟨ar_n hi, ar_n2 (n := 12) hv hu, br_t (by rw [rF, ar_r2 hkp hv hu, (k5.2 h).2]) (nm_r (nI_1 i) g)⟩)⟩
      refine br_f (nI_ge (b := 144) hi (by decide)) ⟨by decide, nm_r (cl_12 (by omega)) ⟨by decide, nm_r (cl_m (by omega)) (br_f (by decide) ⟨ar_n hi, ar_n hi, br_lt rE rK (by omega) (by omega) (fun h => absurd h (by omega)) (fun _ => ⟨ar_n hi, ar_n hi, br_lt rA rK (by omega) (by omega) (fun h => absurd h (by omega)) (fun _ => ?_)⟩)⟩)⟩⟩
      refine xw_least hu hv hM hN (fun l p _ hp => gd_le R _ hp) (fun l p _ _ => gd_le R _ (lm_lt l)) ⟨ar_n hi, br_lt rK rfl (by omega) (by omega) (fun h => absurd h (by omega)) (fun _ => ?_)⟩
      unfold wX_sound_125
      exact br_f (by decide) ⟨ar_n hi, br_le (a := 1000000) rfl rT (by omega) (by omega) (fun _ => j156) (fun h => ⟨ar_n hi, ar_n hi, br_t (by rw [rT, rK, (k4.2 h).2]) j156⟩)⟩
  exact ⟨144 + 1, l 144 0 rfl⟩
theorem xm_sound {post : Int32 → SX → Prop} (N : nx_I th fr to ln xP aFr aTo aLe) (OK : nt_ok th fr to ln)
    (K : ∀ (aKp' : Nat → Int32) (xZ' : Int32) (aRd' aFd' aFa' aSe' aFb' aSb' aHp' aPl' aEg' aRk' aTH' aFH' aLm' aFM' aTM' aFl' aBo' aAc' : Nat → Int32), post 1 (xP, xZ', aFr, aTo, aLe, aRd', aFd', aKp', aFa', aSe', aFb', aSb', aHp', aPl', aEg', aRk', aTH', aFH', aLm', aFM', aTM', aFl', aBo', aAc')) : wpX_sound post (xP, xZ, aFr, aTo, aLe, aRd, aFd, aKp, aFa, aSe, aFb, aSb, aHp, aPl, aEg, aRk, aTH, aFH, aLm, aFM, aTM, aFl, aBo, aAc) := by
  have bR : ∀ a b, nt_R th fr to ln a b ≤ 1000000 := fun a b => nt_K 28 a b
  have h1 : ∀ a b, 1 ≤ nt_R th fr to ln a b := fun a b => nt_1 OK a b
  unfold wpX_sound
  refine xw_find (e := 0) (by omega) N OK (fun xZ2 aRd2 aFd2 aFa2 aSe2 aFb2 aSb2 aHp2 aPl2 aEg2 aRk2 aTH2 aFH2 aLm2 aFM2 aTM2 aFl2 aBo2 aAc2 hR hG => ?_)
  have l : ∀ (d i : Nat) (kp : Nat → Int32), i + d = 144 → (∀ j, j < i → kp j = aFd2 j) → wX_sound_7 post xP xZ2 (d + 1) (nI i) aFr aTo aLe aRd2 aFd2 kp aFa2 aSe2 aFb2 aSb2 aHp2 aPl2 aEg2 aRk2 aTH2 aFH2 aLm2 aFM2 aTM2 aFl2 aBo2 aAc2 := by
    intro d
    induction d with
    | zero =>
      intro i kp hi h
      have ei : i = 144 := by omega
      subst ei
      have hkp : ar_2 12 kp (gd_d (nt_R th fr to ln)) := fun u v hu hv => by rw [h _ (by omega)]; exact hG u v hu hv
      refine br_t (by decide) (xw_hier hR bR (fun E rk fa se eg ra a b c d f g => ?_))
      refine xw_lay3 hR bR h1 (fun fa se fb sb ta fh TH FH H a3 b3 c3 d3 => ?_)
      refine xw_lay4 hR bR (fun fa se fb sb lm fm tm a4 b4 => ?_)
      refine xw_lay6 N OK hR bR (fun bo ac A a6 b6 c6 => ?_)
      exact xl_52 hkp a c b f g a3 b3 c3 a4 b4 a6 b6 (K _ _ _ _ _ _ _ _ _ _ _ _ _ _ _ _ _ _ _ _)
    | succ d ih =>
      intro i kp hid h
      have hi : i < 144 := by omega
      refine br_f (nI_ge (b := 144) hi (by decide)) ⟨ar_n hi, ar_n hi, nm_r (ar_u (by omega) _ _) (nm_r (nI_1 i) (ih (i + 1) _ (by omega) (fun j hj => ?_)))⟩
      by_cases ej : j = i
      · rw [ej, pk_us, ar_cl (by omega)]
      · rw [pk_un ej]; exact h j (by omega)
  exact ⟨144 + 1, l 144 0 aKp rfl (fun j h => by omega)⟩
/-- two distances together, or none -/
def ov_r (a b : Nat) : Int32 := if a < 1000000 ∧ b < 1000000 then nI a + nI b else -3
theorem xm_over {post : Int32 → SX → Prop} {s p t : Nat} (hs : s < 12) (hp : p < 12) (ht : t < 12) (N : nx_I th fr to ln xP aFr aTo aLe) (OK : nt_ok th fr to ln)
    (K : ∀ (xZ' : Int32) (aRd' aFd' aFa' aSe' aFb' aSb' aHp' aPl' aEg' aRk' aTH' aFH' aLm' aFM' aTM' aFl' aBo' aAc' : Nat → Int32), post (ov_r (gd_d (nt_R th fr to ln) s p) (gd_d (nt_R th fr to ln) p t)) (xP, xZ', aFr, aTo, aLe, aRd', aFd', aKp, aFa', aSe', aFb', aSb', aHp', aPl', aEg', aRk', aTH', aFH', aLm', aFM', aTM', aFl', aBo', aAc')) : wpX_over post (xP, xZ, aFr, aTo, aLe, aRd, aFd, aKp, aFa, aSe, aFb, aSb, aHp, aPl, aEg, aRk, aTH, aFH, aLm, aFM, aTM, aFl, aBo, aAc) (nI s) (nI p) (nI t) := by
  have b1 := gd_le (nt_R th fr to ln) s hp
  have b2 := gd_le (nt_R th fr to ln) p ht
  unfold wpX_over
  refine xw_pt_y hs (br_f (by decide) (xw_pt_y hp (br_f (by decide) (xw_pt_y ht (br_f (by decide) (xw_dist (e := 3) (by omega) hs hp N OK (fun xZ2 aRd2 aFd2 aFa2 aSe2 aFb2 aSb2 aHp2 aPl2 aEg2 aRk2 aTH2 aFH2 aLm2 aFM2 aTM2 aFl2 aBo2 aAc2 => xw_dist (e := 2) (by omega) hp ht N OK (fun xZ3 aRd3 aFd3 aFa3 aSe3 aFb3 aSb3 aHp3 aPl3 aEg3 aRk3 aTH3 aFH3 aLm3 aFM3 aTM3 aFl3 aBo3 aAc3 => ?_))))))))
  refine br_p _ (ye_n3 b1) (fun h => ?_) (fun h => br_p _ (ye_n3 b2) (fun h2 => ?_) (fun h2 => ?_))
  · have e : ov_r (gd_d (nt_R th fr to ln) s p) (gd_d (nt_R th fr to ln) p t) = -3 := if_neg (fun z => h z.1)
    rw [e] at K; exact K xZ3 aRd3 aFd3 aFa3 aSe3 aFb3 aSb3 aHp3 aPl3 aEg3 aRk3 aTH3 aFH3 aLm3 aFM3 aTM3 aFl3 aBo3 aAc3
  · have e : ov_r (gd_d (nt_R th fr to ln) s p) (gd_d (nt_R th fr to ln) p t) = -3 := if_neg (fun z => h2 z.2)
    rw [e] at K; exact K xZ3 aRd3 aFd3 aFa3 aSe3 aFb3 aSb3 aHp3 aPl3 aEg3 aRk3 aTH3 aFH3 aLm3 aFM3 aTM3 aFl3 aBo3 aAc3
  · have h' := Classical.byContradiction h
    have h2' := Classical.byContradiction h2
    have e : ov_r (gd_d (nt_R th fr to ln) s p) (gd_d (nt_R th fr to ln) p t) = ye_f (gd_d (nt_R th fr to ln) s p) + ye_f (gd_d (nt_R th fr to ln) p t) := by rw [ye_lt h', ye_lt h2']; exact if_pos ⟨h', h2'⟩
    rw [e] at K; exact K xZ3 aRd3 aFd3 aFa3 aSe3 aFb3 aSb3 aHp3 aPl3 aEg3 aRk3 aTH3 aFH3 aLm3 aFM3 aTM3 aFl3 aBo3 aAc3
/-- the way without, less the way with -/
def dt_r (a b : Nat) : Int32 := if b < 1000000 then ye_f b - ye_f a else -3
def th_c (th : Nat → Bool) (k : Nat) : Nat → Bool := fun j => if j = k then false else th j
theorem th_ok (OK : nt_ok th fr to ln) (k : Nat) : nt_ok (th_c th k) fr to ln := fun j hj => ⟨(OK j hj).1, (OK j hj).2.1, (OK j hj).2.2.1, fun z => (OK j hj).2.2.2 (by
  unfold th_c at z
  by_cases e : j = k
  · rw [if_pos e] at z; exact Bool.noConfusion z
  · rw [if_neg e] at z; exact z)⟩
theorem xm_detour {post : Int32 → SX → Prop} {k : Nat} (hk : k < 28) (ht : th k = true) (N : nx_I th fr to ln xP aFr aTo aLe) (OK : nt_ok th fr to ln)
    (K : ∀ (xZ' : Int32) (aRd' aFd' aFa' aSe' aFb' aSb' aHp' aPl' aEg' aRk' aTH' aFH' aLm' aFM' aTM' aFl' aBo' aAc' : Nat → Int32), post (dt_r (gd_d (nt_R th fr to ln) (fr k) (to k)) (gd_d (nt_R (th_c th k) fr to ln) (fr k) (to k))) (xP, xZ', aFr, aTo, aLe, aRd', aFd', aKp, aFa', aSe', aFb', aSb', aHp', aPl', aEg', aRk', aTH', aFH', aLm', aFM', aTM', aFl', aBo', aAc')) : wpX_detour post (xP, xZ, aFr, aTo, aLe, aRd, aFd, aKp, aFa, aSe, aFb, aSb, aHp, aPl, aEg, aRk, aTH, aFH, aLm, aFM, aTM, aFl, aBo, aAc) (nI k) := by
  obtain ⟨n1, n2, n3⟩ := N.2 k hk
  obtain ⟨o1, o2, o3, o4⟩ := OK k hk
  have ek : (nI k).toNatClampNeg = k := ar_cl (by omega)
  have b2 := gd_le (nt_R (th_c th k) fr to ln) (fr k) o2
  unfold wpX_detour
  refine xw_has N.1 hk (fun _ => br_f (by decide) ⟨ar_n hk, nm_r (e' := nI (fr k)) (by rw [ek]; exact n1) ⟨ar_n hk, nm_r (e' := nI (to k)) (by rw [ek]; exact n2) ?_⟩⟩) (fun h => absurd ht h)
  refine xw_dist (e := 4) (by omega) o1 o2 N OK (fun xZ2 aRd2 aFd2 aFa2 aSe2 aFb2 aSb2 aHp2 aPl2 aEg2 aRk2 aTH2 aFH2 aLm2 aFM2 aTM2 aFl2 aBo2 aAc2 => nm_r (e' := ob_f (th_c th k) 28) (by rw [N.1]; exact ob_clr (by omega) hk) ?_)
  refine xw_dist (e := 5) (by omega) o1 o2 ⟨rfl, N.2⟩ (th_ok OK k) (fun xZ3 aRd3 aFd3 aFa3 aSe3 aFb3 aSb3 aHp3 aPl3 aEg3 aRk3 aTH3 aFH3 aLm3 aFM3 aTM3 aFl3 aBo3 aAc3 => nm_r (e' := xP) ?_ (br_p _ (ye_n3 b2) (fun h => ?_) (fun h => ?_)))
  · rw [ob_set (by omega) hk, N.1]
    refine ob_cg (fun j _ => ?_)
    unfold th_c
    by_cases e : j = k
    · rw [if_pos e, e, ht]
    · rw [if_neg e, if_neg e]
  · have e : dt_r (gd_d (nt_R th fr to ln) (fr k) (to k)) (gd_d (nt_R (th_c th k) fr to ln) (fr k) (to k)) = -3 := if_neg h
    rw [e] at K; exact K xZ3 aRd3 aFd3 aFa3 aSe3 aFb3 aSb3 aHp3 aPl3 aEg3 aRk3 aTH3 aFH3 aLm3 aFM3 aTM3 aFl3 aBo3 aAc3
  · have e : dt_r (gd_d (nt_R th fr to ln) (fr k) (to k)) (gd_d (nt_R (th_c th k) fr to ln) (fr k) (to k)) = ye_f (gd_d (nt_R (th_c th k) fr to ln) (fr k) (to k)) - ye_f (gd_d (nt_R th fr to ln) (fr k) (to k)) := if_pos (Classical.byContradiction h)
    rw [e] at K; exact K xZ3 aRd3 aFd3 aFa3 aSe3 aFb3 aSb3 aHp3 aPl3 aEg3 aRk3 aTH3 aFH3 aLm3 aFM3 aTM3 aFl3 aBo3 aAc3
theorem xm_add {post : Int32 → SX → Prop} {a b len k : Nat} (ha : a < 12) (hb : b < 12) (hl : len ≤ 30) (hk : k < 28) (hP : xP = ob_f th 28) (h0 : ¬ th k = true) (h1 : ∀ j, j < k → th j = true)
    (K : post (nI k) (ob_f (fun j => if j = k then true else th j) 28, xZ, upd aFr k (nI a), upd aTo k (nI b), upd aLe k (nI len), aRd, aFd, aKp, aFa, aSe, aFb, aSb, aHp, aPl, aEg, aRk, aTH, aFH, aLm, aFM, aTM, aFl, aBo, aAc)) : ∃ n : Nat, wX_add_35 post (nI a) (nI b) (nI len) xP xZ aFr aTo aLe aRd aFd aKp aFa aSe aFb aSb aHp aPl aEg aRk aTH aFH aLm aFM aTM aFl aBo aAc n 0 := by
  have l : ∀ (d i : Nat), i + d = k → wX_add_35 post (nI a) (nI b) (nI len) xP xZ aFr aTo aLe aRd aFd aKp aFa aSe aFb aSb aHp aPl aEg aRk aTH aFH aLm aFM aTM aFl aBo aAc (d + 1) (nI i) := by
    intro d
    induction d with
    | zero =>
      intro i hi
      have e : i = k := by omega
      subst e
      refine br_f (nI_ge (b := 28) hk (by decide)) (xw_has hP hk (fun z => absurd z h0) (fun _ => br_t rfl (nm_r (by rw [hP]; exact ob_set (by omega) hk) ⟨ar_n hk, nm_r (by rw [ar_u (by omega), sm_b a (by omega)]) ⟨ar_n hk, nm_r (by rw [ar_u (by omega), sm_b b (by omega)]) ⟨ar_n hk, nm_r (by rw [ar_u (by omega), sm_b len (by omega)]) K⟩⟩⟩)))
    | succ d ih =>
      intro i hid
      have hi : i < 28 := by omega
      exact br_f (nI_ge (b := 28) hi (by decide)) (xw_has hP hi (fun _ => br_f (by decide) (nm_r (nI_1 i) (ih (i + 1) (by omega)))) (fun z => absurd (h1 i (by omega)) z))
  exact ⟨k + 1, l k 0 (by omega)⟩
theorem xm_full {post : Int32 → SX → Prop} {a b len : Int32} (hP : xP = ob_f th 28) (h1 : ∀ j, j < 28 → th j = true) (K : post (-2) (xP, xZ, aFr, aTo, aLe, aRd, aFd, aKp, aFa, aSe, aFb, aSb, aHp, aPl, aEg, aRk, aTH, aFH, aLm, aFM, aTM, aFl, aBo, aAc)) : ∃ n : Nat, wX_add_35 post a b len xP xZ aFr aTo aLe aRd aFd aKp aFa aSe aFb aSb aHp aPl aEg aRk aTH aFH aLm aFM aTM aFl aBo aAc n 0 := by
  have l : ∀ (d i : Nat), i + d = 28 → wX_add_35 post a b len xP xZ aFr aTo aLe aRd aFd aKp aFa aSe aFb aSb aHp aPl aEg aRk aTH aFH aLm aFM aTM aFl aBo aAc (d + 1) (nI i) := by
    intro d
    induction d with
    | zero =>
      intro i hi
      have e : i = 28 := by omega
      subst e
      exact br_t (by decide) K
    | succ d ih =>
      intro i hid
      have hi : i < 28 := by omega
      exact br_f (nI_ge (b := 28) hi (by decide)) (xw_has hP hi (fun _ => br_f (by decide) (nm_r (nI_1 i) (ih (i + 1) (by omega)))) (fun z => absurd (h1 i (by omega)) z))
  exact ⟨28 + 1, l 28 0 rfl⟩
end
end
section
/-! the reference's methods -/
theorem iy_c (x : Int32) (n : Nat) (hn : n < 1000) : (x < 0 ∨ nI n ≤ x) ∨ ∃ j : Nat, j < n ∧ x = nI j := by
  rcases pk_ix x (n := n) (by omega) with h | h | h
  · exact Or.inl (Or.inl h)
  · exact Or.inl (Or.inr h)
  · exact Or.inr h
theorem iy_l {x y : Int32} {n : Nat} (h : nI (n + 1) ≤ x) (hn : n < 1000) (hy : y = nI n) : y < x := by
  rw [hy, Int32.lt_iff_toInt_lt, nI_toInt (by omega)]
  rw [Int32.le_iff_toInt_le, nI_toInt (by omega)] at h
  omega
theorem ly_c (x : Int32) : x < 1 ∨ (¬ x < 1 ∧ ¬ x ≤ 30) ∨ ∃ n : Nat, 1 ≤ n ∧ n ≤ 30 ∧ x = nI n := by
  by_cases h : x < 1
  · exact Or.inl h
  · by_cases g : x ≤ 30
    · right; right
      have h0 : ¬ x < 0 := by
        intro z
        rw [Int32.lt_iff_toInt_lt] at h z
        rw [show (1 : Int32).toInt = 1 by decide] at h
        rw [show (0 : Int32).toInt = 0 by decide] at z
        omega
      obtain ⟨j, hj, rfl⟩ := nI_of2 (M := 30) (n := 30) (by decide) h0 g
      refine ⟨j, ?_, hj, rfl⟩
      rcases Nat.eq_zero_or_pos j with e | e
      · rw [e] at h; exact absurd (by decide) h
      · exact e
    · exact Or.inr (Or.inl ⟨h, g⟩)
section
variable {yt yf yo yl l0 : Nat → Int32} {fr to ln : Nat → Nat} {th : Nat → Bool}
theorem yw_pt_n {post : Int32 → Prop} {v : SY} {x : Int32} (h : x < 0 ∨ nI 12 ≤ x) (K : post 0) : wpY_point post v x := by
  unfold wpY_point
  rcases h with h | h
  · exact br_t h K
  · exact br_c (fun _ => K) (fun _ => br_t (iy_l (n := 11) h (by omega) rfl) K)
theorem yw_pt_y {post : Int32 → Prop} {v : SY} {e : Nat} (h : e < 12) (K : post 1) : wpY_point post v (nI e) := by
  unfold wpY_point
  exact br_f (br_0 (by omega)) (br_f (nI_nlt (b := e) (a := 11) (by omega) (by decide)) K)
theorem yw_en_n {post : Int32 → Prop} {v : SY} {x : Int32} (h : x < 0 ∨ nI 7 ≤ x) (K : post 0) : wpY_engine post v x := by
  unfold wpY_engine
  rcases h with h | h
  · exact br_t h K
  · exact br_c (fun _ => K) (fun _ => br_t (iy_l (n := 6) h (by omega) rfl) K)
theorem yw_en_y {post : Int32 → Prop} {v : SY} {e : Nat} (h : e < 7) (K : post 1) : wpY_engine post v (nI e) := by
  unfold wpY_engine
  exact br_f (br_0 (by omega)) (br_f (nI_nlt (b := e) (a := 6) (by omega) (by decide)) K)
theorem yw_is_n {post : Int32 → Prop} {x : Int32} (h : x < 0 ∨ nI 28 ≤ x) (K : post 0) : wpY_is post (yt, yf, yo, yl, l0) x := by
  unfold wpY_is
  rcases h with h | h
  · exact br_t h K
  · exact br_c (fun _ => K) (fun _ => br_t h K)
theorem yw_is {post : Int32 → Prop} {k : Nat} (hok : ∀ k, k < 28 → (th k = true ↔ ¬ yt k = 0)) (hk : k < 28) (f : th k = true → post 1) (g : ¬ th k = true → post 0) : wpY_is post (yt, yf, yo, yl, l0) (nI k) :=
  br_f (br_0 (by omega)) (br_f (nI_ge (b := 28) hk (by decide)) ⟨ar_n hk, br_c (fun h => g (fun z => (hok k hk).mp z (by rw [ar_cl (by omega)] at h; exact h))) (fun h => f ((hok k hk).mpr (by rw [ar_cl (by omega)] at h; exact h)))⟩)
theorem yw_len {post : Int32 → Prop} {v : SY} {x : Int32} (h : x < 1 ∨ (¬ x < 1 ∧ ¬ x ≤ 30)) (K : post 0) : wpY_isLength post v x := by
  unfold wpY_isLength
  rcases h with h | h
  · exact br_t h K
  · exact br_f h.1 (br_t (Int32.not_le.mp h.2) K)
theorem yw_len_y {post : Int32 → Prop} {v : SY} {n : Nat} (h1 : 1 ≤ n) (h2 : n ≤ 30) (K : post 1) : wpY_isLength post v (nI n) := by
  unfold wpY_isLength
  exact br_f (nI_nlt (a := n) (b := 1) h1 (by omega)) (br_f (nI_nlt (a := 30) (b := n) h2 (by decide)) K)
theorem yw_way {post : Int32 → Prop} {s t : Nat} {l : Nat → Int32} (hs : s < 12) (ht : t < 12) (K : post (l (s * 12 + t))) : wpY_way post (yt, yf, yo, yl, l) (nI s) (nI t) := by
  unfold wpY_way
  refine ⟨ar_ny hs ht, ?_⟩
  rw [ar_iy, ar_cl (by omega)]; exact K
theorem yw_m {post : SY → Prop} {s : Nat} (N : ny_I fr to ln yf yo yl) (OK : nt_ok th fr to ln) (hok : ∀ k, k < 28 → (th k = true ↔ ¬ yt k = 0)) (hs : s < 12)
    (K : ∀ l, (∀ t, t < 12 → l (s * 12 + t) = ye_f (gd_d (nt_R th fr to ln) s t)) → post (yt, yf, yo, yl, l)) : wpY_measure post (yt, yf, yo, yl, l0) (nI s) (-1) :=
  yw_measure N OK hs (fun k hk => by rw [hok k hk]; exact ⟨fun h => ⟨h, yw_m1 hk⟩, fun h => h.1⟩) (fun l h _ => K l h)
theorem yw_mc {post : SY → Prop} {s k0 : Nat} (N : ny_I fr to ln yf yo yl) (OK : nt_ok th fr to ln) (hok : ∀ k, k < 28 → (th k = true ↔ ¬ yt k = 0)) (hs : s < 12) (h0 : k0 < 28)
    (K : ∀ l, (∀ t, t < 12 → l (s * 12 + t) = ye_f (gd_d (nt_R (th_c th k0) fr to ln) s t)) → post (yt, yf, yo, yl, l)) : wpY_measure post (yt, yf, yo, yl, l0) (nI s) (nI k0) := by
  refine yw_measure N (th_ok OK k0) hs (fun k hk => ?_) (fun l h _ => K l h)
  unfold th_c
  by_cases e : k = k0
  · rw [if_pos e, e]
    exact ⟨fun z => Bool.noConfusion z, fun z => absurd rfl z.2⟩
  · rw [if_neg e, hok k hk]
    exact ⟨fun h => ⟨h, fun z => e (hp_ni (by omega) (by omega) z)⟩, fun h => h.1⟩
theorem ym_dist {post : Int32 → SY → Prop} {e s t : Nat} (he : e < 7) (hs : s < 12) (ht : t < 12) (N : ny_I fr to ln yf yo yl) (OK : nt_ok th fr to ln) (hok : ∀ k, k < 28 → (th k = true ↔ ¬ yt k = 0))
    (K : ∀ l, post (ye_f (gd_d (nt_R th fr to ln) s t)) (yt, yf, yo, yl, l)) : wpY_distance post (yt, yf, yo, yl, l0) (nI e) (nI s) (nI t) := by
  unfold wpY_distance
  refine yw_en_y he (br_f (by decide) (yw_pt_y hs (br_f (by decide) (yw_pt_y ht (br_f (by decide) (yw_m N OK hok hs (fun l h => yw_way hs ht ?_)))))))
  rw [h t ht]; exact K l
theorem ym_between {post : Int32 → SY → Prop} {s t : Nat} (hs : s < 12) (ht : t < 12) (N : ny_I fr to ln yf yo yl) (OK : nt_ok th fr to ln) (hok : ∀ k, k < 28 → (th k = true ↔ ¬ yt k = 0))
    (K : ∀ l, post (ob_f (bw_P (gd_d (nt_R th fr to ln)) s t) 12) (yt, yf, yo, yl, l)) : wpY_between post (yt, yf, yo, yl, l0) (nI s) (nI t) := by
  unfold wpY_between
  refine yw_pt_y hs (br_f (by decide) (yw_pt_y ht (br_f (by decide) (yw_all N OK hok (fun l h => ?_)))))
  have L : ∀ (d i : Nat), i + d = 12 → wY_between_27 post (nI s) (nI t) yt yf yo yl l (d + 1) (ob_f (bw_P (gd_d (nt_R th fr to ln)) s t) i) (nI i) := by
    intro d
    induction d with
    | zero =>
      intro i hi
      have e : i = 12 := by omega
      subst e
      exact br_t (by decide) (K l)
    | succ d ih =>
      intro i hid
      have hi : i < 12 := by omega
      have b1 := gd_le (nt_R th fr to ln) s hi
      have b2 := gd_le (nt_R th fr to ln) i ht
      have b3 := gd_le (nt_R th fr to ln) s ht
      have g := ih (i + 1) (by omega)
      have no : ¬ bw_P (gd_d (nt_R th fr to ln)) s t i = true → wY_between_82 post (wY_between_27 post (nI s) (nI t) yt yf yo yl l (d + 1)) (nI s) (nI t) (ob_f (bw_P (gd_d (nt_R th fr to ln)) s t) i) (nI i) yt yf yo yl l := by
        intro hn
        unfold wY_between_82 wY_between_83
        refine br_t rfl (nm_r (nI_1 i) ?_)
        rw [← ob_e hn]; exact g
      refine br_f (nI_ge (b := 12) hi (by decide)) (yw_way hs hi ?_)
      rw [h s i hs hi]
      refine br_p _ (ye_0 b1) (fun z => no (fun y => z (of_decide_eq_true y).2.1)) (fun z1 => yw_way hi ht ?_)
      rw [h i t hi ht]
      refine br_p _ (ye_0 b2) (fun z => no (fun y => z (of_decide_eq_true y).2.2.1)) (fun z2 => yw_way hs hi (yw_way hi ht (yw_way hs ht ?_)))
      have h1 := Classical.byContradiction z1
      have h2 := Classical.byContradiction z2
      rw [h s i hs hi, h i t hi ht, h s t hs ht, ye_lt h1, ye_lt h2, nI_add]
      by_cases h3 : gd_d (nt_R th fr to ln) s t < 1000000
      · rw [ye_lt h3]
        refine br_eq rfl rfl (by omega) (by omega) (fun e => ?_) (fun e => no (fun y => e (of_decide_eq_true y).2.2.2))
        unfold wY_between_83
        exact br_f (by decide) (nm_r (e' := ob_f (bw_P (gd_d (nt_R th fr to ln)) s t) (i + 1)) (ob_t (decide_eq_true ⟨h3, h1, h2, e⟩)).symm (nm_r (nI_1 i) g))
      · rw [ye_ge h3]
        refine br_f (fun z => ?_) (no (fun y => h3 (of_decide_eq_true y).1))
        have : ¬ nI (gd_d (nt_R th fr to ln) s i + gd_d (nt_R th fr to ln) i t) < 0 := br_0 (by omega)
        rw [z] at this
        exact this (by decide)
  exact ⟨12 + 1, L 12 0 rfl⟩
theorem ym_around {post : Int32 → SY → Prop} {s : Nat} {r : Int32} (hs : s < 12) (N : ny_I fr to ln yf yo yl) (OK : nt_ok th fr to ln) (hok : ∀ k, k < 28 → (th k = true ↔ ¬ yt k = 0))
    (K : ∀ l, post (ob_f (ad_P (gd_d (nt_R th fr to ln)) s r) 12) (yt, yf, yo, yl, l)) : wpY_around post (yt, yf, yo, yl, l0) (nI s) r := by
  unfold wpY_around
  refine yw_pt_y hs (br_f (by decide) (yw_m N OK hok hs (fun l h => ?_)))
  have L : ∀ (d i : Nat), i + d = 12 → wY_around_21 post (nI s) r yt yf yo yl l (d + 1) (ob_f (ad_P (gd_d (nt_R th fr to ln)) s r) i) (nI i) := by
    intro d
    induction d with
    | zero =>
      intro i hi
      have e : i = 12 := by omega
      subst e
      exact br_t (by decide) (K l)
    | succ d ih =>
      intro i hid
      have hi : i < 12 := by omega
      have b1 := gd_le (nt_R th fr to ln) s hi
      have g := ih (i + 1) (by omega)
      refine br_f (nI_ge (b := 12) hi (by decide)) (yw_way hs hi ?_)
      rw [h i hi]
      refine br_p _ (ye_0 b1) (fun z => nm_r (nI_1 i) ?_) (fun z1 => yw_way hs hi ?_)
      · rw [ob_e (fun y => z (of_decide_eq_true y).1)] at g; exact g
      · have h1 := Classical.byContradiction z1
        rw [h i hi, ye_lt h1]
        refine br_c (fun z => nm_r (nI_1 i) ?_) (fun z => nm_r (e' := ob_f (ad_P (gd_d (nt_R th fr to ln)) s r) (i + 1)) (ob_t (decide_eq_true ⟨h1, z⟩)).symm (nm_r (nI_1 i) g))
        rw [ob_e (fun y => (of_decide_eq_true y).2 z)] at g; exact g
  exact ⟨12 + 1, L 12 0 rfl⟩
theorem ym_far {post : Int32 → SY → Prop} {s : Nat} (hs : s < 12) (N : ny_I fr to ln yf yo yl) (OK : nt_ok th fr to ln) (hok : ∀ k, k < 28 → (th k = true ↔ ¬ yt k = 0))
    (K : ∀ l, post (nI (mx_f (gd_d (nt_R th fr to ln) s) 12)) (yt, yf, yo, yl, l)) : wpY_farthest post (yt, yf, yo, yl, l0) (nI s) := by
  unfold wpY_farthest
  refine yw_pt_y hs (br_f (by decide) (yw_m N OK hok hs (fun l h => ?_)))
  have L : ∀ (d i : Nat), i + d = 12 → wY_farthest_20 post (nI s) yt yf yo yl l (d + 1) (nI (mx_f (gd_d (nt_R th fr to ln) s) i)) (nI i) := by
    intro d
    induction d with
    | zero =>
      intro i hi
      have e : i = 12 := by omega
      subst e
      exact br_t (by decide) (K l)
    | succ d ih =>
      intro i hid
      have hi : i < 12 := by omega
      have b1 := gd_le (nt_R th fr to ln) s hi
      have b2 := mx_K (gd_d (nt_R th fr to ln) s) i
      have g := ih (i + 1) (by omega)
      refine br_f (nI_ge (b := 12) hi (by decide)) (yw_way hs hi ?_)
      rw [h i hi]
      by_cases h1 : gd_d (nt_R th fr to ln) s i < 1000000
      · rw [ye_lt h1]
        refine br_le rfl rfl (by omega) (by omega) (fun z => nm_r (nI_1 i) ?_) (fun z => yw_way hs hi (nm_r (nI_1 i) ?_))
        · rw [show mx_f (gd_d (nt_R th fr to ln) s) (i + 1) = mx_f (gd_d (nt_R th fr to ln) s) i from if_neg (by omega)] at g; exact g
        · rw [h i hi, ye_lt h1]
          rw [show mx_f (gd_d (nt_R th fr to ln) s) (i + 1) = gd_d (nt_R th fr to ln) s i from if_pos ⟨h1, z⟩] at g; exact g
      · rw [ye_ge h1]
        refine br_t (Int32.le_trans (by decide : (-3 : Int32) ≤ 0) (nI_pos' (by omega))) (nm_r (nI_1 i) ?_)
        rw [show mx_f (gd_d (nt_R th fr to ln) s) (i + 1) = mx_f (gd_d (nt_R th fr to ln) s) i from if_neg (fun z => h1 z.1)] at g; exact g
  exact ⟨12 + 1, L 12 0 rfl⟩
theorem ym_wide {post : Int32 → SY → Prop} (N : ny_I fr to ln yf yo yl) (OK : nt_ok th fr to ln) (hok : ∀ k, k < 28 → (th k = true ↔ ¬ yt k = 0))
    (K : ∀ l, post (nI (mx_g (gd_d (nt_R th fr to ln)) 12)) (yt, yf, yo, yl, l)) : wpY_widest post (yt, yf, yo, yl, l0) := by
  have gK : ∀ i, mx_g (gd_d (nt_R th fr to ln)) i < 1000000 := by
    intro i
    induction i with
    | zero => exact (by decide : 0 < 1000000)
    | succ i ih =>
      have := mx_K (gd_d (nt_R th fr to ln) i) 12
      show max (mx_g (gd_d (nt_R th fr to ln)) i) (mx_f (gd_d (nt_R th fr to ln) i) 12) < 1000000
      omega
  have L : ∀ (d i : Nat) (l : Nat → Int32), i + d = 12 → wY_widest_4 post (d + 1) (nI (mx_g (gd_d (nt_R th fr to ln)) i)) (nI i) yt yf yo yl l := by
    intro d
    induction d with
    | zero =>
      intro i l hi
      have e : i = 12 := by omega
      subst e
      exact br_t (by decide) (K l)
    | succ d ih =>
      intro i l hid
      have hi : i < 12 := by omega
      have b1 := gK i
      have b2 := mx_K (gd_d (nt_R th fr to ln) i) 12
      refine br_f (nI_ge (b := 12) hi (by decide)) (ym_far hi N OK hok (fun l' => br_le rfl rfl (by omega) (by omega) (fun z => nm_r (nI_1 i) ?_) (fun z => nm_r (nI_1 i) ?_)))
      · have g := ih (i + 1) l' (by omega)
        rw [show mx_g (gd_d (nt_R th fr to ln)) (i + 1) = mx_g (gd_d (nt_R th fr to ln)) i from Nat.max_eq_left z] at g; exact g
      · have g := ih (i + 1) l' (by omega)
        rw [show mx_g (gd_d (nt_R th fr to ln)) (i + 1) = mx_f (gd_d (nt_R th fr to ln) i) 12 from Nat.max_eq_right (by omega)] at g; exact g
  exact ⟨12 + 1, L 12 0 l0 rfl⟩
theorem ym_need {post : Int32 → SY → Prop} (N : ny_I fr to ln yf yo yl) (OK : nt_ok th fr to ln) (hok : ∀ k, k < 28 → (th k = true ↔ ¬ yt k = 0))
    (K : ∀ l, post (ob_f (nl_P (gd_d (nt_R th fr to ln)) th fr to ln) 28) (yt, yf, yo, yl, l)) : wpY_needless post (yt, yf, yo, yl, l0) := by
  unfold wpY_needless
  refine yw_all N OK hok (fun l h => ?_)
  have L : ∀ (d i : Nat), i + d = 28 → wY_needless_8 post yt yf yo yl l (d + 1) (ob_f (nl_P (gd_d (nt_R th fr to ln)) th fr to ln) i) (nI i) := by
    intro d
    induction d with
    | zero =>
      intro i hi
      have e : i = 28 := by omega
      subst e
      exact br_t (by decide) (K l)
    | succ d ih =>
      intro k hkd
      have hk : k < 28 := by omega
      obtain ⟨n1, n2, n3⟩ := N k hk
      obtain ⟨o1, o2, o3, o4⟩ := OK k hk
      have ek : (nI k).toNatClampNeg = k := ar_cl (by omega)
      have g := ih (k + 1) (by omega)
      refine br_f (nI_ge (b := 28) hk (by decide)) ⟨ar_n hk, ?_⟩
      rw [ek]
      by_cases ht : yt k = 0
      · refine br_t ht (nm_r (nI_1 k) ?_)
        rw [ob_e (fun y => (hok k hk).mp (of_decide_eq_true y).1 ht)] at g; exact g
      · have hth := (hok k hk).mpr ht
        have b1 := nt_st OK (gd_self (nt_R th fr to ln) (fr k)) hk hth
        rw [gd_ss] at b1
        refine br_f ht ⟨ar_n hk, ar_n hk, ar_n hk, ?_⟩
        rw [n1, n2]
        refine yw_way o1 o2 ?_
        rw [h _ _ o1 o2, ye_lt (by omega), n3]
        refine br_le rfl rfl (by omega) (by omega) (fun z => nm_r (nI_1 k) ?_) (fun z => nm_r (e' := ob_f (nl_P (gd_d (nt_R th fr to ln)) th fr to ln) (k + 1)) (ob_t (decide_eq_true ⟨hth, z⟩)).symm (nm_r (nI_1 k) g))
        rw [ob_e (fun y => absurd (of_decide_eq_true y).2 (by omega))] at g; exact g
  exact ⟨28 + 1, L 28 0 rfl⟩
theorem ym_over {post : Int32 → SY → Prop} {s p t : Nat} (hs : s < 12) (hp : p < 12) (ht : t < 12) (N : ny_I fr to ln yf yo yl) (OK : nt_ok th fr to ln) (hok : ∀ k, k < 28 → (th k = true ↔ ¬ yt k = 0))
    (K : ∀ l, post (ov_r (gd_d (nt_R th fr to ln) s p) (gd_d (nt_R th fr to ln) p t)) (yt, yf, yo, yl, l)) : wpY_over post (yt, yf, yo, yl, l0) (nI s) (nI p) (nI t) := by
  have b1 := gd_le (nt_R th fr to ln) s hp
  have b2 := gd_le (nt_R th fr to ln) p ht
  unfold wpY_over
  refine yw_pt_y hs (br_f (by decide) (yw_pt_y hp (br_f (by decide) (yw_pt_y ht (br_f (by decide) (yw_all N OK hok (fun l h => ?_)))))))
  have k := K l
  refine yw_way hs hp ?_
  rw [h s p hs hp]
  refine br_p _ (ye_0 b1) (fun z => ?_) (fun z1 => yw_way hp ht ?_)
  · rw [show ov_r (gd_d (nt_R th fr to ln) s p) (gd_d (nt_R th fr to ln) p t) = -3 from if_neg (fun y => z y.1)] at k; exact k
  · rw [h p t hp ht]
    refine br_p _ (ye_0 b2) (fun z => ?_) (fun z2 => yw_way hs hp (yw_way hp ht ?_))
    · rw [show ov_r (gd_d (nt_R th fr to ln) s p) (gd_d (nt_R th fr to ln) p t) = -3 from if_neg (fun y => z y.2)] at k; exact k
    · have h1 := Classical.byContradiction z1
      have h2 := Classical.byContradiction z2
      rw [h s p hs hp, h p t hp ht, ye_lt h1, ye_lt h2]
      rw [show ov_r (gd_d (nt_R th fr to ln) s p) (gd_d (nt_R th fr to ln) p t) = nI (gd_d (nt_R th fr to ln) s p) + nI (gd_d (nt_R th fr to ln) p t) from if_pos ⟨h1, h2⟩] at k; exact k
theorem ym_detour {post : Int32 → SY → Prop} {k : Nat} (hk : k < 28) (ht : th k = true) (N : ny_I fr to ln yf yo yl) (OK : nt_ok th fr to ln) (hok : ∀ k, k < 28 → (th k = true ↔ ¬ yt k = 0))
    (K : ∀ l, post (dt_r (gd_d (nt_R th fr to ln) (fr k) (to k)) (gd_d (nt_R (th_c th k) fr to ln) (fr k) (to k))) (yt, yf, yo, yl, l)) : wpY_detour post (yt, yf, yo, yl, l0) (nI k) := by
  obtain ⟨n1, n2, n3⟩ := N k hk
  obtain ⟨o1, o2, o3, o4⟩ := OK k hk
  have ek : (nI k).toNatClampNeg = k := ar_cl (by omega)
  have b2 := gd_le (nt_R (th_c th k) fr to ln) (fr k) o2
  unfold wpY_detour
  refine yw_is hok hk (fun _ => br_f (by decide) ⟨ar_n hk, nm_r (e' := nI (fr k)) (by rw [ek]; exact n1) ⟨ar_n hk, nm_r (e' := nI (to k)) (by rw [ek]; exact n2) ?_⟩⟩) (fun z => absurd ht z)
  refine yw_m N OK hok o1 (fun l h => yw_way o1 o2 (yw_mc N OK hok o1 hk (fun m g => yw_way o1 o2 ?_)))
  rw [h _ o2, g _ o2]
  have kk := K m
  by_cases z : gd_d (nt_R (th_c th k) fr to ln) (fr k) (to k) < 1000000
  · rw [show dt_r (gd_d (nt_R th fr to ln) (fr k) (to k)) (gd_d (nt_R (th_c th k) fr to ln) (fr k) (to k)) = ye_f (gd_d (nt_R (th_c th k) fr to ln) (fr k) (to k)) - ye_f (gd_d (nt_R th fr to ln) (fr k) (to k)) from if_pos z] at kk
    exact br_t (by rw [ye_lt z]; exact nI_pos' (by omega)) kk
  · rw [show dt_r (gd_d (nt_R th fr to ln) (fr k) (to k)) (gd_d (nt_R (th_c th k) fr to ln) (fr k) (to k)) = -3 from if_neg z] at kk
    exact br_f (by rw [ye_ge z]; decide) kk
theorem ym_roads {post : Int32 → Prop} (hok : ∀ k, k < 28 → (th k = true ↔ ¬ yt k = 0)) (K : post (ob_f th 28)) : wpY_roads post (yt, yf, yo, yl, l0) := by
  have L : ∀ (d i : Nat), i + d = 28 → wY_roads_4 post yt yf yo yl l0 (d + 1) (ob_f th i) (nI i) := by
    intro d
    induction d with
    | zero =>
      intro i hi
      have e : i = 28 := by omega
      subst e
      exact br_t (by decide) K
    | succ d ih =>
      intro k hkd
      have hk : k < 28 := by omega
      have g := ih (k + 1) (by omega)
      refine br_f (nI_ge (b := 28) hk (by decide)) ⟨ar_n hk, ?_⟩
      rw [ar_cl (show k < 1000 by omega)]
      refine br_c (fun z => nm_r (nI_1 k) ?_) (fun z => nm_r (e' := ob_f th (k + 1)) (ob_t ((hok k hk).mpr z)).symm (nm_r (nI_1 k) g))
      rw [ob_e (fun y => (hok k hk).mp y z)] at g; exact g
  exact ⟨28 + 1, L 28 0 rfl⟩
theorem ym_add {post : Int32 → SY → Prop} {a b len : Int32} {k : Nat} (hk : k < 28) (hok : ∀ k, k < 28 → (th k = true ↔ ¬ yt k = 0)) (h0 : ¬ th k = true) (h1 : ∀ j, j < k → th j = true)
    (K : post (nI k) (upd yt k 1, upd yf k a, upd yo k b, upd yl k len, l0)) : ∃ n : Nat, wY_add_34 post a b len yt yf yo yl l0 n 0 := by
  have L : ∀ (d i : Nat), i + d = k → wY_add_34 post a b len yt yf yo yl l0 (d + 1) (nI i) := by
    intro d
    induction d with
    | zero =>
      intro i hi
      have e : i = k := by omega
      subst e
      have ek : (nI i).toNatClampNeg = i := ar_cl (by omega)
      exact br_f (nI_ge (b := 28) hk (by decide)) ⟨ar_n hk, br_t (by rw [ek]; exact Classical.byContradiction (fun z => h0 ((hok i hk).mpr z))) ⟨ar_n hk, nm_r (ar_u (by omega) _ _) ⟨ar_n hk, nm_r (ar_u (by omega) _ _) ⟨ar_n hk, nm_r (ar_u (by omega) _ _) ⟨ar_n hk, nm_r (ar_u (by omega) _ _) K⟩⟩⟩⟩⟩
    | succ d ih =>
      intro i hid
      have hi : i < 28 := by omega
      exact br_f (nI_ge (b := 28) hi (by decide)) ⟨ar_n hi, br_f (by rw [ar_cl (by omega)]; exact (hok i hi).mp (h1 i (by omega))) (nm_r (nI_1 i) (ih (i + 1) (by omega)))⟩
  exact ⟨k + 1, L k 0 (by omega)⟩
theorem ym_full {post : Int32 → SY → Prop} {a b len : Int32} (hok : ∀ k, k < 28 → (th k = true ↔ ¬ yt k = 0)) (h1 : ∀ j, j < 28 → th j = true) (K : post (-2) (yt, yf, yo, yl, l0)) : ∃ n : Nat, wY_add_34 post a b len yt yf yo yl l0 n 0 := by
  have L : ∀ (d i : Nat), i + d = 28 → wY_add_34 post a b len yt yf yo yl l0 (d + 1) (nI i) := by
    intro d
    induction d with
    | zero =>
      intro i hi
      have e : i = 28 := by omega
      subst e
      exact br_t (by decide) K
    | succ d ih =>
      intro i hid
      have hi : i < 28 := by omega
      exact br_f (nI_ge (b := 28) hi (by decide)) ⟨ar_n hi, br_f (by rw [ar_cl (by omega)]; exact (hok i hi).mp (h1 i (by omega))) (nm_r (nI_1 i) (ih (i + 1) (by omega)))⟩
  exact ⟨28 + 1, L 28 0 rfl⟩
end
end
section
/-! what is owed: the relation, and one statement a method -/
theorem pk_least (P : Nat → Prop) (h : ∃ k, P k) : ∃ k, P k ∧ ∀ j, j < k → ¬ P j := by
  obtain ⟨k, hk⟩ := h
  induction k using Nat.strongRecOn with
  | ind k ih =>
    by_cases e : ∃ j, j < k ∧ P j
    · obtain ⟨j, hj, pj⟩ := e
      exact ih j hj pj
    · exact ⟨k, hk, fun j hj pj => e ⟨j, hj, pj⟩⟩
def i_Rel (k : Nat) (u : SX) (v : SY) : Prop :=
  ∃ (th : Nat → Bool) (fr to ln : Nat → Nat), nt_ok th fr to ln ∧ nx_I th fr to ln u.1 u.2.2.1 u.2.2.2.1 u.2.2.2.2.1 ∧ ny_I fr to ln v.2.1 v.2.2.1 v.2.2.2.1 ∧ ∀ j, j < 28 → (th j = true ↔ ¬ v.1 j = 0)
theorem i_up {k : Nat} {u : SX} {v : SY} (h : i_Rel k u v) : i_Rel (k + 4) u v := h
section
variable {xP xZ : Int32} {aFr aTo aLe aRd aFd aKp aFa aSe aFb aSb aHp aPl aEg aRk aTH aFH aLm aFM aTM aFl aBo aAc : Nat → Int32}
variable {th : Nat → Bool} {fr to ln : Nat → Nat} {yt yf yo yl l0 : Nat → Int32}
theorem rl_in {k : Nat} (OK : nt_ok th fr to ln) (N : nx_I th fr to ln xP aFr aTo aLe) (M : ny_I fr to ln yf yo yl) (hok : ∀ j, j < 28 → (th j = true ↔ ¬ yt j = 0)) : i_Rel k (xP, xZ, aFr, aTo, aLe, aRd, aFd, aKp, aFa, aSe, aFb, aSb, aHp, aPl, aEg, aRk, aTH, aFH, aLm, aFM, aTM, aFl, aBo, aAc) (yt, yf, yo, yl, l0) := ⟨th, fr, to, ln, OK, N, M, hok⟩
end
theorem rl_el {k : Nat} {u : SX} {v : SY} {P : SX → SY → Prop} (I : i_Rel k u v)
    (h : ∀ (th : Nat → Bool) (fr to ln : Nat → Nat) (xP xZ : Int32) (aFr aTo aLe aRd aFd aKp aFa aSe aFb aSb aHp aPl aEg aRk aTH aFH aLm aFM aTM aFl aBo aAc yt yf yo yl l0 : Nat → Int32), nt_ok th fr to ln → nx_I th fr to ln xP aFr aTo aLe → ny_I fr to ln yf yo yl → (∀ j, j < 28 → (th j = true ↔ ¬ yt j = 0)) → P (xP, xZ, aFr, aTo, aLe, aRd, aFd, aKp, aFa, aSe, aFb, aSb, aHp, aPl, aEg, aRk, aTH, aFH, aLm, aFM, aTM, aFl, aBo, aAc) (yt, yf, yo, yl, l0)) : P u v := by
  obtain ⟨th, fr, to, ln, a, b, c, d⟩ := I
  obtain ⟨xP, xZ, aFr, aTo, aLe, aRd, aFd, aKp, aFa, aSe, aFb, aSb, aHp, aPl, aEg, aRk, aTH, aFH, aLm, aFM, aTM, aFl, aBo, aAc⟩ := u
  obtain ⟨yt, yf, yo, yl, l0⟩ := v
  exact h th fr to ln xP xZ aFr aTo aLe aRd aFd aKp aFa aSe aFb aSb aHp aPl aEg aRk aTH aFH aLm aFM aTM aFl aBo aAc yt yf yo yl l0 a b c d
theorem i_vc0 : wpX_init (fun u => wpY_init (fun v => i_Rel 0 u v)) := by
  refine ⟨fun _ => false, fun _ => 0, fun _ => 0, fun _ => 0, fun k _ => ⟨(by decide : 0 < 12), (by decide : 0 < 12), (by decide : 0 ≤ 30), fun z => Bool.noConfusion z⟩, ⟨(ob_zero 28).symm, fun k _ => ⟨rfl, rfl, rfl⟩⟩, fun k _ => ⟨rfl, rfl, rfl⟩, fun j _ => ⟨fun z => Bool.noConfusion z, fun z => absurd rfl z⟩⟩
theorem i_vc_add {k : Nat} {u : SX} {v : SY} (I : i_Rel k u v) (hk : k + 4 ≤ 2048) (v1 : Int32) (v2 : Int32) (v3 : Int32) : wpX_add (fun r u' => wpY_add (fun r' v' => r' = r ∧ i_Rel (k + 4) u' v') v v1 v2 v3) u v1 v2 v3 := by
  refine rl_el (P := fun u v => wpX_add (fun r u' => wpY_add (fun r' v' => r' = r ∧ i_Rel (k + 4) u' v') v v1 v2 v3) u v1 v2 v3) I ?_
  intro th fr to ln xP xZ aFr aTo aLe aRd aFd aKp aFa aSe aFb aSb aHp aPl aEg aRk aTH aFH aLm aFM aTM aFl aBo aAc yt yf yo yl l0 OK N M hok
  have J : i_Rel (k + 4) (xP, xZ, aFr, aTo, aLe, aRd, aFd, aKp, aFa, aSe, aFb, aSb, aHp, aPl, aEg, aRk, aTH, aFH, aLm, aFM, aTM, aFl, aBo, aAc) (yt, yf, yo, yl, l0) := rl_in OK N M hok
  unfold wpX_add wpY_add
  rcases iy_c v1 12 (by omega) with b1 | ⟨a, ha, rfl⟩
  · exact xw_pt_n b1 (br_t rfl (yw_pt_n b1 (br_t rfl ⟨rfl, J⟩)))
  refine xw_pt_y ha (br_f (by decide) ?_)
  rcases iy_c v2 12 (by omega) with b2 | ⟨b, hb, rfl⟩
  · exact xw_pt_n b2 (br_t rfl (yw_pt_y ha (br_f (by decide) (yw_pt_n b2 (br_t rfl ⟨rfl, J⟩)))))
  refine xw_pt_y hb (br_f (by decide) ?_)
  by_cases e : nI a = nI b
  · exact br_t e (yw_pt_y ha (br_f (by decide) (yw_pt_y hb (br_f (by decide) (br_t e ⟨rfl, J⟩)))))
  refine br_f e ?_
  rcases ly_c v3 with b3 | b3 | ⟨n, n1, n2, rfl⟩
  · exact br_t b3 (yw_pt_y ha (br_f (by decide) (yw_pt_y hb (br_f (by decide) (br_f e (yw_len (Or.inl b3) (br_t rfl ⟨rfl, J⟩)))))))
  · exact br_f b3.1 (br_f b3.2 (yw_pt_y ha (br_f (by decide) (yw_pt_y hb (br_f (by decide) (br_f e (yw_len (Or.inr b3) (br_t rfl ⟨rfl, J⟩))))))))
  refine br_f (nI_nlt (a := n) (b := 1) n1 (by omega)) (br_t (nI_le (a := n) (b := 30) n2 (by decide)) ?_)
  rcases Classical.em (∃ j, j < 28 ∧ ¬ th j = true) with z | z
  · obtain ⟨q, ⟨q1, q2⟩, q3⟩ := pk_least _ z
    have q4 : ∀ j, j < q → th j = true := fun j hj => Classical.byContradiction (fun y => q3 j hj ⟨by omega, y⟩)
    refine xm_add ha hb n2 q1 N.1 q2 q4 (yw_pt_y ha (br_f (by decide) (yw_pt_y hb (br_f (by decide) (br_f e (yw_len_y n1 n2 (br_f (by decide) (ym_add q1 hok q2 q4 ⟨rfl, ?_⟩))))))))
    refine rl_in (th := fun j => if j = q then true else th j) (fr := fun j => if j = q then a else fr j) (to := fun j => if j = q then b else to j) (ln := fun j => if j = q then n else ln j) (fun j hj => ?_) ⟨rfl, fun j hj => ?_⟩ (fun j hj => ?_) (fun j hj => ?_)
    · show (if j = q then a else fr j) < 12 ∧ (if j = q then b else to j) < 12 ∧ (if j = q then n else ln j) ≤ 30 ∧ ((if j = q then true else th j) = true → 1 ≤ (if j = q then n else ln j))
      by_cases ej : j = q
      · rw [if_pos ej, if_pos ej, if_pos ej, if_pos ej]; exact ⟨ha, hb, n2, fun _ => n1⟩
      · rw [if_neg ej, if_neg ej, if_neg ej, if_neg ej]; exact OK j hj
    · show upd aFr q (nI a) j = nI (if j = q then a else fr j) ∧ upd aTo q (nI b) j = nI (if j = q then b else to j) ∧ upd aLe q (nI n) j = nI (if j = q then n else ln j)
      by_cases ej : j = q
      · rw [if_pos ej, if_pos ej, if_pos ej, ej, pk_us, pk_us, pk_us]; exact ⟨rfl, rfl, rfl⟩
      · rw [if_neg ej, if_neg ej, if_neg ej, pk_un ej, pk_un ej, pk_un ej]; exact N.2 j hj
    · show upd yf q (nI a) j = nI (if j = q then a else fr j) ∧ upd yo q (nI b) j = nI (if j = q then b else to j) ∧ upd yl q (nI n) j = nI (if j = q then n else ln j)
      by_cases ej : j = q
      · rw [if_pos ej, if_pos ej, if_pos ej, ej, pk_us, pk_us, pk_us]; exact ⟨rfl, rfl, rfl⟩
      · rw [if_neg ej, if_neg ej, if_neg ej, pk_un ej, pk_un ej, pk_un ej]; exact M j hj
    · show ((if j = q then true else th j) = true ↔ ¬ upd yt q 1 j = 0)
      by_cases ej : j = q
      · rw [if_pos ej, ej, pk_us]; exact ⟨fun _ => by decide, fun _ => rfl⟩
      · rw [if_neg ej, pk_un ej]; exact hok j hj
  · have z' : ∀ j, j < 28 → th j = true := fun j hj => Classical.byContradiction (fun y => z ⟨j, hj, y⟩)
    exact xm_full N.1 z' (yw_pt_y ha (br_f (by decide) (yw_pt_y hb (br_f (by decide) (br_f e (yw_len_y n1 n2 (br_f (by decide) (ym_full hok z' ⟨rfl, J⟩))))))))
theorem i_vc_remove {k : Nat} {u : SX} {v : SY} (I : i_Rel k u v) (hk : k + 4 ≤ 2048) (v1 : Int32) : wpX_remove (fun r u' => wpY_remove (fun r' v' => r' = r ∧ i_Rel (k + 4) u' v') v v1) u v1 := by
  refine rl_el (P := fun u v => wpX_remove (fun r u' => wpY_remove (fun r' v' => r' = r ∧ i_Rel (k + 4) u' v') v v1) u v1) I ?_
  intro th fr to ln xP xZ aFr aTo aLe aRd aFd aKp aFa aSe aFb aSb aHp aPl aEg aRk aTH aFH aLm aFM aTM aFl aBo aAc yt yf yo yl l0 OK N M hok
  have J : i_Rel (k + 4) (xP, xZ, aFr, aTo, aLe, aRd, aFd, aKp, aFa, aSe, aFb, aSb, aHp, aPl, aEg, aRk, aTH, aFH, aLm, aFM, aTM, aFl, aBo, aAc) (yt, yf, yo, yl, l0) := rl_in OK N M hok
  unfold wpX_remove wpY_remove
  rcases iy_c v1 28 (by omega) with b1 | ⟨q, hq, rfl⟩
  · exact xw_has_n b1 (br_t rfl (yw_is_n b1 (br_t rfl ⟨rfl, J⟩)))
  refine xw_has N.1 hq (fun ht => br_f (by decide) (nm_r (e' := ob_f (fun j => if j = q then false else th j) 28) (by rw [N.1]; exact ob_clr (by omega) hq) ⟨ar_n hq, yw_is hok hq (fun _ => br_f (by decide) ⟨ar_n hq, nm_r (ar_u (by omega) _ _) ⟨ar_n hq, ?_⟩⟩) (fun z => absurd ht z)⟩)) (fun ht => br_t rfl (yw_is hok hq (fun z => absurd z ht) (fun _ => br_t rfl ⟨rfl, J⟩)))
  refine ⟨by rw [ar_cl (by omega), (N.2 q hq).2.2, (M q hq).2.2], rl_in (th := fun j => if j = q then false else th j) (fr := fr) (to := to) (ln := ln) (th_ok OK q) ⟨rfl, N.2⟩ M (fun j hj => ?_)⟩
  show ((if j = q then false else th j) = true ↔ ¬ upd yt q (vp_nar .boolean 0) j = 0)
  by_cases ej : j = q
  · rw [if_pos ej, ej, pk_us]; exact ⟨fun z => Bool.noConfusion z, fun z => absurd rfl z⟩
  · rw [if_neg ej, pk_un ej]; exact hok j hj
theorem i_vc_change {k : Nat} {u : SX} {v : SY} (I : i_Rel k u v) (hk : k + 4 ≤ 2048) (v1 : Int32) (v2 : Int32) : wpX_change (fun r u' => wpY_change (fun r' v' => r' = r ∧ i_Rel (k + 4) u' v') v v1 v2) u v1 v2 := by
  refine rl_el (P := fun u v => wpX_change (fun r u' => wpY_change (fun r' v' => r' = r ∧ i_Rel (k + 4) u' v') v v1 v2) u v1 v2) I ?_
  intro th fr to ln xP xZ aFr aTo aLe aRd aFd aKp aFa aSe aFb aSb aHp aPl aEg aRk aTH aFH aLm aFM aTM aFl aBo aAc yt yf yo yl l0 OK N M hok
  have J : i_Rel (k + 4) (xP, xZ, aFr, aTo, aLe, aRd, aFd, aKp, aFa, aSe, aFb, aSb, aHp, aPl, aEg, aRk, aTH, aFH, aLm, aFM, aTM, aFl, aBo, aAc) (yt, yf, yo, yl, l0) := rl_in OK N M hok
  unfold wpX_change wpY_change
  rcases iy_c v1 28 (by omega) with b1 | ⟨q, hq, rfl⟩
  · exact xw_has_n b1 (br_t rfl (yw_is_n b1 (br_t rfl ⟨rfl, J⟩)))
  refine xw_has N.1 hq (fun ht => br_f (by decide) ?_) (fun ht => br_t rfl (yw_is hok hq (fun z => absurd z ht) (fun _ => br_t rfl ⟨rfl, J⟩)))
  have Y : ∀ {post : Int32 → Prop}, post 1 → wpY_is post (yt, yf, yo, yl, l0) (nI q) := fun h => yw_is hok hq (fun _ => h) (fun z => absurd ht z)
  rcases ly_c v2 with b3 | b3 | ⟨n, n1, n2, rfl⟩
  · exact br_t b3 (Y (br_f (by decide) (yw_len (Or.inl b3) (br_t rfl ⟨rfl, J⟩))))
  · exact br_f b3.1 (br_f b3.2 (Y (br_f (by decide) (yw_len (Or.inr b3) (br_t rfl ⟨rfl, J⟩)))))
  refine br_f (nI_nlt (a := n) (b := 1) n1 (by omega)) (br_t (nI_le (a := n) (b := 30) n2 (by decide)) ⟨ar_n hq, nm_r (e' := nI (ln q)) (by rw [ar_cl (by omega)]; exact (N.2 q hq).2.2) ⟨ar_n hq, nm_r (by rw [ar_u (by omega), sm_b n (by omega)]) (Y (br_f (by decide) (yw_len_y n1 n2 (br_f (by decide) ⟨ar_n hq, nm_r (e' := nI (ln q)) (by rw [ar_cl (by omega)]; exact (M q hq).2.2) ⟨ar_n hq, nm_r (ar_u (by omega) _ _) ⟨rfl, ?_⟩⟩⟩))))⟩⟩)
  refine rl_in (th := th) (fr := fr) (to := to) (ln := fun j => if j = q then n else ln j) (fun j hj => ?_) ⟨N.1, fun j hj => ?_⟩ (fun j hj => ?_) hok
  · show fr j < 12 ∧ to j < 12 ∧ (if j = q then n else ln j) ≤ 30 ∧ (th j = true → 1 ≤ (if j = q then n else ln j))
    by_cases ej : j = q
    · rw [if_pos ej]; exact ⟨(OK j hj).1, (OK j hj).2.1, n2, fun _ => n1⟩
    · rw [if_neg ej]; exact OK j hj
  · show aFr j = nI (fr j) ∧ aTo j = nI (to j) ∧ upd aLe q (nI n) j = nI (if j = q then n else ln j)
    by_cases ej : j = q
    · rw [if_pos ej, ej, pk_us]; exact ⟨(N.2 q hq).1, (N.2 q hq).2.1, rfl⟩
    · rw [if_neg ej, pk_un ej]; exact N.2 j hj
  · show yf j = nI (fr j) ∧ yo j = nI (to j) ∧ upd yl q (nI n) j = nI (if j = q then n else ln j)
    by_cases ej : j = q
    · rw [if_pos ej, ej, pk_us]; exact ⟨(M q hq).1, (M q hq).2.1, rfl⟩
    · rw [if_neg ej, pk_un ej]; exact M j hj
theorem i_vc_roads {k : Nat} {u : SX} {v : SY} (I : i_Rel k u v) (hk : k + 4 ≤ 2048) : wpX_roads (fun r => wpY_roads (fun r' => r' = r ∧ i_Rel (k + 4) u v) v) u := by
  refine rl_el (P := fun u v => wpX_roads (fun r => wpY_roads (fun r' => r' = r ∧ i_Rel (k + 4) u v) v) u) I ?_
  intro th fr to ln xP xZ aFr aTo aLe aRd aFd aKp aFa aSe aFb aSb aHp aPl aEg aRk aTH aFH aLm aFM aTM aFl aBo aAc yt yf yo yl l0 OK N M hok
  have J : i_Rel (k + 4) (xP, xZ, aFr, aTo, aLe, aRd, aFd, aKp, aFa, aSe, aFb, aSb, aHp, aPl, aEg, aRk, aTH, aFH, aLm, aFM, aTM, aFl, aBo, aAc) (yt, yf, yo, yl, l0) := rl_in OK N M hok
  exact ym_roads hok ⟨N.1.symm, J⟩
end
section
/-! what is owed: the rest -/
theorem i_vc_distance {k : Nat} {u : SX} {v : SY} (I : i_Rel k u v) (hk : k + 4 ≤ 2048) (v1 : Int32) (v2 : Int32) (v3 : Int32) : wpX_distance (fun r u' => wpY_distance (fun r' v' => r' = r ∧ i_Rel (k + 4) u' v') v v1 v2 v3) u v1 v2 v3 := by
  refine rl_el (P := fun u v => wpX_distance (fun r u' => wpY_distance (fun r' v' => r' = r ∧ i_Rel (k + 4) u' v') v v1 v2 v3) u v1 v2 v3) I ?_
  intro th fr to ln xP xZ aFr aTo aLe aRd aFd aKp aFa aSe aFb aSb aHp aPl aEg aRk aTH aFH aLm aFM aTM aFl aBo aAc yt yf yo yl l0 OK N M hok
  have J : ∀ (kk : Nat) (l : Nat → Int32), i_Rel (kk + 4) (xP, xZ, aFr, aTo, aLe, aRd, aFd, aKp, aFa, aSe, aFb, aSb, aHp, aPl, aEg, aRk, aTH, aFH, aLm, aFM, aTM, aFl, aBo, aAc) (yt, yf, yo, yl, l) := fun _ _ => rl_in OK N M hok
  rcases iy_c v1 7 (by omega) with b1 | ⟨e, he, rfl⟩
  · unfold wpX_distance wpY_distance
    exact xw_eng_n b1 (br_t rfl (yw_en_n b1 (br_t rfl ⟨rfl, J k l0⟩)))
  rcases iy_c v2 12 (by omega) with b2 | ⟨s, hs, rfl⟩
  · unfold wpX_distance wpY_distance
    exact xw_eng_y he (br_f (by decide) (xw_pt_n b2 (br_t rfl (yw_en_y he (br_f (by decide) (yw_pt_n b2 (br_t rfl ⟨rfl, J k l0⟩)))))))
  rcases iy_c v3 12 (by omega) with b3 | ⟨t, ht, rfl⟩
  · unfold wpX_distance wpY_distance
    exact xw_eng_y he (br_f (by decide) (xw_pt_y hs (br_f (by decide) (xw_pt_n b3 (br_t rfl (yw_en_y he (br_f (by decide) (yw_pt_y hs (br_f (by decide) (yw_pt_n b3 (br_t rfl ⟨rfl, J k l0⟩)))))))))))
  exact xw_dist he hs ht N OK (fun xZ' aRd' aFd' aFa' aSe' aFb' aSb' aHp' aPl' aEg' aRk' aTH' aFH' aLm' aFM' aTM' aFl' aBo' aAc' => ym_dist he hs ht M OK hok (fun l => ⟨rfl, rl_in OK N M hok⟩))
theorem i_vc_agree {k : Nat} {u : SX} {v : SY} (I : i_Rel k u v) (hk : k + 4 ≤ 2048) (v1 : Int32) (v2 : Int32) : wpX_agree (fun r u' => wpY_agree (fun r' => r' = r ∧ i_Rel (k + 4) u' v) v v1 v2) u v1 v2 := by
  refine rl_el (P := fun u v => wpX_agree (fun r u' => wpY_agree (fun r' => r' = r ∧ i_Rel (k + 4) u' v) v v1 v2) u v1 v2) I ?_
  intro th fr to ln xP xZ aFr aTo aLe aRd aFd aKp aFa aSe aFb aSb aHp aPl aEg aRk aTH aFH aLm aFM aTM aFl aBo aAc yt yf yo yl l0 OK N M hok
  have J : ∀ (kk : Nat) (l : Nat → Int32), i_Rel (kk + 4) (xP, xZ, aFr, aTo, aLe, aRd, aFd, aKp, aFa, aSe, aFb, aSb, aHp, aPl, aEg, aRk, aTH, aFH, aLm, aFM, aTM, aFl, aBo, aAc) (yt, yf, yo, yl, l) := fun _ _ => rl_in OK N M hok
  rcases iy_c v1 7 (by omega) with b1 | ⟨e, he, rfl⟩
  · unfold wpX_agree wpY_agree
    exact xw_eng_n b1 (br_t rfl (yw_en_n b1 (br_t rfl ⟨rfl, J k l0⟩)))
  rcases iy_c v2 7 (by omega) with b2 | ⟨f, hf, rfl⟩
  · unfold wpX_agree wpY_agree
    exact xw_eng_y he (br_f (by decide) (xw_eng_n b2 (br_t rfl (yw_en_y he (br_f (by decide) (yw_en_n b2 (br_t rfl ⟨rfl, J k l0⟩)))))))
  refine xm_agree he hf N OK (fun aKp' xZ' aRd' aFd' aFa' aSe' aFb' aSb' aHp' aPl' aEg' aRk' aTH' aFH' aLm' aFM' aTM' aFl' aBo' aAc' => ?_)
  unfold wpY_agree
  exact yw_en_y he (br_f (by decide) (yw_en_y hf (br_f (by decide) ⟨rfl, rl_in OK N M hok⟩)))
theorem i_vc_between {k : Nat} {u : SX} {v : SY} (I : i_Rel k u v) (hk : k + 4 ≤ 2048) (v1 : Int32) (v2 : Int32) : wpX_between (fun r u' => wpY_between (fun r' v' => r' = r ∧ i_Rel (k + 4) u' v') v v1 v2) u v1 v2 := by
  refine rl_el (P := fun u v => wpX_between (fun r u' => wpY_between (fun r' v' => r' = r ∧ i_Rel (k + 4) u' v') v v1 v2) u v1 v2) I ?_
  intro th fr to ln xP xZ aFr aTo aLe aRd aFd aKp aFa aSe aFb aSb aHp aPl aEg aRk aTH aFH aLm aFM aTM aFl aBo aAc yt yf yo yl l0 OK N M hok
  have J : ∀ (kk : Nat) (l : Nat → Int32), i_Rel (kk + 4) (xP, xZ, aFr, aTo, aLe, aRd, aFd, aKp, aFa, aSe, aFb, aSb, aHp, aPl, aEg, aRk, aTH, aFH, aLm, aFM, aTM, aFl, aBo, aAc) (yt, yf, yo, yl, l) := fun _ _ => rl_in OK N M hok
  rcases iy_c v1 12 (by omega) with b1 | ⟨s, hs, rfl⟩
  · unfold wpX_between wpY_between
    exact xw_pt_n b1 (br_t rfl (yw_pt_n b1 (br_t rfl ⟨rfl, J k l0⟩)))
  rcases iy_c v2 12 (by omega) with b2 | ⟨t, ht, rfl⟩
  · unfold wpX_between wpY_between
    exact xw_pt_y hs (br_f (by decide) (xw_pt_n b2 (br_t rfl (yw_pt_y hs (br_f (by decide) (yw_pt_n b2 (br_t rfl ⟨rfl, J k l0⟩)))))))
  exact xm_between hs ht N OK (fun xZ' aRd' aFd' aFa' aSe' aFb' aSb' aHp' aPl' aEg' aRk' aTH' aFH' aLm' aFM' aTM' aFl' aBo' aAc' => ym_between hs ht M OK hok (fun l => ⟨rfl, rl_in OK N M hok⟩))
theorem i_vc_around {k : Nat} {u : SX} {v : SY} (I : i_Rel k u v) (hk : k + 4 ≤ 2048) (v1 : Int32) (v2 : Int32) : wpX_around (fun r u' => wpY_around (fun r' v' => r' = r ∧ i_Rel (k + 4) u' v') v v1 v2) u v1 v2 := by
  refine rl_el (P := fun u v => wpX_around (fun r u' => wpY_around (fun r' v' => r' = r ∧ i_Rel (k + 4) u' v') v v1 v2) u v1 v2) I ?_
  intro th fr to ln xP xZ aFr aTo aLe aRd aFd aKp aFa aSe aFb aSb aHp aPl aEg aRk aTH aFH aLm aFM aTM aFl aBo aAc yt yf yo yl l0 OK N M hok
  have J : ∀ (kk : Nat) (l : Nat → Int32), i_Rel (kk + 4) (xP, xZ, aFr, aTo, aLe, aRd, aFd, aKp, aFa, aSe, aFb, aSb, aHp, aPl, aEg, aRk, aTH, aFH, aLm, aFM, aTM, aFl, aBo, aAc) (yt, yf, yo, yl, l) := fun _ _ => rl_in OK N M hok
  rcases iy_c v1 12 (by omega) with b1 | ⟨s, hs, rfl⟩
  · unfold wpX_around wpY_around
    exact xw_pt_n b1 (br_t rfl (yw_pt_n b1 (br_t rfl ⟨rfl, J k l0⟩)))
  exact xm_around hs N OK (fun xZ' aRd' aFd' aFa' aSe' aFb' aSb' aHp' aPl' aEg' aRk' aTH' aFH' aLm' aFM' aTM' aFl' aBo' aAc' => ym_around hs M OK hok (fun l => ⟨rfl, rl_in OK N M hok⟩))
theorem i_vc_detour {k : Nat} {u : SX} {v : SY} (I : i_Rel k u v) (hk : k + 4 ≤ 2048) (v1 : Int32) : wpX_detour (fun r u' => wpY_detour (fun r' v' => r' = r ∧ i_Rel (k + 4) u' v') v v1) u v1 := by
  refine rl_el (P := fun u v => wpX_detour (fun r u' => wpY_detour (fun r' v' => r' = r ∧ i_Rel (k + 4) u' v') v v1) u v1) I ?_
  intro th fr to ln xP xZ aFr aTo aLe aRd aFd aKp aFa aSe aFb aSb aHp aPl aEg aRk aTH aFH aLm aFM aTM aFl aBo aAc yt yf yo yl l0 OK N M hok
  have J : ∀ (kk : Nat) (l : Nat → Int32), i_Rel (kk + 4) (xP, xZ, aFr, aTo, aLe, aRd, aFd, aKp, aFa, aSe, aFb, aSb, aHp, aPl, aEg, aRk, aTH, aFH, aLm, aFM, aTM, aFl, aBo, aAc) (yt, yf, yo, yl, l) := fun _ _ => rl_in OK N M hok
  rcases iy_c v1 28 (by omega) with b1 | ⟨q, hq, rfl⟩
  · unfold wpX_detour wpY_detour
    exact xw_has_n b1 (br_t rfl (yw_is_n b1 (br_t rfl ⟨rfl, J k l0⟩)))
  rcases Classical.em (th q = true) with ht | ht
  · exact xm_detour hq ht N OK (fun xZ' aRd' aFd' aFa' aSe' aFb' aSb' aHp' aPl' aEg' aRk' aTH' aFH' aLm' aFM' aTM' aFl' aBo' aAc' => ym_detour hq ht M OK hok (fun l => ⟨rfl, rl_in OK N M hok⟩))
  · unfold wpX_detour wpY_detour
    exact xw_has N.1 hq (fun z => absurd z ht) (fun _ => br_t rfl (yw_is hok hq (fun z => absurd z ht) (fun _ => br_t rfl ⟨rfl, J k l0⟩)))
theorem i_vc_farthest {k : Nat} {u : SX} {v : SY} (I : i_Rel k u v) (hk : k + 4 ≤ 2048) (v1 : Int32) : wpX_farthest (fun r u' => wpY_farthest (fun r' v' => r' = r ∧ i_Rel (k + 4) u' v') v v1) u v1 := by
  refine rl_el (P := fun u v => wpX_farthest (fun r u' => wpY_farthest (fun r' v' => r' = r ∧ i_Rel (k + 4) u' v') v v1) u v1) I ?_
  intro th fr to ln xP xZ aFr aTo aLe aRd aFd aKp aFa aSe aFb aSb aHp aPl aEg aRk aTH aFH aLm aFM aTM aFl aBo aAc yt yf yo yl l0 OK N M hok
  have J : ∀ (kk : Nat) (l : Nat → Int32), i_Rel (kk + 4) (xP, xZ, aFr, aTo, aLe, aRd, aFd, aKp, aFa, aSe, aFb, aSb, aHp, aPl, aEg, aRk, aTH, aFH, aLm, aFM, aTM, aFl, aBo, aAc) (yt, yf, yo, yl, l) := fun _ _ => rl_in OK N M hok
  rcases iy_c v1 12 (by omega) with b1 | ⟨s, hs, rfl⟩
  · unfold wpX_farthest wpY_farthest
    exact xw_pt_n b1 (br_t rfl (yw_pt_n b1 (br_t rfl ⟨rfl, J k l0⟩)))
  exact xm_far hs N OK (fun xZ' aRd' aFd' aFa' aSe' aFb' aSb' aHp' aPl' aEg' aRk' aTH' aFH' aLm' aFM' aTM' aFl' aBo' aAc' => ym_far hs M OK hok (fun l => ⟨rfl, rl_in OK N M hok⟩))
theorem i_vc_widest {k : Nat} {u : SX} {v : SY} (I : i_Rel k u v) (hk : k + 4 ≤ 2048) : wpX_widest (fun r u' => wpY_widest (fun r' v' => r' = r ∧ i_Rel (k + 4) u' v') v) u := by
  refine rl_el (P := fun u v => wpX_widest (fun r u' => wpY_widest (fun r' v' => r' = r ∧ i_Rel (k + 4) u' v') v) u) I ?_
  intro th fr to ln xP xZ aFr aTo aLe aRd aFd aKp aFa aSe aFb aSb aHp aPl aEg aRk aTH aFH aLm aFM aTM aFl aBo aAc yt yf yo yl l0 OK N M hok
  have J : ∀ (kk : Nat) (l : Nat → Int32), i_Rel (kk + 4) (xP, xZ, aFr, aTo, aLe, aRd, aFd, aKp, aFa, aSe, aFb, aSb, aHp, aPl, aEg, aRk, aTH, aFH, aLm, aFM, aTM, aFl, aBo, aAc) (yt, yf, yo, yl, l) := fun _ _ => rl_in OK N M hok
  exact xm_wide N OK (fun xZ' aRd' aFd' aFa' aSe' aFb' aSb' aHp' aPl' aEg' aRk' aTH' aFH' aLm' aFM' aTM' aFl' aBo' aAc' => ym_wide M OK hok (fun l => ⟨rfl, rl_in OK N M hok⟩))
theorem i_vc_needless {k : Nat} {u : SX} {v : SY} (I : i_Rel k u v) (hk : k + 4 ≤ 2048) : wpX_needless (fun r u' => wpY_needless (fun r' v' => r' = r ∧ i_Rel (k + 4) u' v') v) u := by
  refine rl_el (P := fun u v => wpX_needless (fun r u' => wpY_needless (fun r' v' => r' = r ∧ i_Rel (k + 4) u' v') v) u) I ?_
  intro th fr to ln xP xZ aFr aTo aLe aRd aFd aKp aFa aSe aFb aSb aHp aPl aEg aRk aTH aFH aLm aFM aTM aFl aBo aAc yt yf yo yl l0 OK N M hok
  have J : ∀ (kk : Nat) (l : Nat → Int32), i_Rel (kk + 4) (xP, xZ, aFr, aTo, aLe, aRd, aFd, aKp, aFa, aSe, aFb, aSb, aHp, aPl, aEg, aRk, aTH, aFH, aLm, aFM, aTM, aFl, aBo, aAc) (yt, yf, yo, yl, l) := fun _ _ => rl_in OK N M hok
  exact xm_need N OK (fun xZ' aRd' aFd' aFa' aSe' aFb' aSb' aHp' aPl' aEg' aRk' aTH' aFH' aLm' aFM' aTM' aFl' aBo' aAc' => ym_need M OK hok (fun l => ⟨rfl, rl_in OK N M hok⟩))
theorem i_vc_over {k : Nat} {u : SX} {v : SY} (I : i_Rel k u v) (hk : k + 4 ≤ 2048) (v1 : Int32) (v2 : Int32) (v3 : Int32) : wpX_over (fun r u' => wpY_over (fun r' v' => r' = r ∧ i_Rel (k + 4) u' v') v v1 v2 v3) u v1 v2 v3 := by
  refine rl_el (P := fun u v => wpX_over (fun r u' => wpY_over (fun r' v' => r' = r ∧ i_Rel (k + 4) u' v') v v1 v2 v3) u v1 v2 v3) I ?_
  intro th fr to ln xP xZ aFr aTo aLe aRd aFd aKp aFa aSe aFb aSb aHp aPl aEg aRk aTH aFH aLm aFM aTM aFl aBo aAc yt yf yo yl l0 OK N M hok
  have J : ∀ (kk : Nat) (l : Nat → Int32), i_Rel (kk + 4) (xP, xZ, aFr, aTo, aLe, aRd, aFd, aKp, aFa, aSe, aFb, aSb, aHp, aPl, aEg, aRk, aTH, aFH, aLm, aFM, aTM, aFl, aBo, aAc) (yt, yf, yo, yl, l) := fun _ _ => rl_in OK N M hok
  rcases iy_c v1 12 (by omega) with b1 | ⟨s, hs, rfl⟩
  · unfold wpX_over wpY_over
    exact xw_pt_n b1 (br_t rfl (yw_pt_n b1 (br_t rfl ⟨rfl, J k l0⟩)))
  rcases iy_c v2 12 (by omega) with b2 | ⟨p, hp, rfl⟩
  · unfold wpX_over wpY_over
    exact xw_pt_y hs (br_f (by decide) (xw_pt_n b2 (br_t rfl (yw_pt_y hs (br_f (by decide) (yw_pt_n b2 (br_t rfl ⟨rfl, J k l0⟩)))))))
  rcases iy_c v3 12 (by omega) with b3 | ⟨t, ht, rfl⟩
  · unfold wpX_over wpY_over
    exact xw_pt_y hs (br_f (by decide) (xw_pt_y hp (br_f (by decide) (xw_pt_n b3 (br_t rfl (yw_pt_y hs (br_f (by decide) (yw_pt_y hp (br_f (by decide) (yw_pt_n b3 (br_t rfl ⟨rfl, J k l0⟩)))))))))))
  exact xm_over hs hp ht N OK (fun xZ' aRd' aFd' aFa' aSe' aFb' aSb' aHp' aPl' aEg' aRk' aTH' aFH' aLm' aFM' aTM' aFl' aBo' aAc' => ym_over hs hp ht M OK hok (fun l => ⟨rfl, rl_in OK N M hok⟩))
theorem i_vc_sound {k : Nat} {u : SX} {v : SY} (I : i_Rel k u v) (hk : k + 4 ≤ 2048) : wpX_sound (fun r u' => wpY_sound (fun r' => r' = r ∧ i_Rel (k + 4) u' v) v) u := by
  refine rl_el (P := fun u v => wpX_sound (fun r u' => wpY_sound (fun r' => r' = r ∧ i_Rel (k + 4) u' v) v) u) I ?_
  intro th fr to ln xP xZ aFr aTo aLe aRd aFd aKp aFa aSe aFb aSb aHp aPl aEg aRk aTH aFH aLm aFM aTM aFl aBo aAc yt yf yo yl l0 OK N M hok
  have J : ∀ (kk : Nat) (l : Nat → Int32), i_Rel (kk + 4) (xP, xZ, aFr, aTo, aLe, aRd, aFd, aKp, aFa, aSe, aFb, aSb, aHp, aPl, aEg, aRk, aTH, aFH, aLm, aFM, aTM, aFl, aBo, aAc) (yt, yf, yo, yl, l) := fun _ _ => rl_in OK N M hok
  exact xm_sound N OK (fun aKp' xZ' aRd' aFd' aFa' aSe' aFb' aSb' aHp' aPl' aEg' aRk' aTH' aFH' aLm' aFM' aTM' aFl' aBo' aAc' => (⟨rfl, rl_in OK N M hok⟩ : (1 : Int32) = 1 ∧ _))
end
