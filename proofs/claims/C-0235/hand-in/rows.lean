section
/-! pure rows to paste: stores, nI and lN arithmetic, masks, shifts, narrowing, branches by naturals (pk_le, pk_lt, pk_eq), loops (lp1 .. lp16: the measure of the state; rp1 ..: recursion), negatives. Take what you need -/
theorem pk_us {f : Nat → Int32} {k : Nat} {x : Int32} : upd f k x k = x := if_pos rfl
theorem pk_un {f : Nat → Int32} {k j : Nat} {x : Int32} (h : j ≠ k) : upd f k x j = f j := if_neg h
theorem pk_uLs {f : Nat → Int64} {k : Nat} {x : Int64} : vp_updL f k x k = x := if_pos rfl
theorem pk_uLn {f : Nat → Int64} {k j : Nat} {x : Int64} (h : j ≠ k) : vp_updL f k x j = f j := if_neg h
theorem pk_sub {a b : Nat} (h : b ≤ a) : nI a - nI b = nI (a - b) := by
  obtain ⟨c, rfl⟩ : ∃ c, a = c + b := ⟨a - b, by omega⟩
  rw [← nI_add, Int32.add_sub_cancel, Nat.add_sub_cancel]
theorem pk_m1 (n : Nat) : nI (n + 1) + (-1) = nI n := by
  rw [← nI_1, Int32.add_assoc, show (1 : Int32) + (-1) = 0 from rfl, Int32.add_zero]
theorem pk_mul (a b : Nat) : nI a * nI b = nI (a * b) := (Int32.ofNat_mul a b).symm
theorem pk_div {a d : Nat} (ha : a < 2 ^ 31) (h0 : 0 < d) (hd : d < 2 ^ 31) : nI a / nI d = nI (a / d) := by
  apply Int32.toInt_inj.mp
  rw [lg_idiv_nonneg (by rw [nI_toInt ha]; omega) (by rw [nI_toInt hd]; omega), nI_toInt ha, nI_toInt hd, nI_toInt (Nat.lt_of_le_of_lt (Nat.div_le_self a d) ha)]
  first | rfl | exact (Int.natCast_ediv _ _).symm
theorem pk_rem {a d : Nat} (ha : a < 2 ^ 31) (h0 : 0 < d) (hd : d < 2 ^ 31) : nI a - nI a / nI d * nI d = nI (a % d) := by
  rw [pk_div ha h0 hd, pk_mul, pk_sub (Nat.div_mul_le_self a d)]
  exact congrArg nI (by have := Nat.div_add_mod' a d; omega)
theorem pk_sub_toInt {a b : Nat} (ha : a < 2 ^ 30) (hb : b < 2 ^ 30) : (nI a - nI b).toInt = (a : Int) - b := by
  rw [Int32.toInt_sub, nI_toInt (by omega), nI_toInt (by omega)]
  exact Int.bmod_eq_of_le (by omega) (by omega)
theorem pk_sneg {a b : Nat} (hb : b < 2 ^ 30) (h : a < b) : nI a - nI b < 0 := by
  rw [Int32.lt_iff_toInt_lt, pk_sub_toInt (by omega) hb, show (0 : Int32).toInt = 0 from by decide]
  omega
theorem pk_ix (x : Int32) {n : Nat} (hn : n < 2 ^ 31) : x < 0 ∨ nI n ≤ x ∨ ∃ j : Nat, j < n ∧ x = nI j := by
  by_cases h : x < 0
  · exact Or.inl h
  · obtain ⟨j, hj, rfl⟩ := nI_of h
    by_cases h2 : j < n
    · exact Or.inr (Or.inr ⟨j, h2, rfl⟩)
    · exact Or.inr (Or.inl (nI_le (by omega) hj))
theorem pk_le {x y : Int32} {A B : Prop} (a b : Nat) (f : a ≤ b → A) (g : b < a → B) (hx : x = nI a := by rfl) (hy : y = nI b := by rfl) (ha : a < 2 ^ 31 := by omega) (hb : b < 2 ^ 31 := by omega) : (x ≤ y → A) ∧ (¬ x ≤ y → B) := by
  subst hx hy
  rw [nI_leI ha hb]
  exact ⟨f, fun z => g (by omega)⟩
theorem pk_lt {x y : Int32} {A B : Prop} (a b : Nat) (f : a < b → A) (g : b ≤ a → B) (hx : x = nI a := by rfl) (hy : y = nI b := by rfl) (ha : a < 2 ^ 31 := by omega) (hb : b < 2 ^ 31 := by omega) : (x < y → A) ∧ (¬ x < y → B) := by
  subst hx hy
  rw [nI_ltI ha hb]
  exact ⟨f, fun z => g (by omega)⟩
theorem pk_eq {x y : Int32} {A B : Prop} (a b : Nat) (f : a = b → A) (g : a ≠ b → B) (hx : x = nI a := by rfl) (hy : y = nI b := by rfl) (ha : a < 2 ^ 31 := by omega) (hb : b < 2 ^ 31 := by omega) : (x = y → A) ∧ (¬ x = y → B) := by
  subst hx hy
  rw [nI_eq ha hb]
  exact ⟨f, g⟩
theorem pk_in {x : Int32} (n N : Nat) (h : n < N) (hx : x = nI n := by rfl) (hN : N < 2 ^ 31 := by omega) : vp_in x N := by
  subst hx
  exact vp_in_nI h hN
theorem pk_cl {x : Int32} (n : Nat) (hx : x = nI n := by rfl) (h : n < 2 ^ 31 := by omega) : x.toNatClampNeg = n := by
  subst hx
  exact nI_clamp h
theorem pk_tn {n : Nat} (h : n < 2 ^ 32) : (nI n).toBitVec.toNat = n := Nat.mod_eq_of_lt h
theorem pk_and (x : Int32) {m : Int32} (k : Nat) (hm : m.toBitVec.toNat = 2 ^ k - 1) : x &&& m = nI (x.toBitVec.toNat % 2 ^ k) := by
  apply Int32.toBitVec_inj.mp
  apply BitVec.eq_of_toNat_eq
  rw [Int32.toBitVec_and, BitVec.toNat_and, hm, Nat.and_two_pow_sub_one_eq_mod]
  show _ = (BitVec.ofNat 32 _).toNat
  rw [BitVec.toNat_ofNat]
  exact (Nat.mod_eq_of_lt (Nat.lt_of_le_of_lt (Nat.mod_le _ _) x.toBitVec.isLt)).symm
theorem pk_andN {n : Nat} (h : n < 2 ^ 32) {m : Int32} (k : Nat) (hm : m.toBitVec.toNat = 2 ^ k - 1) : nI n &&& m = nI (n % 2 ^ k) := by
  rw [pk_and _ k hm, pk_tn h]
theorem pk_andE (x : Int32) {m : Int32} (k : Nat) (hm : m.toBitVec.toNat = 2 ^ k - 1) : ∃ j : Nat, j < 2 ^ k ∧ x &&& m = nI j := ⟨_, Nat.mod_lt _ (Nat.two_pow_pos k), pk_and x k hm⟩
theorem pk_andIn (x : Int32) {m : Int32} (k : Nat) (hm : m.toBitVec.toNat = 2 ^ k - 1) (hk : k ≤ 30) : vp_in (x &&& m) (2 ^ k) := by
  obtain ⟨j, hj, e⟩ := pk_andE x k hm
  rw [e]
  exact vp_in_nI hj (Nat.lt_of_le_of_lt (Nat.pow_le_pow_right (by decide) hk) (by decide))
theorem pk_shl (a s : Int32) (k : Nat) (hs : (s.toBitVec.smod 32).toNat = k) : (a <<< s).toBitVec.toNat = a.toBitVec.toNat * 2 ^ k % 2 ^ 32 := by
  show (a.toBitVec <<< (s.toBitVec.smod 32).toNat).toNat = _
  rw [hs, BitVec.toNat_shiftLeft, Nat.shiftLeft_eq]
theorem pk_shlN {n : Nat} (s : Int32) (k : Nat) (hs : (s.toBitVec.smod 32).toNat = k) (h : n * 2 ^ k < 2 ^ 32) : nI n <<< s = nI (n * 2 ^ k) := by
  apply Int32.toBitVec_inj.mp
  apply BitVec.eq_of_toNat_eq
  have hn : n < 2 ^ 32 := Nat.lt_of_le_of_lt (Nat.le_mul_of_pos_right n (Nat.two_pow_pos k)) h
  rw [pk_shl _ _ k hs, pk_tn hn, pk_tn h, Nat.mod_eq_of_lt h]
theorem pk_shr (a s : Int32) (k : Nat) (hs : (s.toBitVec.smod 32).toNat = k) : (a >>> s).toInt = a.toInt >>> k := by
  show (a.toBitVec.sshiftRight (s.toBitVec.smod 32).toNat).toInt = _
  rw [hs, BitVec.toInt_sshiftRight]
  rfl
theorem pk_shrN {n : Nat} (h : n < 2 ^ 31) (s : Int32) (k : Nat) (hs : (s.toBitVec.smod 32).toNat = k) : nI n >>> s = nI (n / 2 ^ k) := by
  apply Int32.toInt_inj.mp
  have h2 : n / 2 ^ k ≤ n := Nat.div_le_self _ _
  rw [pk_shr _ _ k hs, nI_toInt h, nI_toInt (by omega), Int.shiftRight_eq_div_pow]
  rfl
theorem pk_ushr (x s : Int32) (k : Nat) (hs : ((s.toUInt32 &&& Int32.toUInt32 31).toBitVec % 32).toNat = k) : (x.toUInt32 >>> (s.toUInt32 &&& Int32.toUInt32 31)).toInt32.toBitVec.toNat = x.toBitVec.toNat / 2 ^ k := by
  have e : (x.toUInt32 >>> (s.toUInt32 &&& Int32.toUInt32 31)).toInt32.toBitVec = x.toBitVec >>> k := by
    rw [← hs]
    exact UInt32.toBitVec_shiftRight _ _
  rw [e, BitVec.toNat_ushiftRight, Nat.shiftRight_eq_div_pow]
theorem pk_ushrN {n : Nat} (hn : n < 2 ^ 32) (s : Int32) (k : Nat) (hs : ((s.toUInt32 &&& Int32.toUInt32 31).toBitVec % 32).toNat = k) : ((nI n).toUInt32 >>> (s.toUInt32 &&& Int32.toUInt32 31)).toInt32 = nI (n / 2 ^ k) := by
  apply Int32.toBitVec_inj.mp
  apply BitVec.eq_of_toNat_eq
  rw [pk_ushr _ s k hs, pk_tn hn, pk_tn (Nat.lt_of_le_of_lt (Nat.div_le_self _ _) hn)]
theorem pk_nb (z : Int32) : narrow .byte (.int z.toInt8.toInt32) = .int z.toInt8.toInt32 := congrArg Value.int (by simp)
theorem pk_ns (z : Int32) : narrow .short (.int z.toInt16.toInt32) = .int z.toInt16.toInt32 := congrArg Value.int (by simp)
theorem pk_fb (r : Int32) : fits .byte (.int r.toInt8.toInt32) = true := by
  have ⟨a, b⟩ := lg_i2b_range r
  have h1 : (-128 : Int32).toInt = -128 := by decide
  have h2 : (127 : Int32).toInt = 127 := by decide
  simp only [fits, Bool.and_eq_true, decide_eq_true_eq, Int32.le_iff_toInt_le, h1, h2]
  omega
theorem pk_fs (r : Int32) : fits .short (.int r.toInt16.toInt32) = true := by
  have ⟨a, b⟩ := lg_i2s_range r
  have h1 : (-32768 : Int32).toInt = -32768 := by decide
  have h2 : (32767 : Int32).toInt = 32767 := by decide
  simp only [fits, Bool.and_eq_true, decide_eq_true_eq, Int32.le_iff_toInt_le, h1, h2]
  omega
theorem pk_charN {q : Nat} (hq : q < 65536) : narrow .char (.int (nI q)) = .int (nI q) ∧ fits .char (.int (nI q)) = true := by
  constructor
  · have e : (nI q).toUInt32.toUInt16.toUInt32.toInt32 = nI q := by
      apply Int32.toBitVec_inj.mp
      apply BitVec.eq_of_toNat_eq
      show (nI q).toUInt32.toUInt16.toUInt32.toNat = q % 2 ^ 32
      rw [UInt16.toNat_toUInt32, UInt32.toNat_toUInt16, show (nI q).toUInt32.toNat = q % 2 ^ 32 from rfl]
      omega
    exact congrArg Value.int e
  · have a : (0 : Int32) ≤ nI q := nI_pos' (by omega)
    have b : nI q ≤ 65535 := nI_le (b := 65535) (by omega) (by decide)
    show (decide ((0 : Int32) ≤ nI q) && decide (nI q ≤ 65535)) = true
    rw [decide_eq_true a, decide_eq_true b]
    rfl
theorem pk_char (x : Int32) : (x.toUInt32 % 65536).toInt32 = nI (x.toBitVec.toNat % 65536) := by
  apply Int32.toBitVec_inj.mp
  apply BitVec.eq_of_toNat_eq
  rw [pk_tn (by omega)]
  show (x.toUInt32 % 65536).toNat = _
  rw [UInt32.toNat_mod]
  rfl
theorem pk_nc (x : Int32) : narrow .char (.int (x.toUInt32 % 65536).toInt32) = .int (x.toUInt32 % 65536).toInt32 := by
  rw [pk_char]
  exact (pk_charN (Nat.mod_lt _ (by decide))).1
theorem pk_fc (x : Int32) : fits .char (.int (x.toUInt32 % 65536).toInt32) = true := by
  rw [pk_char]
  exact (pk_charN (Nat.mod_lt _ (by decide))).2
theorem pk_vb (z : Int32) : vp_nar .byte z.toInt8.toInt32 = z.toInt8.toInt32 := by rw [vp_nar_byte]; simp
theorem pk_vs (z : Int32) : vp_nar .short z.toInt16.toInt32 = z.toInt16.toInt32 := by rw [vp_nar_short]; simp
theorem pk_vc (z : Int32) : vp_nar .char (z.toUInt32 % 65536).toInt32 = (z.toUInt32 % 65536).toInt32 := Value.int.inj (pk_nc z)
theorem pk_lT {n : Nat} (h : n < 2 ^ 63) : (lN n).toInt = (n : Int) := lg_ofNat_toInt h
theorem pk_lLT {a b : Nat} (ha : a < 2 ^ 63) (hb : b < 2 ^ 63) : lN a < lN b ↔ a < b := by
  rw [Int64.lt_iff_toInt_lt, pk_lT ha, pk_lT hb]; omega
theorem pk_lLE {a b : Nat} (ha : a < 2 ^ 63) (hb : b < 2 ^ 63) : lN a ≤ lN b ↔ a ≤ b := by
  rw [Int64.le_iff_toInt_le, pk_lT ha, pk_lT hb]; omega
theorem pk_lEQ {a b : Nat} (ha : a < 2 ^ 63) (hb : b < 2 ^ 63) : lN a = lN b ↔ a = b := by
  rw [← Int64.toInt_inj, pk_lT ha, pk_lT hb]; omega
theorem pk_lOf {x : Int64} (h : ¬ x < 0) : ∃ k : Nat, k < 2 ^ 63 ∧ x = lN k := by
  rw [Int64.lt_iff_toInt_lt] at h
  have h0 : (0 : Int64).toInt = 0 := by decide
  have hx := Int64.toInt_lt x
  refine ⟨x.toInt.toNat, by omega, Int64.toInt_inj.mp ?_⟩
  rw [pk_lT (by omega)]
  omega
theorem pk_lDiv {a b : Nat} (ha : a < 2 ^ 63) (h0 : 0 < b) (hb : b < 2 ^ 63) : lN a / lN b = lN (a / b) := by
  apply Int64.toInt_inj.mp
  rw [lg_ldiv_nonneg (by rw [pk_lT ha]; omega) (by rw [pk_lT hb]; omega), pk_lT ha, pk_lT hb, pk_lT (Nat.lt_of_le_of_lt (Nat.div_le_self a b) ha)]
  rfl
theorem pk_lRem {a b : Nat} (ha : a < 2 ^ 63) (h0 : 0 < b) (hb : b < 2 ^ 63) : lN a - lN a / lN b * lN b = lN (a % b) := by
  rw [pk_lDiv ha h0 hb, lN_mul, lN_sub (Nat.div_mul_le_self a b)]
  exact congrArg lN (by have := Nat.div_add_mod' a b; omega)
theorem pk_loop {σ : Type} (W : Nat → Nat → σ → Prop) (I : Nat → σ → Prop) (e i0 : Nat) (s : σ) (hi : i0 ≤ e) (h0 : I i0 s) (hx : ∀ n s, I e s → W (n + 1) e s)
    (hs : ∀ n i s, i < e → I i s → (∀ s', I (i + 1) s' → W n (i + 1) s') → W (n + 1) i s) : ∃ n, W n i0 s :=
  ⟨e + 1, loop_i W I e hx hs (e + 1) i0 s hi (by omega) h0⟩
theorem pk_loopD {σ : Type} (W : Nat → Nat → σ → Prop) (I : Nat → σ → Prop) (hx : ∀ n s, I 0 s → W (n + 1) 0 s)
    (hs : ∀ n i s, I (i + 1) s → (∀ s', I i s' → W n i s') → W (n + 1) (i + 1) s) : ∀ (e : Nat) (s : σ), I e s → W (e + 1) e s := by
  intro e
  induction e with
  | zero => exact fun s h => hx 0 s h
  | succ e ih => exact fun s h => hs (e + 1) e s h (fun s' h' => ih s' h')
theorem lp1 {A1 : Type} (W : Nat → A1 → Prop) (I : A1 → Prop) (μ : A1 → Nat) (hs : ∀ (n : Nat) (a1 : A1), I a1 → (∀ (b1 : A1), I b1 → μ b1 < μ a1 → W n b1) → W (n + 1) a1) (a1 : A1) (h : I a1) : ∃ n, W n a1 :=
  loop_m (σ := A1) (fun n s => W n s) (fun s => I s) (fun s => μ s) (fun n s hI hk => hs n s hI (fun b1 h9 hm => hk b1 h9 hm)) a1 h
theorem lp2 {A1 A2 : Type} (W : Nat → A1 → A2 → Prop) (I : A1 → A2 → Prop) (μ : A1 → A2 → Nat) (hs : ∀ (n : Nat) (a1 : A1) (a2 : A2), I a1 a2 → (∀ (b1 : A1) (b2 : A2), I b1 b2 → μ b1 b2 < μ a1 a2 → W n b1 b2) → W (n + 1) a1 a2) (a1 : A1) (a2 : A2) (h : I a1 a2) : ∃ n, W n a1 a2 :=
  loop_m (σ := A1 × A2) (fun n s => W n s.1 s.2) (fun s => I s.1 s.2) (fun s => μ s.1 s.2) (fun n s hI hk => hs n s.1 s.2 hI (fun b1 b2 h9 hm => hk (b1, b2) h9 hm)) (a1, a2) h
theorem lp3 {A1 A2 A3 : Type} (W : Nat → A1 → A2 → A3 → Prop) (I : A1 → A2 → A3 → Prop) (μ : A1 → A2 → A3 → Nat) (hs : ∀ (n : Nat) (a1 : A1) (a2 : A2) (a3 : A3), I a1 a2 a3 → (∀ (b1 : A1) (b2 : A2) (b3 : A3), I b1 b2 b3 → μ b1 b2 b3 < μ a1 a2 a3 → W n b1 b2 b3) → W (n + 1) a1 a2 a3) (a1 : A1) (a2 : A2) (a3 : A3) (h : I a1 a2 a3) : ∃ n, W n a1 a2 a3 :=
  loop_m (σ := A1 × A2 × A3) (fun n s => W n s.1 s.2.1 s.2.2) (fun s => I s.1 s.2.1 s.2.2) (fun s => μ s.1 s.2.1 s.2.2) (fun n s hI hk => hs n s.1 s.2.1 s.2.2 hI (fun b1 b2 b3 h9 hm => hk (b1, b2, b3) h9 hm)) (a1, a2, a3) h
theorem lp4 {A1 A2 A3 A4 : Type} (W : Nat → A1 → A2 → A3 → A4 → Prop) (I : A1 → A2 → A3 → A4 → Prop) (μ : A1 → A2 → A3 → A4 → Nat) (hs : ∀ (n : Nat) (a1 : A1) (a2 : A2) (a3 : A3) (a4 : A4), I a1 a2 a3 a4 → (∀ (b1 : A1) (b2 : A2) (b3 : A3) (b4 : A4), I b1 b2 b3 b4 → μ b1 b2 b3 b4 < μ a1 a2 a3 a4 → W n b1 b2 b3 b4) → W (n + 1) a1 a2 a3 a4) (a1 : A1) (a2 : A2) (a3 : A3) (a4 : A4) (h : I a1 a2 a3 a4) : ∃ n, W n a1 a2 a3 a4 :=
  loop_m (σ := A1 × A2 × A3 × A4) (fun n s => W n s.1 s.2.1 s.2.2.1 s.2.2.2) (fun s => I s.1 s.2.1 s.2.2.1 s.2.2.2) (fun s => μ s.1 s.2.1 s.2.2.1 s.2.2.2) (fun n s hI hk => hs n s.1 s.2.1 s.2.2.1 s.2.2.2 hI (fun b1 b2 b3 b4 h9 hm => hk (b1, b2, b3, b4) h9 hm)) (a1, a2, a3, a4) h
theorem lp5 {A1 A2 A3 A4 A5 : Type} (W : Nat → A1 → A2 → A3 → A4 → A5 → Prop) (I : A1 → A2 → A3 → A4 → A5 → Prop) (μ : A1 → A2 → A3 → A4 → A5 → Nat) (hs : ∀ (n : Nat) (a1 : A1) (a2 : A2) (a3 : A3) (a4 : A4) (a5 : A5), I a1 a2 a3 a4 a5 → (∀ (b1 : A1) (b2 : A2) (b3 : A3) (b4 : A4) (b5 : A5), I b1 b2 b3 b4 b5 → μ b1 b2 b3 b4 b5 < μ a1 a2 a3 a4 a5 → W n b1 b2 b3 b4 b5) → W (n + 1) a1 a2 a3 a4 a5) (a1 : A1) (a2 : A2) (a3 : A3) (a4 : A4) (a5 : A5) (h : I a1 a2 a3 a4 a5) : ∃ n, W n a1 a2 a3 a4 a5 :=
  loop_m (σ := A1 × A2 × A3 × A4 × A5) (fun n s => W n s.1 s.2.1 s.2.2.1 s.2.2.2.1 s.2.2.2.2) (fun s => I s.1 s.2.1 s.2.2.1 s.2.2.2.1 s.2.2.2.2) (fun s => μ s.1 s.2.1 s.2.2.1 s.2.2.2.1 s.2.2.2.2) (fun n s hI hk => hs n s.1 s.2.1 s.2.2.1 s.2.2.2.1 s.2.2.2.2 hI (fun b1 b2 b3 b4 b5 h9 hm => hk (b1, b2, b3, b4, b5) h9 hm)) (a1, a2, a3, a4, a5) h
theorem lp6 {A1 A2 A3 A4 A5 A6 : Type} (W : Nat → A1 → A2 → A3 → A4 → A5 → A6 → Prop) (I : A1 → A2 → A3 → A4 → A5 → A6 → Prop) (μ : A1 → A2 → A3 → A4 → A5 → A6 → Nat) (hs : ∀ (n : Nat) (a1 : A1) (a2 : A2) (a3 : A3) (a4 : A4) (a5 : A5) (a6 : A6), I a1 a2 a3 a4 a5 a6 → (∀ (b1 : A1) (b2 : A2) (b3 : A3) (b4 : A4) (b5 : A5) (b6 : A6), I b1 b2 b3 b4 b5 b6 → μ b1 b2 b3 b4 b5 b6 < μ a1 a2 a3 a4 a5 a6 → W n b1 b2 b3 b4 b5 b6) → W (n + 1) a1 a2 a3 a4 a5 a6) (a1 : A1) (a2 : A2) (a3 : A3) (a4 : A4) (a5 : A5) (a6 : A6) (h : I a1 a2 a3 a4 a5 a6) : ∃ n, W n a1 a2 a3 a4 a5 a6 :=
  loop_m (σ := A1 × A2 × A3 × A4 × A5 × A6) (fun n s => W n s.1 s.2.1 s.2.2.1 s.2.2.2.1 s.2.2.2.2.1 s.2.2.2.2.2) (fun s => I s.1 s.2.1 s.2.2.1 s.2.2.2.1 s.2.2.2.2.1 s.2.2.2.2.2) (fun s => μ s.1 s.2.1 s.2.2.1 s.2.2.2.1 s.2.2.2.2.1 s.2.2.2.2.2) (fun n s hI hk => hs n s.1 s.2.1 s.2.2.1 s.2.2.2.1 s.2.2.2.2.1 s.2.2.2.2.2 hI (fun b1 b2 b3 b4 b5 b6 h9 hm => hk (b1, b2, b3, b4, b5, b6) h9 hm)) (a1, a2, a3, a4, a5, a6) h
theorem lp7 {A1 A2 A3 A4 A5 A6 A7 : Type} (W : Nat → A1 → A2 → A3 → A4 → A5 → A6 → A7 → Prop) (I : A1 → A2 → A3 → A4 → A5 → A6 → A7 → Prop) (μ : A1 → A2 → A3 → A4 → A5 → A6 → A7 → Nat) (hs : ∀ (n : Nat) (a1 : A1) (a2 : A2) (a3 : A3) (a4 : A4) (a5 : A5) (a6 : A6) (a7 : A7), I a1 a2 a3 a4 a5 a6 a7 → (∀ (b1 : A1) (b2 : A2) (b3 : A3) (b4 : A4) (b5 : A5) (b6 : A6) (b7 : A7), I b1 b2 b3 b4 b5 b6 b7 → μ b1 b2 b3 b4 b5 b6 b7 < μ a1 a2 a3 a4 a5 a6 a7 → W n b1 b2 b3 b4 b5 b6 b7) → W (n + 1) a1 a2 a3 a4 a5 a6 a7) (a1 : A1) (a2 : A2) (a3 : A3) (a4 : A4) (a5 : A5) (a6 : A6) (a7 : A7) (h : I a1 a2 a3 a4 a5 a6 a7) : ∃ n, W n a1 a2 a3 a4 a5 a6 a7 :=
  loop_m (σ := A1 × A2 × A3 × A4 × A5 × A6 × A7) (fun n s => W n s.1 s.2.1 s.2.2.1 s.2.2.2.1 s.2.2.2.2.1 s.2.2.2.2.2.1 s.2.2.2.2.2.2) (fun s => I s.1 s.2.1 s.2.2.1 s.2.2.2.1 s.2.2.2.2.1 s.2.2.2.2.2.1 s.2.2.2.2.2.2) (fun s => μ s.1 s.2.1 s.2.2.1 s.2.2.2.1 s.2.2.2.2.1 s.2.2.2.2.2.1 s.2.2.2.2.2.2) (fun n s hI hk => hs n s.1 s.2.1 s.2.2.1 s.2.2.2.1 s.2.2.2.2.1 s.2.2.2.2.2.1 s.2.2.2.2.2.2 hI (fun b1 b2 b3 b4 b5 b6 b7 h9 hm => hk (b1, b2, b3, b4, b5, b6, b7) h9 hm)) (a1, a2, a3, a4, a5, a6, a7) h
theorem lp8 {A1 A2 A3 A4 A5 A6 A7 A8 : Type} (W : Nat → A1 → A2 → A3 → A4 → A5 → A6 → A7 → A8 → Prop) (I : A1 → A2 → A3 → A4 → A5 → A6 → A7 → A8 → Prop) (μ : A1 → A2 → A3 → A4 → A5 → A6 → A7 → A8 → Nat) (hs : ∀ (n : Nat) (a1 : A1) (a2 : A2) (a3 : A3) (a4 : A4) (a5 : A5) (a6 : A6) (a7 : A7) (a8 : A8), I a1 a2 a3 a4 a5 a6 a7 a8 → (∀ (b1 : A1) (b2 : A2) (b3 : A3) (b4 : A4) (b5 : A5) (b6 : A6) (b7 : A7) (b8 : A8), I b1 b2 b3 b4 b5 b6 b7 b8 → μ b1 b2 b3 b4 b5 b6 b7 b8 < μ a1 a2 a3 a4 a5 a6 a7 a8 → W n b1 b2 b3 b4 b5 b6 b7 b8) → W (n + 1) a1 a2 a3 a4 a5 a6 a7 a8) (a1 : A1) (a2 : A2) (a3 : A3) (a4 : A4) (a5 : A5) (a6 : A6) (a7 : A7) (a8 : A8) (h : I a1 a2 a3 a4 a5 a6 a7 a8) : ∃ n, W n a1 a2 a3 a4 a5 a6 a7 a8 :=
  loop_m (σ := A1 × A2 × A3 × A4 × A5 × A6 × A7 × A8) (fun n s => W n s.1 s.2.1 s.2.2.1 s.2.2.2.1 s.2.2.2.2.1 s.2.2.2.2.2.1 s.2.2.2.2.2.2.1 s.2.2.2.2.2.2.2) (fun s => I s.1 s.2.1 s.2.2.1 s.2.2.2.1 s.2.2.2.2.1 s.2.2.2.2.2.1 s.2.2.2.2.2.2.1 s.2.2.2.2.2.2.2) (fun s => μ s.1 s.2.1 s.2.2.1 s.2.2.2.1 s.2.2.2.2.1 s.2.2.2.2.2.1 s.2.2.2.2.2.2.1 s.2.2.2.2.2.2.2) (fun n s hI hk => hs n s.1 s.2.1 s.2.2.1 s.2.2.2.1 s.2.2.2.2.1 s.2.2.2.2.2.1 s.2.2.2.2.2.2.1 s.2.2.2.2.2.2.2 hI (fun b1 b2 b3 b4 b5 b6 b7 b8 h9 hm => hk (b1, b2, b3, b4, b5, b6, b7, b8) h9 hm)) (a1, a2, a3, a4, a5, a6, a7, a8) h
theorem lp9 {A1 A2 A3 A4 A5 A6 A7 A8 A9 : Type} (W : Nat → A1 → A2 → A3 → A4 → A5 → A6 → A7 → A8 → A9 → Prop) (I : A1 → A2 → A3 → A4 → A5 → A6 → A7 → A8 → A9 → Prop) (μ : A1 → A2 → A3 → A4 → A5 → A6 → A7 → A8 → A9 → Nat) (hs : ∀ (n : Nat) (a1 : A1) (a2 : A2) (a3 : A3) (a4 : A4) (a5 : A5) (a6 : A6) (a7 : A7) (a8 : A8) (a9 : A9), I a1 a2 a3 a4 a5 a6 a7 a8 a9 → (∀ (b1 : A1) (b2 : A2) (b3 : A3) (b4 : A4) (b5 : A5) (b6 : A6) (b7 : A7) (b8 : A8) (b9 : A9), I b1 b2 b3 b4 b5 b6 b7 b8 b9 → μ b1 b2 b3 b4 b5 b6 b7 b8 b9 < μ a1 a2 a3 a4 a5 a6 a7 a8 a9 → W n b1 b2 b3 b4 b5 b6 b7 b8 b9) → W (n + 1) a1 a2 a3 a4 a5 a6 a7 a8 a9) (a1 : A1) (a2 : A2) (a3 : A3) (a4 : A4) (a5 : A5) (a6 : A6) (a7 : A7) (a8 : A8) (a9 : A9) (h : I a1 a2 a3 a4 a5 a6 a7 a8 a9) : ∃ n, W n a1 a2 a3 a4 a5 a6 a7 a8 a9 :=
  loop_m (σ := A1 × A2 × A3 × A4 × A5 × A6 × A7 × A8 × A9) (fun n s => W n s.1 s.2.1 s.2.2.1 s.2.2.2.1 s.2.2.2.2.1 s.2.2.2.2.2.1 s.2.2.2.2.2.2.1 s.2.2.2.2.2.2.2.1 s.2.2.2.2.2.2.2.2) (fun s => I s.1 s.2.1 s.2.2.1 s.2.2.2.1 s.2.2.2.2.1 s.2.2.2.2.2.1 s.2.2.2.2.2.2.1 s.2.2.2.2.2.2.2.1 s.2.2.2.2.2.2.2.2) (fun s => μ s.1 s.2.1 s.2.2.1 s.2.2.2.1 s.2.2.2.2.1 s.2.2.2.2.2.1 s.2.2.2.2.2.2.1 s.2.2.2.2.2.2.2.1 s.2.2.2.2.2.2.2.2) (fun n s hI hk => hs n s.1 s.2.1 s.2.2.1 s.2.2.2.1 s.2.2.2.2.1 s.2.2.2.2.2.1 s.2.2.2.2.2.2.1 s.2.2.2.2.2.2.2.1 s.2.2.2.2.2.2.2.2 hI (fun b1 b2 b3 b4 b5 b6 b7 b8 b9 h9 hm => hk (b1, b2, b3, b4, b5, b6, b7, b8, b9) h9 hm)) (a1, a2, a3, a4, a5, a6, a7, a8, a9) h
theorem lp10 {A1 A2 A3 A4 A5 A6 A7 A8 A9 A10 : Type} (W : Nat → A1 → A2 → A3 → A4 → A5 → A6 → A7 → A8 → A9 → A10 → Prop) (I : A1 → A2 → A3 → A4 → A5 → A6 → A7 → A8 → A9 → A10 → Prop) (μ : A1 → A2 → A3 → A4 → A5 → A6 → A7 → A8 → A9 → A10 → Nat) (hs : ∀ (n : Nat) (a1 : A1) (a2 : A2) (a3 : A3) (a4 : A4) (a5 : A5) (a6 : A6) (a7 : A7) (a8 : A8) (a9 : A9) (a10 : A10), I a1 a2 a3 a4 a5 a6 a7 a8 a9 a10 → (∀ (b1 : A1) (b2 : A2) (b3 : A3) (b4 : A4) (b5 : A5) (b6 : A6) (b7 : A7) (b8 : A8) (b9 : A9) (b10 : A10), I b1 b2 b3 b4 b5 b6 b7 b8 b9 b10 → μ b1 b2 b3 b4 b5 b6 b7 b8 b9 b10 < μ a1 a2 a3 a4 a5 a6 a7 a8 a9 a10 → W n b1 b2 b3 b4 b5 b6 b7 b8 b9 b10) → W (n + 1) a1 a2 a3 a4 a5 a6 a7 a8 a9 a10) (a1 : A1) (a2 : A2) (a3 : A3) (a4 : A4) (a5 : A5) (a6 : A6) (a7 : A7) (a8 : A8) (a9 : A9) (a10 : A10) (h : I a1 a2 a3 a4 a5 a6 a7 a8 a9 a10) : ∃ n, W n a1 a2 a3 a4 a5 a6 a7 a8 a9 a10 :=
  loop_m (σ := A1 × A2 × A3 × A4 × A5 × A6 × A7 × A8 × A9 × A10) (fun n s => W n s.1 s.2.1 s.2.2.1 s.2.2.2.1 s.2.2.2.2.1 s.2.2.2.2.2.1 s.2.2.2.2.2.2.1 s.2.2.2.2.2.2.2.1 s.2.2.2.2.2.2.2.2.1 s.2.2.2.2.2.2.2.2.2) (fun s => I s.1 s.2.1 s.2.2.1 s.2.2.2.1 s.2.2.2.2.1 s.2.2.2.2.2.1 s.2.2.2.2.2.2.1 s.2.2.2.2.2.2.2.1 s.2.2.2.2.2.2.2.2.1 s.2.2.2.2.2.2.2.2.2) (fun s => μ s.1 s.2.1 s.2.2.1 s.2.2.2.1 s.2.2.2.2.1 s.2.2.2.2.2.1 s.2.2.2.2.2.2.1 s.2.2.2.2.2.2.2.1 s.2.2.2.2.2.2.2.2.1 s.2.2.2.2.2.2.2.2.2) (fun n s hI hk => hs n s.1 s.2.1 s.2.2.1 s.2.2.2.1 s.2.2.2.2.1 s.2.2.2.2.2.1 s.2.2.2.2.2.2.1 s.2.2.2.2.2.2.2.1 s.2.2.2.2.2.2.2.2.1 s.2.2.2.2.2.2.2.2.2 hI (fun b1 b2 b3 b4 b5 b6 b7 b8 b9 b10 h9 hm => hk (b1, b2, b3, b4, b5, b6, b7, b8, b9, b10) h9 hm)) (a1, a2, a3, a4, a5, a6, a7, a8, a9, a10) h
theorem lp11 {A1 A2 A3 A4 A5 A6 A7 A8 A9 A10 A11 : Type} (W : Nat → A1 → A2 → A3 → A4 → A5 → A6 → A7 → A8 → A9 → A10 → A11 → Prop) (I : A1 → A2 → A3 → A4 → A5 → A6 → A7 → A8 → A9 → A10 → A11 → Prop) (μ : A1 → A2 → A3 → A4 → A5 → A6 → A7 → A8 → A9 → A10 → A11 → Nat) (hs : ∀ (n : Nat) (a1 : A1) (a2 : A2) (a3 : A3) (a4 : A4) (a5 : A5) (a6 : A6) (a7 : A7) (a8 : A8) (a9 : A9) (a10 : A10) (a11 : A11), I a1 a2 a3 a4 a5 a6 a7 a8 a9 a10 a11 → (∀ (b1 : A1) (b2 : A2) (b3 : A3) (b4 : A4) (b5 : A5) (b6 : A6) (b7 : A7) (b8 : A8) (b9 : A9) (b10 : A10) (b11 : A11), I b1 b2 b3 b4 b5 b6 b7 b8 b9 b10 b11 → μ b1 b2 b3 b4 b5 b6 b7 b8 b9 b10 b11 < μ a1 a2 a3 a4 a5 a6 a7 a8 a9 a10 a11 → W n b1 b2 b3 b4 b5 b6 b7 b8 b9 b10 b11) → W (n + 1) a1 a2 a3 a4 a5 a6 a7 a8 a9 a10 a11) (a1 : A1) (a2 : A2) (a3 : A3) (a4 : A4) (a5 : A5) (a6 : A6) (a7 : A7) (a8 : A8) (a9 : A9) (a10 : A10) (a11 : A11) (h : I a1 a2 a3 a4 a5 a6 a7 a8 a9 a10 a11) : ∃ n, W n a1 a2 a3 a4 a5 a6 a7 a8 a9 a10 a11 :=
  loop_m (σ := A1 × A2 × A3 × A4 × A5 × A6 × A7 × A8 × A9 × A10 × A11) (fun n s => W n s.1 s.2.1 s.2.2.1 s.2.2.2.1 s.2.2.2.2.1 s.2.2.2.2.2.1 s.2.2.2.2.2.2.1 s.2.2.2.2.2.2.2.1 s.2.2.2.2.2.2.2.2.1 s.2.2.2.2.2.2.2.2.2.1 s.2.2.2.2.2.2.2.2.2.2) (fun s => I s.1 s.2.1 s.2.2.1 s.2.2.2.1 s.2.2.2.2.1 s.2.2.2.2.2.1 s.2.2.2.2.2.2.1 s.2.2.2.2.2.2.2.1 s.2.2.2.2.2.2.2.2.1 s.2.2.2.2.2.2.2.2.2.1 s.2.2.2.2.2.2.2.2.2.2) (fun s => μ s.1 s.2.1 s.2.2.1 s.2.2.2.1 s.2.2.2.2.1 s.2.2.2.2.2.1 s.2.2.2.2.2.2.1 s.2.2.2.2.2.2.2.1 s.2.2.2.2.2.2.2.2.1 s.2.2.2.2.2.2.2.2.2.1 s.2.2.2.2.2.2.2.2.2.2) (fun n s hI hk => hs n s.1 s.2.1 s.2.2.1 s.2.2.2.1 s.2.2.2.2.1 s.2.2.2.2.2.1 s.2.2.2.2.2.2.1 s.2.2.2.2.2.2.2.1 s.2.2.2.2.2.2.2.2.1 s.2.2.2.2.2.2.2.2.2.1 s.2.2.2.2.2.2.2.2.2.2 hI (fun b1 b2 b3 b4 b5 b6 b7 b8 b9 b10 b11 h9 hm => hk (b1, b2, b3, b4, b5, b6, b7, b8, b9, b10, b11) h9 hm)) (a1, a2, a3, a4, a5, a6, a7, a8, a9, a10, a11) h
theorem lp12 {A1 A2 A3 A4 A5 A6 A7 A8 A9 A10 A11 A12 : Type} (W : Nat → A1 → A2 → A3 → A4 → A5 → A6 → A7 → A8 → A9 → A10 → A11 → A12 → Prop) (I : A1 → A2 → A3 → A4 → A5 → A6 → A7 → A8 → A9 → A10 → A11 → A12 → Prop) (μ : A1 → A2 → A3 → A4 → A5 → A6 → A7 → A8 → A9 → A10 → A11 → A12 → Nat) (hs : ∀ (n : Nat) (a1 : A1) (a2 : A2) (a3 : A3) (a4 : A4) (a5 : A5) (a6 : A6) (a7 : A7) (a8 : A8) (a9 : A9) (a10 : A10) (a11 : A11) (a12 : A12), I a1 a2 a3 a4 a5 a6 a7 a8 a9 a10 a11 a12 → (∀ (b1 : A1) (b2 : A2) (b3 : A3) (b4 : A4) (b5 : A5) (b6 : A6) (b7 : A7) (b8 : A8) (b9 : A9) (b10 : A10) (b11 : A11) (b12 : A12), I b1 b2 b3 b4 b5 b6 b7 b8 b9 b10 b11 b12 → μ b1 b2 b3 b4 b5 b6 b7 b8 b9 b10 b11 b12 < μ a1 a2 a3 a4 a5 a6 a7 a8 a9 a10 a11 a12 → W n b1 b2 b3 b4 b5 b6 b7 b8 b9 b10 b11 b12) → W (n + 1) a1 a2 a3 a4 a5 a6 a7 a8 a9 a10 a11 a12) (a1 : A1) (a2 : A2) (a3 : A3) (a4 : A4) (a5 : A5) (a6 : A6) (a7 : A7) (a8 : A8) (a9 : A9) (a10 : A10) (a11 : A11) (a12 : A12) (h : I a1 a2 a3 a4 a5 a6 a7 a8 a9 a10 a11 a12) : ∃ n, W n a1 a2 a3 a4 a5 a6 a7 a8 a9 a10 a11 a12 :=
  loop_m (σ := A1 × A2 × A3 × A4 × A5 × A6 × A7 × A8 × A9 × A10 × A11 × A12) (fun n s => W n s.1 s.2.1 s.2.2.1 s.2.2.2.1 s.2.2.2.2.1 s.2.2.2.2.2.1 s.2.2.2.2.2.2.1 s.2.2.2.2.2.2.2.1 s.2.2.2.2.2.2.2.2.1 s.2.2.2.2.2.2.2.2.2.1 s.2.2.2.2.2.2.2.2.2.2.1 s.2.2.2.2.2.2.2.2.2.2.2) (fun s => I s.1 s.2.1 s.2.2.1 s.2.2.2.1 s.2.2.2.2.1 s.2.2.2.2.2.1 s.2.2.2.2.2.2.1 s.2.2.2.2.2.2.2.1 s.2.2.2.2.2.2.2.2.1 s.2.2.2.2.2.2.2.2.2.1 s.2.2.2.2.2.2.2.2.2.2.1 s.2.2.2.2.2.2.2.2.2.2.2) (fun s => μ s.1 s.2.1 s.2.2.1 s.2.2.2.1 s.2.2.2.2.1 s.2.2.2.2.2.1 s.2.2.2.2.2.2.1 s.2.2.2.2.2.2.2.1 s.2.2.2.2.2.2.2.2.1 s.2.2.2.2.2.2.2.2.2.1 s.2.2.2.2.2.2.2.2.2.2.1 s.2.2.2.2.2.2.2.2.2.2.2) (fun n s hI hk => hs n s.1 s.2.1 s.2.2.1 s.2.2.2.1 s.2.2.2.2.1 s.2.2.2.2.2.1 s.2.2.2.2.2.2.1 s.2.2.2.2.2.2.2.1 s.2.2.2.2.2.2.2.2.1 s.2.2.2.2.2.2.2.2.2.1 s.2.2.2.2.2.2.2.2.2.2.1 s.2.2.2.2.2.2.2.2.2.2.2 hI (fun b1 b2 b3 b4 b5 b6 b7 b8 b9 b10 b11 b12 h9 hm => hk (b1, b2, b3, b4, b5, b6, b7, b8, b9, b10, b11, b12) h9 hm)) (a1, a2, a3, a4, a5, a6, a7, a8, a9, a10, a11, a12) h
theorem lp13 {A1 A2 A3 A4 A5 A6 A7 A8 A9 A10 A11 A12 A13 : Type} (W : Nat → A1 → A2 → A3 → A4 → A5 → A6 → A7 → A8 → A9 → A10 → A11 → A12 → A13 → Prop) (I : A1 → A2 → A3 → A4 → A5 → A6 → A7 → A8 → A9 → A10 → A11 → A12 → A13 → Prop) (μ : A1 → A2 → A3 → A4 → A5 → A6 → A7 → A8 → A9 → A10 → A11 → A12 → A13 → Nat) (hs : ∀ (n : Nat) (a1 : A1) (a2 : A2) (a3 : A3) (a4 : A4) (a5 : A5) (a6 : A6) (a7 : A7) (a8 : A8) (a9 : A9) (a10 : A10) (a11 : A11) (a12 : A12) (a13 : A13), I a1 a2 a3 a4 a5 a6 a7 a8 a9 a10 a11 a12 a13 → (∀ (b1 : A1) (b2 : A2) (b3 : A3) (b4 : A4) (b5 : A5) (b6 : A6) (b7 : A7) (b8 : A8) (b9 : A9) (b10 : A10) (b11 : A11) (b12 : A12) (b13 : A13), I b1 b2 b3 b4 b5 b6 b7 b8 b9 b10 b11 b12 b13 → μ b1 b2 b3 b4 b5 b6 b7 b8 b9 b10 b11 b12 b13 < μ a1 a2 a3 a4 a5 a6 a7 a8 a9 a10 a11 a12 a13 → W n b1 b2 b3 b4 b5 b6 b7 b8 b9 b10 b11 b12 b13) → W (n + 1) a1 a2 a3 a4 a5 a6 a7 a8 a9 a10 a11 a12 a13) (a1 : A1) (a2 : A2) (a3 : A3) (a4 : A4) (a5 : A5) (a6 : A6) (a7 : A7) (a8 : A8) (a9 : A9) (a10 : A10) (a11 : A11) (a12 : A12) (a13 : A13) (h : I a1 a2 a3 a4 a5 a6 a7 a8 a9 a10 a11 a12 a13) : ∃ n, W n a1 a2 a3 a4 a5 a6 a7 a8 a9 a10 a11 a12 a13 :=
  loop_m (σ := A1 × A2 × A3 × A4 × A5 × A6 × A7 × A8 × A9 × A10 × A11 × A12 × A13) (fun n s => W n s.1 s.2.1 s.2.2.1 s.2.2.2.1 s.2.2.2.2.1 s.2.2.2.2.2.1 s.2.2.2.2.2.2.1 s.2.2.2.2.2.2.2.1 s.2.2.2.2.2.2.2.2.1 s.2.2.2.2.2.2.2.2.2.1 s.2.2.2.2.2.2.2.2.2.2.1 s.2.2.2.2.2.2.2.2.2.2.2.1 s.2.2.2.2.2.2.2.2.2.2.2.2) (fun s => I s.1 s.2.1 s.2.2.1 s.2.2.2.1 s.2.2.2.2.1 s.2.2.2.2.2.1 s.2.2.2.2.2.2.1 s.2.2.2.2.2.2.2.1 s.2.2.2.2.2.2.2.2.1 s.2.2.2.2.2.2.2.2.2.1 s.2.2.2.2.2.2.2.2.2.2.1 s.2.2.2.2.2.2.2.2.2.2.2.1 s.2.2.2.2.2.2.2.2.2.2.2.2) (fun s => μ s.1 s.2.1 s.2.2.1 s.2.2.2.1 s.2.2.2.2.1 s.2.2.2.2.2.1 s.2.2.2.2.2.2.1 s.2.2.2.2.2.2.2.1 s.2.2.2.2.2.2.2.2.1 s.2.2.2.2.2.2.2.2.2.1 s.2.2.2.2.2.2.2.2.2.2.1 s.2.2.2.2.2.2.2.2.2.2.2.1 s.2.2.2.2.2.2.2.2.2.2.2.2) (fun n s hI hk => hs n s.1 s.2.1 s.2.2.1 s.2.2.2.1 s.2.2.2.2.1 s.2.2.2.2.2.1 s.2.2.2.2.2.2.1 s.2.2.2.2.2.2.2.1 s.2.2.2.2.2.2.2.2.1 s.2.2.2.2.2.2.2.2.2.1 s.2.2.2.2.2.2.2.2.2.2.1 s.2.2.2.2.2.2.2.2.2.2.2.1 s.2.2.2.2.2.2.2.2.2.2.2.2 hI (fun b1 b2 b3 b4 b5 b6 b7 b8 b9 b10 b11 b12 b13 h9 hm => hk (b1, b2, b3, b4, b5, b6, b7, b8, b9, b10, b11, b12, b13) h9 hm)) (a1, a2, a3, a4, a5, a6, a7, a8, a9, a10, a11, a12, a13) h
theorem lp14 {A1 A2 A3 A4 A5 A6 A7 A8 A9 A10 A11 A12 A13 A14 : Type} (W : Nat → A1 → A2 → A3 → A4 → A5 → A6 → A7 → A8 → A9 → A10 → A11 → A12 → A13 → A14 → Prop) (I : A1 → A2 → A3 → A4 → A5 → A6 → A7 → A8 → A9 → A10 → A11 → A12 → A13 → A14 → Prop) (μ : A1 → A2 → A3 → A4 → A5 → A6 → A7 → A8 → A9 → A10 → A11 → A12 → A13 → A14 → Nat) (hs : ∀ (n : Nat) (a1 : A1) (a2 : A2) (a3 : A3) (a4 : A4) (a5 : A5) (a6 : A6) (a7 : A7) (a8 : A8) (a9 : A9) (a10 : A10) (a11 : A11) (a12 : A12) (a13 : A13) (a14 : A14), I a1 a2 a3 a4 a5 a6 a7 a8 a9 a10 a11 a12 a13 a14 → (∀ (b1 : A1) (b2 : A2) (b3 : A3) (b4 : A4) (b5 : A5) (b6 : A6) (b7 : A7) (b8 : A8) (b9 : A9) (b10 : A10) (b11 : A11) (b12 : A12) (b13 : A13) (b14 : A14), I b1 b2 b3 b4 b5 b6 b7 b8 b9 b10 b11 b12 b13 b14 → μ b1 b2 b3 b4 b5 b6 b7 b8 b9 b10 b11 b12 b13 b14 < μ a1 a2 a3 a4 a5 a6 a7 a8 a9 a10 a11 a12 a13 a14 → W n b1 b2 b3 b4 b5 b6 b7 b8 b9 b10 b11 b12 b13 b14) → W (n + 1) a1 a2 a3 a4 a5 a6 a7 a8 a9 a10 a11 a12 a13 a14) (a1 : A1) (a2 : A2) (a3 : A3) (a4 : A4) (a5 : A5) (a6 : A6) (a7 : A7) (a8 : A8) (a9 : A9) (a10 : A10) (a11 : A11) (a12 : A12) (a13 : A13) (a14 : A14) (h : I a1 a2 a3 a4 a5 a6 a7 a8 a9 a10 a11 a12 a13 a14) : ∃ n, W n a1 a2 a3 a4 a5 a6 a7 a8 a9 a10 a11 a12 a13 a14 :=
  loop_m (σ := A1 × A2 × A3 × A4 × A5 × A6 × A7 × A8 × A9 × A10 × A11 × A12 × A13 × A14) (fun n s => W n s.1 s.2.1 s.2.2.1 s.2.2.2.1 s.2.2.2.2.1 s.2.2.2.2.2.1 s.2.2.2.2.2.2.1 s.2.2.2.2.2.2.2.1 s.2.2.2.2.2.2.2.2.1 s.2.2.2.2.2.2.2.2.2.1 s.2.2.2.2.2.2.2.2.2.2.1 s.2.2.2.2.2.2.2.2.2.2.2.1 s.2.2.2.2.2.2.2.2.2.2.2.2.1 s.2.2.2.2.2.2.2.2.2.2.2.2.2) (fun s => I s.1 s.2.1 s.2.2.1 s.2.2.2.1 s.2.2.2.2.1 s.2.2.2.2.2.1 s.2.2.2.2.2.2.1 s.2.2.2.2.2.2.2.1 s.2.2.2.2.2.2.2.2.1 s.2.2.2.2.2.2.2.2.2.1 s.2.2.2.2.2.2.2.2.2.2.1 s.2.2.2.2.2.2.2.2.2.2.2.1 s.2.2.2.2.2.2.2.2.2.2.2.2.1 s.2.2.2.2.2.2.2.2.2.2.2.2.2) (fun s => μ s.1 s.2.1 s.2.2.1 s.2.2.2.1 s.2.2.2.2.1 s.2.2.2.2.2.1 s.2.2.2.2.2.2.1 s.2.2.2.2.2.2.2.1 s.2.2.2.2.2.2.2.2.1 s.2.2.2.2.2.2.2.2.2.1 s.2.2.2.2.2.2.2.2.2.2.1 s.2.2.2.2.2.2.2.2.2.2.2.1 s.2.2.2.2.2.2.2.2.2.2.2.2.1 s.2.2.2.2.2.2.2.2.2.2.2.2.2) (fun n s hI hk => hs n s.1 s.2.1 s.2.2.1 s.2.2.2.1 s.2.2.2.2.1 s.2.2.2.2.2.1 s.2.2.2.2.2.2.1 s.2.2.2.2.2.2.2.1 s.2.2.2.2.2.2.2.2.1 s.2.2.2.2.2.2.2.2.2.1 s.2.2.2.2.2.2.2.2.2.2.1 s.2.2.2.2.2.2.2.2.2.2.2.1 s.2.2.2.2.2.2.2.2.2.2.2.2.1 s.2.2.2.2.2.2.2.2.2.2.2.2.2 hI (fun b1 b2 b3 b4 b5 b6 b7 b8 b9 b10 b11 b12 b13 b14 h9 hm => hk (b1, b2, b3, b4, b5, b6, b7, b8, b9, b10, b11, b12, b13, b14) h9 hm)) (a1, a2, a3, a4, a5, a6, a7, a8, a9, a10, a11, a12, a13, a14) h
theorem lp15 {A1 A2 A3 A4 A5 A6 A7 A8 A9 A10 A11 A12 A13 A14 A15 : Type} (W : Nat → A1 → A2 → A3 → A4 → A5 → A6 → A7 → A8 → A9 → A10 → A11 → A12 → A13 → A14 → A15 → Prop) (I : A1 → A2 → A3 → A4 → A5 → A6 → A7 → A8 → A9 → A10 → A11 → A12 → A13 → A14 → A15 → Prop) (μ : A1 → A2 → A3 → A4 → A5 → A6 → A7 → A8 → A9 → A10 → A11 → A12 → A13 → A14 → A15 → Nat) (hs : ∀ (n : Nat) (a1 : A1) (a2 : A2) (a3 : A3) (a4 : A4) (a5 : A5) (a6 : A6) (a7 : A7) (a8 : A8) (a9 : A9) (a10 : A10) (a11 : A11) (a12 : A12) (a13 : A13) (a14 : A14) (a15 : A15), I a1 a2 a3 a4 a5 a6 a7 a8 a9 a10 a11 a12 a13 a14 a15 → (∀ (b1 : A1) (b2 : A2) (b3 : A3) (b4 : A4) (b5 : A5) (b6 : A6) (b7 : A7) (b8 : A8) (b9 : A9) (b10 : A10) (b11 : A11) (b12 : A12) (b13 : A13) (b14 : A14) (b15 : A15), I b1 b2 b3 b4 b5 b6 b7 b8 b9 b10 b11 b12 b13 b14 b15 → μ b1 b2 b3 b4 b5 b6 b7 b8 b9 b10 b11 b12 b13 b14 b15 < μ a1 a2 a3 a4 a5 a6 a7 a8 a9 a10 a11 a12 a13 a14 a15 → W n b1 b2 b3 b4 b5 b6 b7 b8 b9 b10 b11 b12 b13 b14 b15) → W (n + 1) a1 a2 a3 a4 a5 a6 a7 a8 a9 a10 a11 a12 a13 a14 a15) (a1 : A1) (a2 : A2) (a3 : A3) (a4 : A4) (a5 : A5) (a6 : A6) (a7 : A7) (a8 : A8) (a9 : A9) (a10 : A10) (a11 : A11) (a12 : A12) (a13 : A13) (a14 : A14) (a15 : A15) (h : I a1 a2 a3 a4 a5 a6 a7 a8 a9 a10 a11 a12 a13 a14 a15) : ∃ n, W n a1 a2 a3 a4 a5 a6 a7 a8 a9 a10 a11 a12 a13 a14 a15 :=
  loop_m (σ := A1 × A2 × A3 × A4 × A5 × A6 × A7 × A8 × A9 × A10 × A11 × A12 × A13 × A14 × A15) (fun n s => W n s.1 s.2.1 s.2.2.1 s.2.2.2.1 s.2.2.2.2.1 s.2.2.2.2.2.1 s.2.2.2.2.2.2.1 s.2.2.2.2.2.2.2.1 s.2.2.2.2.2.2.2.2.1 s.2.2.2.2.2.2.2.2.2.1 s.2.2.2.2.2.2.2.2.2.2.1 s.2.2.2.2.2.2.2.2.2.2.2.1 s.2.2.2.2.2.2.2.2.2.2.2.2.1 s.2.2.2.2.2.2.2.2.2.2.2.2.2.1 s.2.2.2.2.2.2.2.2.2.2.2.2.2.2) (fun s => I s.1 s.2.1 s.2.2.1 s.2.2.2.1 s.2.2.2.2.1 s.2.2.2.2.2.1 s.2.2.2.2.2.2.1 s.2.2.2.2.2.2.2.1 s.2.2.2.2.2.2.2.2.1 s.2.2.2.2.2.2.2.2.2.1 s.2.2.2.2.2.2.2.2.2.2.1 s.2.2.2.2.2.2.2.2.2.2.2.1 s.2.2.2.2.2.2.2.2.2.2.2.2.1 s.2.2.2.2.2.2.2.2.2.2.2.2.2.1 s.2.2.2.2.2.2.2.2.2.2.2.2.2.2) (fun s => μ s.1 s.2.1 s.2.2.1 s.2.2.2.1 s.2.2.2.2.1 s.2.2.2.2.2.1 s.2.2.2.2.2.2.1 s.2.2.2.2.2.2.2.1 s.2.2.2.2.2.2.2.2.1 s.2.2.2.2.2.2.2.2.2.1 s.2.2.2.2.2.2.2.2.2.2.1 s.2.2.2.2.2.2.2.2.2.2.2.1 s.2.2.2.2.2.2.2.2.2.2.2.2.1 s.2.2.2.2.2.2.2.2.2.2.2.2.2.1 s.2.2.2.2.2.2.2.2.2.2.2.2.2.2) (fun n s hI hk => hs n s.1 s.2.1 s.2.2.1 s.2.2.2.1 s.2.2.2.2.1 s.2.2.2.2.2.1 s.2.2.2.2.2.2.1 s.2.2.2.2.2.2.2.1 s.2.2.2.2.2.2.2.2.1 s.2.2.2.2.2.2.2.2.2.1 s.2.2.2.2.2.2.2.2.2.2.1 s.2.2.2.2.2.2.2.2.2.2.2.1 s.2.2.2.2.2.2.2.2.2.2.2.2.1 s.2.2.2.2.2.2.2.2.2.2.2.2.2.1 s.2.2.2.2.2.2.2.2.2.2.2.2.2.2 hI (fun b1 b2 b3 b4 b5 b6 b7 b8 b9 b10 b11 b12 b13 b14 b15 h9 hm => hk (b1, b2, b3, b4, b5, b6, b7, b8, b9, b10, b11, b12, b13, b14, b15) h9 hm)) (a1, a2, a3, a4, a5, a6, a7, a8, a9, a10, a11, a12, a13, a14, a15) h
theorem lp16 {A1 A2 A3 A4 A5 A6 A7 A8 A9 A10 A11 A12 A13 A14 A15 A16 : Type} (W : Nat → A1 → A2 → A3 → A4 → A5 → A6 → A7 → A8 → A9 → A10 → A11 → A12 → A13 → A14 → A15 → A16 → Prop) (I : A1 → A2 → A3 → A4 → A5 → A6 → A7 → A8 → A9 → A10 → A11 → A12 → A13 → A14 → A15 → A16 → Prop) (μ : A1 → A2 → A3 → A4 → A5 → A6 → A7 → A8 → A9 → A10 → A11 → A12 → A13 → A14 → A15 → A16 → Nat) (hs : ∀ (n : Nat) (a1 : A1) (a2 : A2) (a3 : A3) (a4 : A4) (a5 : A5) (a6 : A6) (a7 : A7) (a8 : A8) (a9 : A9) (a10 : A10) (a11 : A11) (a12 : A12) (a13 : A13) (a14 : A14) (a15 : A15) (a16 : A16), I a1 a2 a3 a4 a5 a6 a7 a8 a9 a10 a11 a12 a13 a14 a15 a16 → (∀ (b1 : A1) (b2 : A2) (b3 : A3) (b4 : A4) (b5 : A5) (b6 : A6) (b7 : A7) (b8 : A8) (b9 : A9) (b10 : A10) (b11 : A11) (b12 : A12) (b13 : A13) (b14 : A14) (b15 : A15) (b16 : A16), I b1 b2 b3 b4 b5 b6 b7 b8 b9 b10 b11 b12 b13 b14 b15 b16 → μ b1 b2 b3 b4 b5 b6 b7 b8 b9 b10 b11 b12 b13 b14 b15 b16 < μ a1 a2 a3 a4 a5 a6 a7 a8 a9 a10 a11 a12 a13 a14 a15 a16 → W n b1 b2 b3 b4 b5 b6 b7 b8 b9 b10 b11 b12 b13 b14 b15 b16) → W (n + 1) a1 a2 a3 a4 a5 a6 a7 a8 a9 a10 a11 a12 a13 a14 a15 a16) (a1 : A1) (a2 : A2) (a3 : A3) (a4 : A4) (a5 : A5) (a6 : A6) (a7 : A7) (a8 : A8) (a9 : A9) (a10 : A10) (a11 : A11) (a12 : A12) (a13 : A13) (a14 : A14) (a15 : A15) (a16 : A16) (h : I a1 a2 a3 a4 a5 a6 a7 a8 a9 a10 a11 a12 a13 a14 a15 a16) : ∃ n, W n a1 a2 a3 a4 a5 a6 a7 a8 a9 a10 a11 a12 a13 a14 a15 a16 :=
  loop_m (σ := A1 × A2 × A3 × A4 × A5 × A6 × A7 × A8 × A9 × A10 × A11 × A12 × A13 × A14 × A15 × A16) (fun n s => W n s.1 s.2.1 s.2.2.1 s.2.2.2.1 s.2.2.2.2.1 s.2.2.2.2.2.1 s.2.2.2.2.2.2.1 s.2.2.2.2.2.2.2.1 s.2.2.2.2.2.2.2.2.1 s.2.2.2.2.2.2.2.2.2.1 s.2.2.2.2.2.2.2.2.2.2.1 s.2.2.2.2.2.2.2.2.2.2.2.1 s.2.2.2.2.2.2.2.2.2.2.2.2.1 s.2.2.2.2.2.2.2.2.2.2.2.2.2.1 s.2.2.2.2.2.2.2.2.2.2.2.2.2.2.1 s.2.2.2.2.2.2.2.2.2.2.2.2.2.2.2) (fun s => I s.1 s.2.1 s.2.2.1 s.2.2.2.1 s.2.2.2.2.1 s.2.2.2.2.2.1 s.2.2.2.2.2.2.1 s.2.2.2.2.2.2.2.1 s.2.2.2.2.2.2.2.2.1 s.2.2.2.2.2.2.2.2.2.1 s.2.2.2.2.2.2.2.2.2.2.1 s.2.2.2.2.2.2.2.2.2.2.2.1 s.2.2.2.2.2.2.2.2.2.2.2.2.1 s.2.2.2.2.2.2.2.2.2.2.2.2.2.1 s.2.2.2.2.2.2.2.2.2.2.2.2.2.2.1 s.2.2.2.2.2.2.2.2.2.2.2.2.2.2.2) (fun s => μ s.1 s.2.1 s.2.2.1 s.2.2.2.1 s.2.2.2.2.1 s.2.2.2.2.2.1 s.2.2.2.2.2.2.1 s.2.2.2.2.2.2.2.1 s.2.2.2.2.2.2.2.2.1 s.2.2.2.2.2.2.2.2.2.1 s.2.2.2.2.2.2.2.2.2.2.1 s.2.2.2.2.2.2.2.2.2.2.2.1 s.2.2.2.2.2.2.2.2.2.2.2.2.1 s.2.2.2.2.2.2.2.2.2.2.2.2.2.1 s.2.2.2.2.2.2.2.2.2.2.2.2.2.2.1 s.2.2.2.2.2.2.2.2.2.2.2.2.2.2.2) (fun n s hI hk => hs n s.1 s.2.1 s.2.2.1 s.2.2.2.1 s.2.2.2.2.1 s.2.2.2.2.2.1 s.2.2.2.2.2.2.1 s.2.2.2.2.2.2.2.1 s.2.2.2.2.2.2.2.2.1 s.2.2.2.2.2.2.2.2.2.1 s.2.2.2.2.2.2.2.2.2.2.1 s.2.2.2.2.2.2.2.2.2.2.2.1 s.2.2.2.2.2.2.2.2.2.2.2.2.1 s.2.2.2.2.2.2.2.2.2.2.2.2.2.1 s.2.2.2.2.2.2.2.2.2.2.2.2.2.2.1 s.2.2.2.2.2.2.2.2.2.2.2.2.2.2.2 hI (fun b1 b2 b3 b4 b5 b6 b7 b8 b9 b10 b11 b12 b13 b14 b15 b16 h9 hm => hk (b1, b2, b3, b4, b5, b6, b7, b8, b9, b10, b11, b12, b13, b14, b15, b16) h9 hm)) (a1, a2, a3, a4, a5, a6, a7, a8, a9, a10, a11, a12, a13, a14, a15, a16) h
theorem pk_least (P : Nat → Prop) (h : ∃ k, P k) : ∃ k, P k ∧ ∀ j, j < k → ¬ P j := by
  obtain ⟨k, hk⟩ := h
  induction k using Nat.strongRecOn with
  | ind k ih =>
    by_cases e : ∃ j, j < k ∧ P j
    · obtain ⟨j, hj, pj⟩ := e
      exact ih j hj pj
    · exact ⟨k, hk, fun j hj pj => e ⟨j, hj, pj⟩⟩
theorem rp1 {ρ A1 : Type} (W : Nat → (ρ → Prop) → A1 → Prop) (ok : A1 → Prop) (μ : A1 → Nat) (val : A1 → ρ)
    (hs : ∀ (d : Nat) (post : ρ → Prop) (a1 : A1), ok a1 → post (val a1) → (∀ (post' : ρ → Prop) (b1 : A1), ok b1 → μ b1 < μ a1 → post' (val b1) → W d post' b1) → W (d + 1) post a1) :
    ∀ (d : Nat) (post : ρ → Prop) (a1 : A1), ok a1 → μ a1 < d → post (val a1) → W d post a1 := by
  intro d
  induction d with
  | zero => intro post a1 _ h; omega
  | succ d ih =>
    intro post a1 ho hm hp
    exact hs d post a1 ho hp (fun post' b1 ho' hm' hp' => ih post' b1 ho' (by omega) hp')
theorem rp2 {ρ A1 A2 : Type} (W : Nat → (ρ → Prop) → A1 → A2 → Prop) (ok : A1 → A2 → Prop) (μ : A1 → A2 → Nat) (val : A1 → A2 → ρ)
    (hs : ∀ (d : Nat) (post : ρ → Prop) (a1 : A1) (a2 : A2), ok a1 a2 → post (val a1 a2) → (∀ (post' : ρ → Prop) (b1 : A1) (b2 : A2), ok b1 b2 → μ b1 b2 < μ a1 a2 → post' (val b1 b2) → W d post' b1 b2) → W (d + 1) post a1 a2) :
    ∀ (d : Nat) (post : ρ → Prop) (a1 : A1) (a2 : A2), ok a1 a2 → μ a1 a2 < d → post (val a1 a2) → W d post a1 a2 := by
  intro d
  induction d with
  | zero => intro post a1 a2 _ h; omega
  | succ d ih =>
    intro post a1 a2 ho hm hp
    exact hs d post a1 a2 ho hp (fun post' b1 b2 ho' hm' hp' => ih post' b1 b2 ho' (by omega) hp')
theorem rp3 {ρ A1 A2 A3 : Type} (W : Nat → (ρ → Prop) → A1 → A2 → A3 → Prop) (ok : A1 → A2 → A3 → Prop) (μ : A1 → A2 → A3 → Nat) (val : A1 → A2 → A3 → ρ)
    (hs : ∀ (d : Nat) (post : ρ → Prop) (a1 : A1) (a2 : A2) (a3 : A3), ok a1 a2 a3 → post (val a1 a2 a3) → (∀ (post' : ρ → Prop) (b1 : A1) (b2 : A2) (b3 : A3), ok b1 b2 b3 → μ b1 b2 b3 < μ a1 a2 a3 → post' (val b1 b2 b3) → W d post' b1 b2 b3) → W (d + 1) post a1 a2 a3) :
    ∀ (d : Nat) (post : ρ → Prop) (a1 : A1) (a2 : A2) (a3 : A3), ok a1 a2 a3 → μ a1 a2 a3 < d → post (val a1 a2 a3) → W d post a1 a2 a3 := by
  intro d
  induction d with
  | zero => intro post a1 a2 a3 _ h; omega
  | succ d ih =>
    intro post a1 a2 a3 ho hm hp
    exact hs d post a1 a2 a3 ho hp (fun post' b1 b2 b3 ho' hm' hp' => ih post' b1 b2 b3 ho' (by omega) hp')
theorem rp4 {ρ A1 A2 A3 A4 : Type} (W : Nat → (ρ → Prop) → A1 → A2 → A3 → A4 → Prop) (ok : A1 → A2 → A3 → A4 → Prop) (μ : A1 → A2 → A3 → A4 → Nat) (val : A1 → A2 → A3 → A4 → ρ)
    (hs : ∀ (d : Nat) (post : ρ → Prop) (a1 : A1) (a2 : A2) (a3 : A3) (a4 : A4), ok a1 a2 a3 a4 → post (val a1 a2 a3 a4) → (∀ (post' : ρ → Prop) (b1 : A1) (b2 : A2) (b3 : A3) (b4 : A4), ok b1 b2 b3 b4 → μ b1 b2 b3 b4 < μ a1 a2 a3 a4 → post' (val b1 b2 b3 b4) → W d post' b1 b2 b3 b4) → W (d + 1) post a1 a2 a3 a4) :
    ∀ (d : Nat) (post : ρ → Prop) (a1 : A1) (a2 : A2) (a3 : A3) (a4 : A4), ok a1 a2 a3 a4 → μ a1 a2 a3 a4 < d → post (val a1 a2 a3 a4) → W d post a1 a2 a3 a4 := by
  intro d
  induction d with
  | zero => intro post a1 a2 a3 a4 _ h; omega
  | succ d ih =>
    intro post a1 a2 a3 a4 ho hm hp
    exact hs d post a1 a2 a3 a4 ho hp (fun post' b1 b2 b3 b4 ho' hm' hp' => ih post' b1 b2 b3 b4 ho' (by omega) hp')
theorem rp5 {ρ A1 A2 A3 A4 A5 : Type} (W : Nat → (ρ → Prop) → A1 → A2 → A3 → A4 → A5 → Prop) (ok : A1 → A2 → A3 → A4 → A5 → Prop) (μ : A1 → A2 → A3 → A4 → A5 → Nat) (val : A1 → A2 → A3 → A4 → A5 → ρ)
    (hs : ∀ (d : Nat) (post : ρ → Prop) (a1 : A1) (a2 : A2) (a3 : A3) (a4 : A4) (a5 : A5), ok a1 a2 a3 a4 a5 → post (val a1 a2 a3 a4 a5) → (∀ (post' : ρ → Prop) (b1 : A1) (b2 : A2) (b3 : A3) (b4 : A4) (b5 : A5), ok b1 b2 b3 b4 b5 → μ b1 b2 b3 b4 b5 < μ a1 a2 a3 a4 a5 → post' (val b1 b2 b3 b4 b5) → W d post' b1 b2 b3 b4 b5) → W (d + 1) post a1 a2 a3 a4 a5) :
    ∀ (d : Nat) (post : ρ → Prop) (a1 : A1) (a2 : A2) (a3 : A3) (a4 : A4) (a5 : A5), ok a1 a2 a3 a4 a5 → μ a1 a2 a3 a4 a5 < d → post (val a1 a2 a3 a4 a5) → W d post a1 a2 a3 a4 a5 := by
  intro d
  induction d with
  | zero => intro post a1 a2 a3 a4 a5 _ h; omega
  | succ d ih =>
    intro post a1 a2 a3 a4 a5 ho hm hp
    exact hs d post a1 a2 a3 a4 a5 ho hp (fun post' b1 b2 b3 b4 b5 ho' hm' hp' => ih post' b1 b2 b3 b4 b5 ho' (by omega) hp')
theorem rp6 {ρ A1 A2 A3 A4 A5 A6 : Type} (W : Nat → (ρ → Prop) → A1 → A2 → A3 → A4 → A5 → A6 → Prop) (ok : A1 → A2 → A3 → A4 → A5 → A6 → Prop) (μ : A1 → A2 → A3 → A4 → A5 → A6 → Nat) (val : A1 → A2 → A3 → A4 → A5 → A6 → ρ)
    (hs : ∀ (d : Nat) (post : ρ → Prop) (a1 : A1) (a2 : A2) (a3 : A3) (a4 : A4) (a5 : A5) (a6 : A6), ok a1 a2 a3 a4 a5 a6 → post (val a1 a2 a3 a4 a5 a6) → (∀ (post' : ρ → Prop) (b1 : A1) (b2 : A2) (b3 : A3) (b4 : A4) (b5 : A5) (b6 : A6), ok b1 b2 b3 b4 b5 b6 → μ b1 b2 b3 b4 b5 b6 < μ a1 a2 a3 a4 a5 a6 → post' (val b1 b2 b3 b4 b5 b6) → W d post' b1 b2 b3 b4 b5 b6) → W (d + 1) post a1 a2 a3 a4 a5 a6) :
    ∀ (d : Nat) (post : ρ → Prop) (a1 : A1) (a2 : A2) (a3 : A3) (a4 : A4) (a5 : A5) (a6 : A6), ok a1 a2 a3 a4 a5 a6 → μ a1 a2 a3 a4 a5 a6 < d → post (val a1 a2 a3 a4 a5 a6) → W d post a1 a2 a3 a4 a5 a6 := by
  intro d
  induction d with
  | zero => intro post a1 a2 a3 a4 a5 a6 _ h; omega
  | succ d ih =>
    intro post a1 a2 a3 a4 a5 a6 ho hm hp
    exact hs d post a1 a2 a3 a4 a5 a6 ho hp (fun post' b1 b2 b3 b4 b5 b6 ho' hm' hp' => ih post' b1 b2 b3 b4 b5 b6 ho' (by omega) hp')
theorem rec_p {σ ρ : Type} (W : Nat → (ρ → Prop) → σ → Prop) (ok : σ → Prop) (μ : σ → Nat) (val : σ → ρ)
    (hs : ∀ d s post, ok s → post (val s) → (∀ s' post', ok s' → μ s' < μ s → post' (val s') → W d post' s') → W (d + 1) post s) :
    ∀ d s post, ok s → μ s < d → post (val s) → W d post s := by
  intro d
  induction d with
  | zero => intro s post _ h; omega
  | succ d ih =>
    intro s post ho hm hp
    exact hs d s post ho hp (fun s' post' ho' hm' hp' => ih s' post' ho' (by omega) hp')
theorem rec_q {σ ρ : Type} (W : Nat → (ρ → Prop) → σ → Prop) (ok : σ → Prop) (μ : σ → Nat) (Q : σ → ρ → Prop)
    (hs : ∀ d s post, ok s → (∀ r, Q s r → post r) → (∀ s' post', ok s' → μ s' < μ s → (∀ r, Q s' r → post' r) → W d post' s') → W (d + 1) post s) :
    ∀ d s post, ok s → μ s < d → (∀ r, Q s r → post r) → W d post s := by
  intro d
  induction d with
  | zero => intro s post _ h; omega
  | succ d ih =>
    intro s post ho hm hp
    exact hs d s post ho hp (fun s' post' ho' hm' hp' => ih s' post' ho' (by omega) hp')
def bx_sum (f : Nat → Int32) : Nat → Int32
  | 0 => 0
  | n + 1 => bx_sum f n + f n
theorem ek_u {A : Prop} {B : Nat → Prop} {k N : Nat} (hk : k < N) (h : B k) : (some k = none → A) ∧ (∀ y : Nat, some k = some y → (y < N ∧ B y)) :=
  ⟨fun z => absurd z (Option.some_ne_none k), fun _ e => (by cases e; exact ⟨hk, h⟩)⟩
theorem ek_nu {A : Prop} {B : Nat → Prop} (h : A) : ((none : Option Nat) = none → A) ∧ (∀ y : Nat, (none : Option Nat) = some y → B y) :=
  ⟨fun _ => h, fun _ e => (by cases e)⟩
theorem ek_if {c d A B : Prop} (e : c ↔ d) (f : d → A) (g : ¬ d → B) : (c → A) ∧ (¬ c → B) :=
  ⟨fun z => f (e.mp z), fun z => g (fun y => z (e.mpr y))⟩
theorem ek_v {α : Sort _} {P : α → Prop} {a b : α} (e : a = b) (h : P b) : P a := e ▸ h
theorem co_some {x : Option Nat} {A : Prop} {B : Nat → Prop} (i : Nat) (h : B i) (hx : x = some i := by rfl) : (x = none → A) ∧ (∀ y : Nat, x = some y → B y) := by
  subst hx
  exact ⟨fun e => (nomatch e), fun y e => Option.some.inj e ▸ h⟩
theorem co_none {x : Option Nat} {A : Prop} {B : Nat → Prop} (h : A) (hx : x = none := by rfl) : (x = none → A) ∧ (∀ y : Nat, x = some y → B y) := by
  subst hx
  exact ⟨fun _ => h, fun y e => (nomatch e)⟩
theorem co_any {x : Option Nat} {A : Prop} {B : Nat → Prop} (hn : x = none → A) (hs : ∀ i : Nat, x = some i → B i) : (x = none → A) ∧ (∀ y : Nat, x = some y → B y) := ⟨hn, hs⟩
theorem co_2 {P : Nat → Prop} (h0 : P 0) (h1 : P 1) {i : Nat} (hi : i < 2) : P i :=
  match i, hi with
  | 0, _ => h0
  | 1, _ => h1
theorem co_3 {P : Nat → Prop} (h0 : P 0) (h1 : P 1) (h2 : P 2) {i : Nat} (hi : i < 3) : P i :=
  match i, hi with
  | 0, _ => h0
  | 1, _ => h1
  | 2, _ => h2
theorem co_4 {P : Nat → Prop} (h0 : P 0) (h1 : P 1) (h2 : P 2) (h3 : P 3) {i : Nat} (hi : i < 4) : P i :=
  match i, hi with
  | 0, _ => h0
  | 1, _ => h1
  | 2, _ => h2
  | 3, _ => h3
theorem co_dec {N : Nat} {P : Nat → Prop} [DecidablePred P] (h : (List.range N).all (fun i => decide (P i)) = true) {i : Nat} (hi : i < N) : P i := by
  have := List.all_eq_true.mp h i (List.mem_range.mpr hi)
  exact of_decide_eq_true this
theorem co_tab {α : Type} {l : List α} {d : α} {P : α → Prop} (h : ∀ a, a ∈ l → P a) {i : Nat} (hi : i < l.length) : P (l.getD i d) := by
  rw [List.getD_eq_getElem?_getD, List.getElem?_eq_getElem hi]
  exact h _ (List.getElem_mem hi)
theorem pk_mu {x : Int32} {L : Nat} (h0 : ¬ x < 0) (h : ¬ nI L ≤ x) (hL : L < 2 ^ 31) : ∃ j : Nat, j < L ∧ x = nI j ∧ x + 1 = nI (j + 1) ∧ x.toNatClampNeg = j ∧ L - (x + 1).toNatClampNeg < L - x.toNatClampNeg := by
  obtain ⟨j, hj, rfl⟩ := nI_of h0
  have hl : j < L := Nat.not_le.mp fun q => h (nI_le q hj)
  refine ⟨j, hl, rfl, nI_1 j, nI_clamp hj, ?_⟩
  rw [nI_1, nI_clamp (by omega), nI_clamp hj]
  omega
theorem op_s {α : Type} {r : Option α} {A : Prop} {B : α → Prop} {y : α} (h : r = some y) (b : B y) : (r = none → A) ∧ ∀ z, r = some z → B z :=
  ⟨fun e => (by rw [h] at e; cases e), fun z e => (by rw [h] at e; cases e; exact b)⟩
def l_holds {α : Type} (a : Nat → Option Nat) (LP : List Nat) (p : Nat → α) (c : Nat) (b : Nat → α) : Prop :=
  ∀ j, j < c → ∃ y, a j = some y ∧ y ∈ LP ∧ p y = b j
theorem l_holds_0 {α : Type} {a : Nat → Option Nat} {LP : List Nat} {p b : Nat → α} : l_holds a LP p 0 b := fun j h => absurd h (Nat.not_lt_zero j)
theorem l_in_new (LP : List Nat) (q : Nat) : q ∈ LP ++ [q] := List.mem_append.mpr (Or.inr (List.mem_singleton.mpr rfl))
def l_sum (b : Nat → Int32) : Nat → Int32
  | 0 => 0
  | k + 1 => l_sum b k + b k
theorem sb_shr0 (x : Int32) : x >>> ((0 : Int32) &&& 31) = x := by
  rw [show ((0 : Int32) &&& 31) = 0 by decide]
  simp
theorem sb_shl0 (x : Int32) : x <<< ((0 : Int32) &&& 31) = x := by
  rw [show ((0 : Int32) &&& 31) = 0 by decide]
  simp
theorem sb_cl0 : (0 : Int32).toNatClampNeg = 0 := by decide
theorem sb_m1 {p : Nat} (h : 0 < p) : nI p + (-1) = nI (p - 1) := by
  obtain ⟨q, rfl⟩ : ∃ q, p = q + 1 := ⟨p - 1, by omega⟩
  exact pk_m1 q
def sb_b (c : Nat) : Int32 := (nI c).toInt8.toInt32
theorem sb_byte : ∀ c, c < 256 → sb_b c &&& 255 = nI c ∧ ((nI c).toUInt32 % 65536).toInt32 = nI c ∧ nI c ≤ 255 := by decide +kernel
def sb_Fit (a : Nat → Int32) : Prop := ∀ j, fits .byte (.int (a j)) = true
def sb_Lat (t : Nat → Nat) (n : Nat) (a : Nat → Int32) : Prop := ∀ j, j < n → t j < 256 ∧ a j = sb_b (t j)
theorem sb_fitB (c : Nat) : fits .byte (.int (sb_b c)) = true := pk_fb _
theorem sb_fit0 : sb_Fit (fun _ => 0) := fun _ => by
  show fits .byte (.int 0) = true
  decide
theorem sb_fitU {a : Nat → Int32} {k : Nat} {x : Int32} (h : sb_Fit a) (hx : fits .byte (.int x) = true) : sb_Fit (upd a k x) := by
  intro j
  by_cases e : j = k
  · subst e
    rw [pk_us]
    exact hx
  · rw [pk_un e]
    exact h j
def sb_cat (t : Nat → Nat) (n : Nat) (s : Nat → Nat) : Nat → Nat := fun j => if j < n then t j else s (j - n)
theorem sb_cat_lo {t s : Nat → Nat} {n j : Nat} (h : j < n) : sb_cat t n s j = t j := if_pos h
theorem sb_cat_hi {t s : Nat → Nat} {n j : Nat} : sb_cat t n s (n + j) = s j := by
  show (if n + j < n then t (n + j) else s (n + j - n)) = s j
  rw [if_neg (by omega), Nat.add_sub_cancel_left]
theorem sb_latPut {t s : Nat → Nat} {n w : Nat} {a a' : Nat → Int32} (h : sb_Lat t n a) (hk : ∀ j, j < n → a' j = a j) (hs : ∀ i, i < w → s i < 256 ∧ a' (n + i) = sb_b (s i)) : sb_Lat (sb_cat t n s) (n + w) a' := by
  intro j hj
  by_cases e : j < n
  · rw [sb_cat_lo e, hk j e]
    exact h j e
  · obtain ⟨i, rfl⟩ : ∃ i, j = n + i := ⟨j - n, by omega⟩
    rw [sb_cat_hi]
    exact hs i (by omega)
theorem sb_latKeep {t : Nat → Nat} {n : Nat} {a a' : Nat → Int32} (h : sb_Lat t n a) (hk : ∀ j, j < n → a' j = a j) : sb_Lat t n a' := fun j hj => by
  rw [hk j hj]
  exact h j hj
def sb_cap (q m : Nat) : Nat := if q ≤ m then m else if 2 * m + 2 < q then q else 2 * m + 2
def sb_Room (q m mc ms : Nat) : Prop := q ≤ m ∨ (1 ≤ mc ∧ sb_cap q m ≤ ms ∧ sb_cap q m ≤ 65536)
theorem sb_cap_ge (q m : Nat) : q ≤ sb_cap q m := by
  unfold sb_cap
  split
  · omega
  · split <;> omega
theorem sb_cap_gem (q m : Nat) : m ≤ sb_cap q m := by
  unfold sb_cap
  split
  · omega
  · split <;> omega
theorem sb_cap_le {q m mc ms : Nat} (hm : m ≤ 65536) (hr : sb_Room q m mc ms) : sb_cap q m ≤ 65536 := by
  rcases hr with h | h
  · rw [sb_cap, if_pos h]
    exact hm
  · exact h.2.2
theorem sb_at {P : Int32 → Prop} {x y : Int32} (e : x = y) (h : P y) : P x := e ▸ h
def sb_dg (w : Nat) : Nat := if w < 10 then 1 else if w < 100 then 2 else if w < 1000 then 3 else if w < 10000 then 4 else if w < 100000 then 5 else if w < 1000000 then 6 else if w < 10000000 then 7 else if w < 100000000 then 8 else if w < 1000000000 then 9 else 10
def sb_dec (v : Nat) : Nat → Nat := fun i => 48 + v / 10 ^ (sb_dg v - 1 - i) % 10
theorem sb_dg_in (w : Nat) : 1 ≤ sb_dg w ∧ sb_dg w ≤ 10 := by
  unfold sb_dg
  constructor <;> (repeat' split) <;> omega
theorem sb_dg100 {w : Nat} (h : 100 ≤ w) (hw : w < 2 ^ 31) : sb_dg w = sb_dg (w / 100) + 2 := by
  rw [sb_dg, sb_dg, if_neg (show ¬ w < 10 by omega), if_neg (show ¬ w < 100 by omega)]
  by_cases h3 : w < 1000
  · rw [if_pos h3, if_pos (show w / 100 < 10 by omega)]
  rw [if_neg h3, if_neg (show ¬ w / 100 < 10 by omega)]
  by_cases h4 : w < 10000
  · rw [if_pos h4, if_pos (show w / 100 < 100 by omega)]
  rw [if_neg h4, if_neg (show ¬ w / 100 < 100 by omega)]
  by_cases h5 : w < 100000
  · rw [if_pos h5, if_pos (show w / 100 < 1000 by omega)]
  rw [if_neg h5, if_neg (show ¬ w / 100 < 1000 by omega)]
  by_cases h6 : w < 1000000
  · rw [if_pos h6, if_pos (show w / 100 < 10000 by omega)]
  rw [if_neg h6, if_neg (show ¬ w / 100 < 10000 by omega)]
  by_cases h7 : w < 10000000
  · rw [if_pos h7, if_pos (show w / 100 < 100000 by omega)]
  rw [if_neg h7, if_neg (show ¬ w / 100 < 100000 by omega)]
  by_cases h8 : w < 100000000
  · rw [if_pos h8, if_pos (show w / 100 < 1000000 by omega)]
  rw [if_neg h8, if_neg (show ¬ w / 100 < 1000000 by omega)]
  by_cases h9 : w < 1000000000
  · rw [if_pos h9, if_pos (show w / 100 < 10000000 by omega)]
  rw [if_neg h9, if_neg (show ¬ w / 100 < 10000000 by omega)]
  rw [if_pos (show w / 100 < 100000000 by omega)]
theorem sb_negT {w : Nat} (h : w < 2 ^ 31) : (-nI w).toInt = -(w : Int) := by
  rw [Int32.toInt_neg, nI_toInt h]
  exact Int.bmod_eq_of_le (by omega) (by omega)
theorem sb_nle {a b : Nat} (ha : a < 2 ^ 31) (hb : b < 2 ^ 31) : -nI a ≤ -nI b ↔ b ≤ a := by
  rw [Int32.le_iff_toInt_le, sb_negT ha, sb_negT hb]
  omega
theorem sb_nlt {a b : Nat} (ha : a < 2 ^ 31) (hb : b < 2 ^ 31) : -nI a < -nI b ↔ b < a := by
  rw [Int32.lt_iff_toInt_lt, sb_negT ha, sb_negT hb]
  omega
theorem sb_cmp {A B : Prop} {x : Int32} (v c : Nat) (f : c ≤ v → A) (g : v < c → B) (hv : v < 2 ^ 31) (hx : x = -nI c := by rfl) (hc : c < 2 ^ 31 := by omega) : (-nI v ≤ x → A) ∧ (¬ -nI v ≤ x → B) := by
  subst hx
  rw [sb_nle hv hc]
  exact ⟨f, fun z => g (by omega)⟩
theorem sb_ndiv {w : Nat} (hw : w < 2 ^ 31) : (-nI w) / 100 = -nI (w / 100) := by
  apply Int32.toInt_inj.mp
  have h100 : (100 : Int32).toInt = 100 := by decide
  rw [Int32.toInt_div, sb_negT hw, h100, sb_negT (by omega), Int.neg_tdiv, Int.tdiv_eq_ediv_of_nonneg (by omega), Int.bmod_eq_of_le (by omega) (by omega)]
  omega
theorem sb_nrem {w : Nat} (hw : w < 2 ^ 31) : (-nI (w / 100)) * 100 - (-nI w) = nI (w % 100) := by
  have h := pk_rem (a := w) (d := 100) hw (by decide) (by decide)
  rw [pk_div hw (by decide) (by decide)] at h
  rw [← h]
  show (-nI (w / 100)) * nI 100 - (-nI w) = nI w - nI (w / 100) * nI 100
  rw [Int32.neg_mul, Int32.sub_neg, Int32.add_comm, ← Int32.sub_eq_add_neg]
end
section
/-! entries: parents, depths, relative codes (pure) -/
def ea_dF (P : Nat → Nat) : Nat → Nat → Nat
  | 0, _ => 0
  | k + 1, e => if e = 0 then 0 else ea_dF P k (P e) + 1
theorem ea_dF_0 (P : Nat → Nat) (k : Nat) : ea_dF P k 0 = 0 := by cases k <;> simp [ea_dF]
theorem ea_dF_s {P : Nat → Nat} {k e : Nat} (h : e ≠ 0) : ea_dF P (k + 1) e = ea_dF P k (P e) + 1 := by simp [ea_dF, h]
theorem ea_dF_up (P : Nat → Nat) : ∀ k e, ea_dF P k e < k → ea_dF P (k + 1) e = ea_dF P k e := by
  intro k
  induction k with
  | zero => intro e h; omega
  | succ k ih =>
    intro e h
    by_cases z : e = 0
    · subst z; rw [ea_dF_0, ea_dF_0]
    · rw [ea_dF_s z] at h
      rw [ea_dF_s z, ea_dF_s z, ih (P e) (by omega)]
def ea_d (P : Nat → Nat) (e : Nat) : Nat := ea_dF P 6 e
def ea_rF (P M : Nat → Nat) : Nat → Nat → Nat → Option Nat
  | 0, _, _ => none
  | k + 1, x, e => if e = x then some 0 else if e = 0 then none else (ea_rF P M k x (P e)).map (fun p => 9 * p + M e + 1)
theorem ea_rF_x {P M : Nat → Nat} {k x : Nat} : ea_rF P M (k + 1) x x = some 0 := by simp [ea_rF]
theorem ea_rF_0 {P M : Nat → Nat} {k x : Nat} (h : x ≠ 0) : ea_rF P M (k + 1) x 0 = none := by
  have h' : ¬ (0 = x) := fun z => h z.symm
  simp [ea_rF, h']
theorem ea_rF_s {P M : Nat → Nat} {k x e : Nat} (h : e ≠ x) (h0 : e ≠ 0) : ea_rF P M (k + 1) x e = (ea_rF P M k x (P e)).map (fun p => 9 * p + M e + 1) := by
  simp [ea_rF, h, h0]
theorem ea_rF_up (P M : Nat → Nat) (x : Nat) : ∀ k e, ea_dF P k e < k → ea_rF P M (k + 1) x e = ea_rF P M k x e := by
  intro k
  induction k with
  | zero => intro e h; omega
  | succ k ih =>
    intro e h
    by_cases hx : e = x
    · subst hx; rw [ea_rF_x, ea_rF_x]
    · by_cases z : e = 0
      · subst z
        have hx' : x ≠ 0 := fun q => hx q.symm
        rw [ea_rF_0 hx', ea_rF_0 hx']
      · rw [ea_dF_s z] at h
        rw [ea_rF_s hx z, ea_rF_s hx z, ih (P e) (by omega)]
def ea_r (P M : Nat → Nat) (x e : Nat) : Option Nat := ea_rF P M 6 x e
abbrev ea_U (P M : Nat → Nat) (x e : Nat) : Prop := (ea_r P M x e).isSome = true
def ea_c (P M : Nat → Nat) (e : Nat) : Nat := (ea_r P M 0 e).getD 0
/-- the entries form a tree of depth at most 5 -/
def ea_W (E : Nat → Prop) (P M : Nat → Nat) (D : Nat → Prop) : Prop :=
  E 0 ∧ D 0 ∧ (∀ e, E e → e < 24) ∧ (∀ e, E e → e ≠ 0 → E (P e) ∧ D (P e) ∧ M e < 8) ∧
  (∀ e e', E e → E e' → e ≠ 0 → e' ≠ 0 → P e = P e' → M e = M e' → e = e') ∧ (∀ e, E e → ea_dF P 6 e ≤ 5)
section
variable {E : Nat → Prop} {P M : Nat → Nat} {D : Nat → Prop}
theorem ea_lt (W : ea_W E P M D) {e : Nat} (h : E e) : e < 24 := W.2.2.1 e h
theorem ea_P (W : ea_W E P M D) {e : Nat} (h : E e) (h0 : e ≠ 0) : E (P e) := (W.2.2.2.1 e h h0).1
theorem ea_D (W : ea_W E P M D) {e : Nat} (h : E e) (h0 : e ≠ 0) : D (P e) := (W.2.2.2.1 e h h0).2.1
theorem ea_M (W : ea_W E P M D) {e : Nat} (h : E e) (h0 : e ≠ 0) : M e < 8 := (W.2.2.2.1 e h h0).2.2
theorem ea_u (W : ea_W E P M D) {e e' : Nat} (h : E e) (h' : E e') (h0 : e ≠ 0) (h0' : e' ≠ 0) (hp : P e = P e') (hm : M e = M e') : e = e' := W.2.2.2.2.1 e e' h h' h0 h0' hp hm
theorem ea_d5 (W : ea_W E P M D) {e : Nat} (h : E e) : ea_d P e ≤ 5 := W.2.2.2.2.2 e h
theorem ea_d_0 : ea_d P 0 = 0 := ea_dF_0 P 6
theorem ea_d_s (W : ea_W E P M D) {e : Nat} (he : E e) (h0 : e ≠ 0) : ea_d P e = ea_d P (P e) + 1 := by
  have a : ea_dF P 6 e = ea_dF P 5 (P e) + 1 := ea_dF_s (k := 5) h0
  have b : ea_dF P 6 e ≤ 5 := W.2.2.2.2.2 e he
  have c : ea_dF P 6 (P e) = ea_dF P 5 (P e) := ea_dF_up P 5 (P e) (by omega)
  unfold ea_d; omega
theorem ea_r_x {x : Nat} : ea_r P M x x = some 0 := ea_rF_x (k := 5)
theorem ea_r_0 {x : Nat} (h : x ≠ 0) : ea_r P M x 0 = none := ea_rF_0 (k := 5) h
theorem ea_r_s (W : ea_W E P M D) {x e : Nat} (he : E e) (h : e ≠ x) (h0 : e ≠ 0) : ea_r P M x e = (ea_r P M x (P e)).map (fun p => 9 * p + M e + 1) := by
  have a : ea_rF P M 6 x e = (ea_rF P M 5 x (P e)).map (fun p => 9 * p + M e + 1) := ea_rF_s (k := 5) h h0
  have a' : ea_dF P 6 e = ea_dF P 5 (P e) + 1 := ea_dF_s (k := 5) h0
  have b : ea_dF P 6 e ≤ 5 := W.2.2.2.2.2 e he
  have c : ea_rF P M 6 x (P e) = ea_rF P M 5 x (P e) := ea_rF_up P M x 5 (P e) (by omega)
  unfold ea_r; rw [a, c]
theorem ea_ind (W : ea_W E P M D) {Q : Nat → Prop} (h0 : Q 0) (hs : ∀ e, E e → e ≠ 0 → Q (P e) → Q e) : ∀ e, E e → Q e := by
  have key : ∀ k e, E e → ea_d P e = k → Q e := by
    intro k
    induction k with
    | zero =>
      intro e he hd
      by_cases z : e = 0
      · rw [z]; exact h0
      · have := ea_d_s W he z; omega
    | succ k ih =>
      intro e he hd
      by_cases z : e = 0
      · rw [z]; exact h0
      · exact hs e he z (ih (P e) (ea_P W he z) (by have := ea_d_s W he z; omega))
  exact fun e he => key _ e he rfl
theorem ea_inv (W : ea_W E P M D) {x e p : Nat} (he : E e) (h : ea_r P M x e = some p) : (e = x ∧ p = 0) ∨ (e ≠ x ∧ e ≠ 0 ∧ ∃ q, ea_r P M x (P e) = some q ∧ p = 9 * q + M e + 1) := by
  by_cases hx : e = x
  · subst hx
    rw [ea_r_x] at h
    exact Or.inl ⟨rfl, (Option.some.inj h).symm⟩
  · by_cases z : e = 0
    · subst z
      rw [ea_r_0 (fun q => hx q.symm)] at h
      exact absurd h (by simp)
    · rw [ea_r_s W he hx z] at h
      obtain ⟨q, hq, e2⟩ := Option.map_eq_some_iff.mp h
      exact Or.inr ⟨hx, z, q, hq, e2.symm⟩
theorem ea_r_c (W : ea_W E P M D) {x e q : Nat} (he : E e) (h : e ≠ x) (h0 : e ≠ 0) (hq : ea_r P M x (P e) = some q) : ea_r P M x e = some (9 * q + M e + 1) := by
  rw [ea_r_s W he h h0, hq]; rfl
theorem ea_inj (W : ea_W E P M D) (x : Nat) : ∀ e, E e → ∀ e' p, E e' → ea_r P M x e = some p → ea_r P M x e' = some p → e = e' := by
  refine ea_ind W ?_ ?_
  · intro e' p he' h h'
    rcases ea_inv W W.1 h with ⟨a, b⟩ | ⟨_, b, _⟩
    · rcases ea_inv W he' h' with ⟨a', _⟩ | ⟨_, _, q, _, hp⟩
      · rw [a, a']
      · omega
    · exact absurd rfl b
  · intro e he h0 ih e' p he' h h'
    rcases ea_inv W he h with ⟨a, b⟩ | ⟨_, _, q, hq, hp⟩
    · rcases ea_inv W he' h' with ⟨a', _⟩ | ⟨_, _, q', _, hp'⟩
      · rw [a, a']
      · omega
    · rcases ea_inv W he' h' with ⟨a', b'⟩ | ⟨_, h0', q', hq', hp'⟩
      · omega
      · have m1 := ea_M W he h0
        have m2 := ea_M W he' h0'
        have e1 : q = q' := by omega
        have e2 : M e = M e' := by omega
        subst e1
        exact ea_u W he he' h0 h0' (ih (P e') q (ea_P W he' h0') hq hq') e2
theorem ea_c_r (W : ea_W E P M D) : ∀ e, E e → ea_r P M 0 e = some (ea_c P M e) := by
  have key : ∀ e, E e → ∃ p, ea_r P M 0 e = some p := by
    refine ea_ind W ⟨0, ea_r_x⟩ ?_
    intro e he h0 ⟨q, hq⟩
    exact ⟨_, ea_r_c W he h0 h0 hq⟩
  intro e he
  obtain ⟨p, hp⟩ := key e he
  unfold ea_c; rw [hp]; rfl
theorem ea_c_0 : ea_c P M 0 = 0 := by unfold ea_c; rw [ea_r_x]; rfl
theorem ea_c_s (W : ea_W E P M D) {e : Nat} (he : E e) (h0 : e ≠ 0) : ea_c P M e = 9 * ea_c P M (P e) + M e + 1 := by
  have a := ea_c_r W e he
  have b := ea_r_c W he h0 h0 (ea_c_r W _ (ea_P W he h0))
  exact Option.some.inj (a.symm.trans b)
theorem ea_c_inj (W : ea_W E P M D) {e e' : Nat} (he : E e) (he' : E e') (h : ea_c P M e = ea_c P M e') : e = e' :=
  ea_inj W 0 e he e' (ea_c P M e) he' (ea_c_r W e he) (by rw [h]; exact ea_c_r W e' he')
theorem ea_bd (W : ea_W E P M D) (x : Nat) : ∀ e, E e → ∀ p, ea_r P M x e = some p → p < 9 ^ ea_d P e := by
  refine ea_ind W ?_ ?_
  · intro p h
    rcases ea_inv W W.1 h with ⟨_, b⟩ | ⟨_, b, _⟩
    · rw [b]; exact Nat.pow_pos (by omega)
    · exact absurd rfl b
  · intro e he h0 ih p h
    rcases ea_inv W he h with ⟨_, b⟩ | ⟨_, _, q, hq, hp⟩
    · rw [b]; exact Nat.pow_pos (by omega)
    · have := ih q hq
      have m := ea_M W he h0
      rw [ea_d_s W he h0, Nat.pow_succ]
      omega
theorem ea_bd5 (W : ea_W E P M D) {x e p : Nat} (he : E e) (h : ea_r P M x e = some p) : p < 59049 := by
  have a := ea_bd W x e he p h
  have b : 9 ^ ea_d P e ≤ 9 ^ 5 := Nat.pow_le_pow_right (by omega) (ea_d5 W he)
  have c : (9 : Nat) ^ 5 = 59049 := by decide
  omega
theorem ea_cbd (W : ea_W E P M D) {e : Nat} (he : E e) : ea_c P M e < 59049 := ea_bd5 W he (ea_c_r W e he)
theorem ea_dle (W : ea_W E P M D) (x : Nat) : ∀ e, E e → ∀ p, ea_r P M x e = some p → ea_d P x ≤ ea_d P e := by
  refine ea_ind W ?_ ?_
  · intro p h
    rcases ea_inv W W.1 h with ⟨a, _⟩ | ⟨_, b, _⟩
    · rw [← a]; exact Nat.le_refl _
    · exact absurd rfl b
  · intro e he h0 ih p h
    rcases ea_inv W he h with ⟨a, _⟩ | ⟨_, _, q, hq, hp⟩
    · rw [← a]; exact Nat.le_refl _
    · have := ih q hq
      have := ea_d_s W he h0
      omega
/-! under -/
theorem ea_U_some {x e p : Nat} (h : ea_r P M x e = some p) : ea_U P M x e := by unfold ea_U; rw [h]; rfl
theorem ea_U_ex {x e : Nat} (h : ea_U P M x e) : ∃ p, ea_r P M x e = some p := Option.isSome_iff_exists.mp h
theorem ea_U_no {x e : Nat} (h : ¬ ea_U P M x e) : ea_r P M x e = none := by
  cases z : ea_r P M x e with
  | none => rfl
  | some p => exact absurd (ea_U_some z) h
theorem ea_U_x {x : Nat} : ea_U P M x x := ea_U_some ea_r_x
theorem ea_U_s (W : ea_W E P M D) {x e : Nat} (he : E e) (h0 : e ≠ 0) (h : ea_U P M x (P e)) : ea_U P M x e := by
  by_cases hx : e = x
  · rw [hx]; exact ea_U_x
  · obtain ⟨q, hq⟩ := ea_U_ex h
    exact ea_U_some (ea_r_c W he hx h0 hq)
theorem ea_U_inv (W : ea_W E P M D) {x e : Nat} (he : E e) (h : ea_U P M x e) : e = x ∨ (e ≠ x ∧ e ≠ 0 ∧ ea_U P M x (P e)) := by
  obtain ⟨p, hp⟩ := ea_U_ex h
  rcases ea_inv W he hp with ⟨a, _⟩ | ⟨a, b, q, hq, _⟩
  · exact Or.inl a
  · exact Or.inr ⟨a, b, ea_U_some hq⟩
theorem ea_U_0 (W : ea_W E P M D) {e : Nat} (he : E e) : ea_U P M 0 e := ea_U_some (ea_c_r W e he)
theorem ea_U_d (W : ea_W E P M D) {x e : Nat} (he : E e) (h : ea_U P M x e) : ea_d P x ≤ ea_d P e := by
  obtain ⟨p, hp⟩ := ea_U_ex h
  exact ea_dle W x e he p hp
theorem ea_U_up (W : ea_W E P M D) {x : Nat} (hx : E x) (hx0 : x ≠ 0) : ∀ e, E e → ea_U P M x e → ea_U P M (P x) e := by
  refine ea_ind W ?_ ?_
  · intro h
    rcases ea_U_inv W W.1 h with a | ⟨_, b, _⟩
    · exact absurd a.symm hx0
    · exact absurd rfl b
  · intro e he h0 ih h
    rcases ea_U_inv W he h with a | ⟨_, _, b⟩
    · subst a; exact ea_U_s W he h0 ea_U_x
    · exact ea_U_s W he h0 (ih b)
/-- whoever lies above an entry that is there is there -/
theorem ea_U_E (W : ea_W E P M D) {x : Nat} : ∀ e, E e → ea_U P M x e → E x := by
  refine ea_ind W ?_ ?_
  · intro h
    rcases ea_U_inv W W.1 h with a | ⟨_, b, _⟩
    · rw [← a]; exact W.1
    · exact absurd rfl b
  · intro e he h0 ih h
    rcases ea_U_inv W he h with a | ⟨_, _, b⟩
    · rw [← a]; exact he
    · exact ih b
theorem ea_U_tr (W : ea_W E P M D) {x y : Nat} (hxy : ea_U P M x y) : ∀ e, E e → ea_U P M y e → ea_U P M x e := by
  refine ea_ind W ?_ ?_
  · intro h
    rcases ea_U_inv W W.1 h with a | ⟨_, b, _⟩
    · rw [a]; exact hxy
    · exact absurd rfl b
  · intro e he h0 ih h
    rcases ea_U_inv W he h with a | ⟨_, _, b⟩
    · rw [a]; exact hxy
    · exact ea_U_s W he h0 (ih b)
end
/-- depths out of any measure that falls by one -/
theorem ea_dF_of {E : Nat → Prop} {P d : Nat → Nat} (h0 : d 0 = 0) (hs : ∀ e, E e → e ≠ 0 → E (P e) ∧ d e = d (P e) + 1) : ∀ k e, E e → d e ≤ k → ea_dF P k e = d e := by
  intro k
  induction k with
  | zero =>
    intro e he h
    by_cases z : e = 0
    · rw [z, h0, ea_dF_0]
    · have := (hs e he z).2; omega
  | succ k ih =>
    intro e he h
    by_cases z : e = 0
    · rw [z, h0, ea_dF_0]
    · have a := hs e he z
      rw [ea_dF_s z, ih (P e) a.1 (by omega), a.2]
end
section
/-! the three edits keep the tree -/
section
variable {E E' : Nat → Prop} {P M P' M' : Nat → Nat} {D D' : Nat → Prop}
theorem eb_make (W : ea_W E P M D) {e0 b m0 : Nat} (h0 : ¬ E e0) (h24 : e0 < 24) (hb : E b) (hD : D b) (hm : m0 < 8)
    (hno : ∀ e, E e → e ≠ 0 → P e = b → M e ≠ m0) (hd : ea_d P b ≤ 4)
    (kE : ∀ e, E' e ↔ (E e ∨ e = e0)) (kP : ∀ e, P' e = if e = e0 then b else P e) (kM : ∀ e, M' e = if e = e0 then m0 else M e)
    (kD : ∀ e, e ≠ e0 → D e → D' e) : ea_W E' P' M' D' := by
  have z0 : e0 ≠ 0 := fun z => h0 (z ▸ W.1)
  have zE : ∀ e, E e → e ≠ e0 := fun e he z => h0 (z ▸ he)
  have pP : ∀ e, E e → P' e = P e := fun e he => by rw [kP, if_neg (zE e he)]
  have pM : ∀ e, E e → M' e = M e := fun e he => by rw [kM, if_neg (zE e he)]
  have qP : P' e0 = b := by rw [kP, if_pos rfl]
  have qM : M' e0 = m0 := by rw [kM, if_pos rfl]
  refine ⟨(kE 0).mpr (Or.inl W.1), kD 0 (fun z => z0 z.symm) W.2.1, ?_, ?_, ?_, ?_⟩
  · intro e he
    rcases (kE e).mp he with a | a
    · exact ea_lt W a
    · rw [a]; exact h24
  · intro e he hne
    rcases (kE e).mp he with a | a
    · rw [pP e a, pM e a]
      exact ⟨(kE _).mpr (Or.inl (ea_P W a hne)), kD _ (zE _ (ea_P W a hne)) (ea_D W a hne), ea_M W a hne⟩
    · subst a
      rw [qP, qM]
      exact ⟨(kE _).mpr (Or.inl hb), kD _ (zE _ hb) hD, hm⟩
  · intro e e' he he' hne hne' hp hmm
    rcases (kE e).mp he with a | a <;> rcases (kE e').mp he' with a' | a'
    · rw [pP e a, pP e' a'] at hp
      rw [pM e a, pM e' a'] at hmm
      exact ea_u W a a' hne hne' hp hmm
    · subst a'
      rw [pP e a, qP] at hp
      rw [pM e a, qM] at hmm
      exact absurd hmm (hno e a hne hp)
    · subst a
      rw [pP e' a', qP] at hp
      rw [pM e' a', qM] at hmm
      exact absurd hmm.symm (hno e' a' hne' hp.symm)
    · rw [a, a']
  · intro e he
    have key := ea_dF_of (E := E') (P := P') (d := fun e => if e = e0 then ea_d P b + 1 else ea_d P e) (by
        show (if 0 = e0 then ea_d P b + 1 else ea_d P 0) = 0
        rw [if_neg (fun z => z0 z.symm)]; exact ea_d_0) (by
        intro e he hne
        show E' (P' e) ∧ (if e = e0 then ea_d P b + 1 else ea_d P e) = (if P' e = e0 then ea_d P b + 1 else ea_d P (P' e)) + 1
        rcases (kE e).mp he with a | a
        · rw [pP e a, if_neg (zE e a), if_neg (zE _ (ea_P W a hne))]
          exact ⟨(kE _).mpr (Or.inl (ea_P W a hne)), ea_d_s W a hne⟩
        · subst a
          rw [qP, if_pos rfl, if_neg (zE _ hb)]
          exact ⟨(kE _).mpr (Or.inl hb), rfl⟩) 6 e he
    have hle : (if e = e0 then ea_d P b + 1 else ea_d P e) ≤ 5 := by
      rcases (kE e).mp he with a | a
      · rw [if_neg (zE e a)]; exact ea_d5 W a
      · rw [if_pos a]; omega
    have := key (Nat.le_trans hle (by omega))
    rw [this]; exact hle
theorem eb_remove (W : ea_W E P M D) {a : Nat} (ha : a ≠ 0) (kE : ∀ e, E' e ↔ (E e ∧ ¬ ea_U P M a e)) : ea_W E' P M D := by
  refine ⟨(kE 0).mpr ⟨W.1, ?_⟩, W.2.1, ?_, ?_, ?_, ?_⟩
  · intro h
    rcases ea_U_inv W W.1 h with z | ⟨_, z, _⟩
    · exact ha z.symm
    · exact z rfl
  · intro e he; exact ea_lt W ((kE e).mp he).1
  · intro e he hne
    obtain ⟨h1, h2⟩ := (kE e).mp he
    exact ⟨(kE _).mpr ⟨ea_P W h1 hne, fun q => h2 (ea_U_s W h1 hne q)⟩, ea_D W h1 hne, ea_M W h1 hne⟩
  · intro e e' he he' hne hne' hp hm
    exact ea_u W ((kE e).mp he).1 ((kE e').mp he').1 hne hne' hp hm
  · intro e he; exact ea_d5 W ((kE e).mp he).1
theorem eb_move (W : ea_W E P M D) {a b m0 H : Nat} (ha : E a) (ha0 : a ≠ 0) (hb : E b) (hD : D b) (hm : m0 < 8) (hU : ¬ ea_U P M a b)
    (hno : ∀ e, E e → e ≠ 0 → e ≠ a → P e = b → M e ≠ m0) (hH : ∀ e, E e → ea_U P M a e → ea_d P e ≤ ea_d P a + H) (hd : ea_d P b + 1 + H ≤ 5)
    (kP : ∀ e, P' e = if e = a then b else P e) (kM : ∀ e, M' e = if e = a then m0 else M e) : ea_W E P' M' D := by
  have pP : ∀ e, e ≠ a → P' e = P e := fun e he => by rw [kP, if_neg he]
  have pM : ∀ e, e ≠ a → M' e = M e := fun e he => by rw [kM, if_neg he]
  have qP : P' a = b := by rw [kP, if_pos rfl]
  have qM : M' a = m0 := by rw [kM, if_pos rfl]
  have n0 : ¬ ea_U P M a 0 := by
    intro h
    rcases ea_U_inv W W.1 h with z | ⟨_, z, _⟩
    · exact ha0 z.symm
    · exact z rfl
  refine ⟨W.1, W.2.1, fun e he => ea_lt W he, ?_, ?_, ?_⟩
  · intro e he hne
    by_cases z : e = a
    · subst z; rw [qP, qM]; exact ⟨hb, hD, hm⟩
    · rw [pP e z, pM e z]; exact ⟨ea_P W he hne, ea_D W he hne, ea_M W he hne⟩
  · intro e e' he he' hne hne' hp hmm
    by_cases z : e = a <;> by_cases z' : e' = a
    · rw [z, z']
    · subst z
      rw [qP, pP e' z'] at hp
      rw [qM, pM e' z'] at hmm
      exact absurd hmm.symm (hno e' he' hne' z' hp.symm)
    · subst z'
      rw [qP, pP e z] at hp
      rw [qM, pM e z] at hmm
      exact absurd hmm (hno e he hne z hp)
    · rw [pP e z, pP e' z'] at hp
      rw [pM e z, pM e' z'] at hmm
      exact ea_u W he he' hne hne' hp hmm
  · intro e he
    have key := ea_dF_of (E := E) (P := P') (d := fun e => if (ea_r P M a e).isSome = true then ea_d P b + 1 + (ea_d P e - ea_d P a) else ea_d P e) (by
        show (if (ea_r P M a 0).isSome = true then ea_d P b + 1 + (ea_d P 0 - ea_d P a) else ea_d P 0) = 0
        rw [if_neg n0]; exact ea_d_0) (by
        intro e he hne
        show E (P' e) ∧ (if (ea_r P M a e).isSome = true then ea_d P b + 1 + (ea_d P e - ea_d P a) else ea_d P e) = (if (ea_r P M a (P' e)).isSome = true then ea_d P b + 1 + (ea_d P (P' e) - ea_d P a) else ea_d P (P' e)) + 1
        by_cases z : e = a
        · subst z
          rw [qP, if_pos ea_U_x, if_neg hU]
          exact ⟨hb, by omega⟩
        · rw [pP e z]
          have hE := ea_P W he hne
          have hds := ea_d_s W he hne
          by_cases u : ea_U P M a e
          · rcases ea_U_inv W he u with q | ⟨_, _, q⟩
            · exact absurd q z
            · have := ea_U_d W hE q
              rw [if_pos u, if_pos q]
              exact ⟨hE, by omega⟩
          · have u' : ¬ ea_U P M a (P e) := fun q => u (ea_U_s W he hne q)
            rw [if_neg u, if_neg u']
            exact ⟨hE, hds⟩) 6 e he
    have hle : (if (ea_r P M a e).isSome = true then ea_d P b + 1 + (ea_d P e - ea_d P a) else ea_d P e) ≤ 5 := by
      by_cases u : ea_U P M a e
      · have := hH e he u
        rw [if_pos u]; omega
      · rw [if_neg u]; exact ea_d5 W he
    have := key (Nat.le_trans hle (by omega))
    rw [this]; exact hle
end
end
section
/-! the store of nodes (pure): kinds K, contents C, children c -/
def sa_V (K : Nat → Int32) (n : Nat) : Prop := n ≠ 0 ∧ n < 128 ∧ K n ≠ 0
def sa_h (c : Nat → Nat → Nat) : Nat → Nat → Prop
  | 0, n => n = 0
  | k + 1, n => ∀ m, m < 8 → sa_h c k (c n m)
def sa_w (c : Nat → Nat → Nat) (r p : Nat) : Nat :=
  if h : p = 0 then r else if p % 9 = 0 then 0 else c (sa_w c r (p / 9)) (p % 9 - 1)
termination_by p
decreasing_by omega
theorem sa_w_0 {c : Nat → Nat → Nat} {r : Nat} : sa_w c r 0 = r := by rw [sa_w]; simp
theorem sa_w_9 {c : Nat → Nat → Nat} {r p : Nat} (h0 : p ≠ 0) (h : p % 9 = 0) : sa_w c r p = 0 := by rw [sa_w]; simp [h0, h]
theorem sa_w_n {c : Nat → Nat → Nat} {r p : Nat} (h : p % 9 ≠ 0) : sa_w c r p = c (sa_w c r (p / 9)) (p % 9 - 1) := by
  have h0 : p ≠ 0 := by omega
  rw [sa_w]; simp [h0, h]
theorem sa_w_s {c : Nat → Nat → Nat} {r p m : Nat} (h : m < 8) : sa_w c r (9 * p + m + 1) = c (sa_w c r p) m := by
  have e1 : (9 * p + m + 1) % 9 = m + 1 := by omega
  have e2 : (9 * p + m + 1) / 9 = p := by omega
  rw [sa_w_n (by omega), e1, e2]; rfl
/-- a code is nothing, no code, or a code and a name -/
theorem sa_cs (p : Nat) : p = 0 ∨ (p ≠ 0 ∧ p % 9 = 0) ∨ ∃ q m, m < 8 ∧ p = 9 * q + m + 1 := by
  by_cases h : p = 0
  · exact Or.inl h
  · by_cases h9 : p % 9 = 0
    · exact Or.inr (Or.inl ⟨h, h9⟩)
    · exact Or.inr (Or.inr ⟨p / 9, p % 9 - 1, by omega, by omega⟩)
theorem sa_ind {Q : Nat → Prop} (h0 : Q 0) (h9 : ∀ p, p ≠ 0 → p % 9 = 0 → Q p) (hs : ∀ q m, m < 8 → Q q → Q (9 * q + m + 1)) : ∀ p, Q p := by
  intro p
  induction p using Nat.strongRecOn with
  | _ p ih =>
    rcases sa_cs p with h | ⟨h, h'⟩ | ⟨q, m, hm, rfl⟩
    · rw [h]; exact h0
    · exact h9 p h h'
    · exact hs q m hm (ih q (by omega))
def sa_S (K C : Nat → Int32) (c : Nat → Nat → Nat) : Prop :=
  K 0 = 0 ∧ (∀ m, m < 8 → c 0 m = 0) ∧
  (∀ n, sa_V K n → (K n = 1 ∨ K n = 2) ∧ (∀ m, m < 8 → c n m = 0 ∨ sa_V K (c n m)) ∧ (K n = 1 → ∀ m, m < 8 → c n m = 0) ∧ (K n = 2 → C n = 0) ∧ sa_h c 6 n) ∧
  (∀ n n', sa_V K n → sa_V K n' → K n = K n' → C n = C n' → (∀ m, m < 8 → c n m = c n' m) → n = n')
theorem sa_h0 {c : Nat → Nat → Nat} (h : ∀ m, m < 8 → c 0 m = 0) : ∀ k, sa_h c k 0 := by
  intro k
  induction k with
  | zero => exact rfl
  | succ k ih => intro m hm; rw [h m hm]; exact ih
theorem sa_hm {c : Nat → Nat → Nat} (h : ∀ m, m < 8 → c 0 m = 0) : ∀ k n, sa_h c k n → sa_h c (k + 1) n := by
  intro k
  induction k with
  | zero => intro n hn m hm; rw [show n = 0 from hn, h m hm]; exact rfl
  | succ k ih => intro n hn m hm; exact ih _ (hn m hm)
theorem sa_hag {c c' : Nat → Nat → Nat} {A : Nat → Prop} (hc : ∀ n, A n → ∀ m, m < 8 → A (c n m) ∧ c' n m = c n m) : ∀ k n, A n → sa_h c k n → sa_h c' k n := by
  intro k
  induction k with
  | zero => intro n _ h; exact h
  | succ k ih => intro n hA h m hm; rw [(hc n hA m hm).2]; exact ih _ (hc n hA m hm).1 (h m hm)
theorem sa_wag {c c' : Nat → Nat → Nat} {A : Nat → Prop} (hc : ∀ n, A n → ∀ m, m < 8 → A (c n m) ∧ c' n m = c n m) (h0 : A 0) {r : Nat} (hr : A r) : ∀ p, A (sa_w c r p) ∧ sa_w c' r p = sa_w c r p := by
  refine sa_ind ?_ ?_ ?_
  · rw [sa_w_0, sa_w_0]; exact ⟨hr, rfl⟩
  · intro p hp h9; rw [sa_w_9 hp h9, sa_w_9 hp h9]; exact ⟨h0, rfl⟩
  · intro q m hm ih
    rw [sa_w_s hm, sa_w_s hm, ih.2]
    exact hc _ ih.1 m hm
section
variable {K C : Nat → Int32} {c : Nat → Nat → Nat}
theorem sa_V0 (S : sa_S K C c) : ¬ sa_V K 0 := fun h => h.1 rfl
theorem sa_wV (S : sa_S K C c) {r : Nat} (hr : r = 0 ∨ sa_V K r) : ∀ p, sa_w c r p = 0 ∨ sa_V K (sa_w c r p) := by
  refine sa_ind ?_ ?_ ?_
  · rw [sa_w_0]; exact hr
  · intro p hp h9; exact Or.inl (sa_w_9 hp h9)
  · intro q m hm ih
    rw [sa_w_s hm]
    rcases ih with h | h
    · rw [h, S.2.1 m hm]; exact Or.inl rfl
    · exact (S.2.2.1 _ h).2.1 m hm
theorem sa_kz (S : sa_S K C c) {n : Nat} (h : n = 0 ∨ sa_V K n) (hk : K n = 0) : n = 0 := by
  rcases h with h | h
  · exact h
  · exact absurd hk h.2.2
/-- above a node of a tree lies a directory -/
theorem sa_wup (S : sa_S K C c) {r : Nat} (hr : r = 0 ∨ sa_V K r) {p : Nat} (h0 : p ≠ 0) (h : sa_w c r p ≠ 0) : p % 9 ≠ 0 ∧ sa_w c r (p / 9) ≠ 0 ∧ K (sa_w c r (p / 9)) = 2 := by
  have h9 : p % 9 ≠ 0 := fun z => h (sa_w_9 h0 z)
  rw [sa_w_n h9] at h
  have h1 : sa_w c r (p / 9) ≠ 0 := by
    intro z; rw [z, S.2.1 _ (by omega)] at h; exact h rfl
  refine ⟨h9, h1, ?_⟩
  rcases sa_wV S hr (p / 9) with z | z
  · exact absurd z h1
  · have a := S.2.2.1 _ z
    rcases a.1 with b | b
    · exact absurd (a.2.2.1 b _ (by omega)) h
    · exact b
theorem sa_wbd (S : sa_S K C c) {r k : Nat} (hh : sa_h c k r) : ∀ p, sa_w c r p ≠ 0 → ∃ j, j < k ∧ p < 9 ^ j ∧ sa_h c (k - j) (sa_w c r p) := by
  refine sa_ind ?_ ?_ ?_
  · intro h
    rw [sa_w_0] at h ⊢
    cases k with
    | zero => exact absurd hh h
    | succ k => exact ⟨0, by omega, by decide, hh⟩
  · intro p hp h9 h; exact absurd (sa_w_9 hp h9) h
  · intro q m hm ih h
    rw [sa_w_s hm] at h ⊢
    have hq : sa_w c r q ≠ 0 := by
      intro z; rw [z, S.2.1 m hm] at h; exact h rfl
    obtain ⟨j, hj, hp, hx⟩ := ih hq
    obtain ⟨i, hi⟩ : ∃ i, k - j = i + 1 := ⟨k - j - 1, by omega⟩
    rw [hi] at hx
    have hy := hx m hm
    cases i with
    | zero => exact absurd hy h
    | succ i =>
      refine ⟨j + 1, by omega, ?_, ?_⟩
      · rw [Nat.pow_succ]; omega
      · rw [show k - (j + 1) = i + 1 by omega]; exact hy
theorem sa_wlt (S : sa_S K C c) {r p : Nat} (hr : sa_V K r) (h : sa_w c r p ≠ 0) : p < 59049 := by
  obtain ⟨j, hj, hp, _⟩ := sa_wbd S (S.2.2.1 r hr).2.2.2.2 p h
  have b : 9 ^ j ≤ 9 ^ 5 := Nat.pow_le_pow_right (by omega) (by omega)
  have c : (9 : Nat) ^ 5 = 59049 := by decide
  omega
/-- trees with the same values everywhere have one node -/
theorem sa_canon (S : sa_S K C c) {a b : Nat} (ha : a = 0 ∨ sa_V K a) (hb : b = 0 ∨ sa_V K b)
    (h : ∀ p, K (sa_w c a p) = K (sa_w c b p) ∧ C (sa_w c a p) = C (sa_w c b p)) : a = b := by
  have key : ∀ k p, sa_h c k (sa_w c a p) → sa_w c a p = sa_w c b p := by
    intro k
    induction k with
    | zero =>
      intro p hp
      have z : sa_w c a p = 0 := hp
      have hk := (h p).1
      rw [z, S.1] at hk
      rw [z, sa_kz S (sa_wV S hb p) hk.symm]
    | succ k ih =>
      intro p hp
      rcases sa_wV S ha p with z | z
      · have hk := (h p).1
        rw [z, S.1] at hk
        rw [z, sa_kz S (sa_wV S hb p) hk.symm]
      · rcases sa_wV S hb p with y | y
        · have hk := (h p).1
          rw [y, S.1] at hk
          exact absurd hk z.2.2
        · refine S.2.2.2 _ _ z y (h p).1 (h p).2 ?_
          intro m hm
          have := ih (9 * p + m + 1) (by rw [sa_w_s hm]; exact hp m hm)
          rw [sa_w_s hm, sa_w_s hm] at this
          exact this
  rcases ha with z | z
  · have := key 0 0 (by rw [sa_w_0]; exact z)
    rwa [sa_w_0, sa_w_0] at this
  · have := key 6 0 (by rw [sa_w_0]; exact (S.2.2.1 a z).2.2.2.2)
    rwa [sa_w_0, sa_w_0] at this
/-- two different nodes that are not both directories have different values -/
theorem sa_df (S : sa_S K C c) {a b : Nat} (ha : a = 0 ∨ sa_V K a) (hb : b = 0 ∨ sa_V K b) :
    (a ≠ b ∧ ¬ (K a = 2 ∧ K b = 2)) ↔ (K a ≠ K b ∨ (K a ≠ 0 ∧ C a ≠ C b)) := by
  constructor
  · intro ⟨hne, h2⟩
    by_cases hk : K a = K b
    · right
      have hz : K a ≠ 0 := by
        intro z
        exact hne ((sa_kz S ha z).trans (sa_kz S hb (hk ▸ z)).symm)
      refine ⟨hz, ?_⟩
      intro hc
      have va : sa_V K a := ha.resolve_left (fun z => hz (z ▸ S.1))
      have vb : sa_V K b := hb.resolve_left (fun z => hz (by rw [hk, z]; exact S.1))
      have sa := S.2.2.1 a va
      have sb := S.2.2.1 b vb
      rcases sa.1 with k1 | k2
      · refine hne (S.2.2.2 a b va vb hk hc ?_)
        intro m hm
        rw [sa.2.2.1 k1 m hm, sb.2.2.1 (hk ▸ k1) m hm]
      · exact h2 ⟨k2, hk ▸ k2⟩
    · exact Or.inl hk
  · intro h
    refine ⟨?_, ?_⟩
    · intro e
      subst e
      rcases h with h | h
      · exact h rfl
      · exact h.2 rfl
    · intro ⟨h1, h2⟩
      rcases h with h | ⟨_, h⟩
      · exact h (h1.trans h2.symm)
      · have va : sa_V K a := ha.resolve_left (fun z => by rw [z, S.1] at h1; exact absurd h1 (by decide))
        have vb : sa_V K b := hb.resolve_left (fun z => by rw [z, S.1] at h2; exact absurd h2 (by decide))
        exact h (((S.2.2.1 a va).2.2.2.1 h1).trans ((S.2.2.1 b vb).2.2.2.1 h2).symm)
/-- a new node in a free place -/
theorem sa_put (S : sa_S K C c) {K' C' : Nat → Int32} {c' : Nat → Nat → Nat} {n : Nat} {kd ct : Int32} {dr : Nat → Nat} (hn : n ≠ 0) (h128 : n < 128) (hf : K n = 0)
    (hkd : kd = 1 ∨ kd = 2) (hdr : ∀ m, m < 8 → dr m = 0 ∨ sa_V K (dr m)) (h1 : kd = 1 → ∀ m, m < 8 → dr m = 0) (h2 : kd = 2 → ct = 0)
    (hh : ∀ m, m < 8 → sa_h c 5 (dr m)) (hno : ∀ n', sa_V K n' → ¬ (K n' = kd ∧ C n' = ct ∧ ∀ m, m < 8 → c n' m = dr m))
    (kK : ∀ i, K' i = if i = n then kd else K i) (kC : ∀ i, C' i = if i = n then ct else C i) (kc : ∀ i m, m < 8 → c' i m = if i = n then dr m else c i m) :
    sa_S K' C' c' ∧ sa_V K' n ∧ (∀ i, sa_V K i → sa_V K' i ∧ i ≠ n) ∧ (∀ i, sa_V K' i → i = n ∨ sa_V K i) := by
  have vn : ∀ i, sa_V K i → i ≠ n := fun i hi z => hi.2.2 (z ▸ hf)
  have kz : kd ≠ 0 := by rcases hkd with z | z <;> rw [z] <;> decide
  have e1 : K' n = kd := by rw [kK, if_pos rfl]
  have e2 : ∀ i, i ≠ n → K' i = K i := fun i hi => by rw [kK, if_neg hi]
  have f1 : C' n = ct := by rw [kC, if_pos rfl]
  have f2 : ∀ i, i ≠ n → C' i = C i := fun i hi => by rw [kC, if_neg hi]
  have g1 : ∀ m, m < 8 → c' n m = dr m := fun m hm => by rw [kc n m hm, if_pos rfl]
  have g2 : ∀ i, i ≠ n → ∀ m, m < 8 → c' i m = c i m := fun i hi m hm => by rw [kc i m hm, if_neg hi]
  have v1 : sa_V K' n := ⟨hn, h128, by rw [e1]; exact kz⟩
  have v2 : ∀ i, sa_V K i → sa_V K' i := fun i hi => ⟨hi.1, hi.2.1, by rw [e2 i (vn i hi)]; exact hi.2.2⟩
  have v3 : ∀ i, sa_V K' i → i = n ∨ sa_V K i := fun i hi => by
    by_cases z : i = n
    · exact Or.inl z
    · exact Or.inr ⟨hi.1, hi.2.1, by rw [← e2 i z]; exact hi.2.2⟩
  have ag : ∀ i, (i = 0 ∨ sa_V K i) → ∀ m, m < 8 → ((c i m = 0 ∨ sa_V K (c i m)) ∧ c' i m = c i m) := by
    intro i hi m hm
    rcases hi with z | z
    · subst z
      exact ⟨Or.inl (S.2.1 m hm), g2 0 (fun q => hn q.symm) m hm⟩
    · exact ⟨(S.2.2.1 i z).2.1 m hm, g2 i (vn i z) m hm⟩
  have hag := sa_hag (A := fun i => i = 0 ∨ sa_V K i) ag
  have z0 : ∀ m, m < 8 → c' 0 m = 0 := fun m hm => by rw [g2 0 (fun q => hn q.symm) m hm]; exact S.2.1 m hm
  refine ⟨⟨?_, z0, ?_, ?_⟩, v1, fun i hi => ⟨v2 i hi, vn i hi⟩, v3⟩
  · rw [e2 0 (fun q => hn q.symm)]; exact S.1
  · intro i hi
    rcases v3 i hi with z | z
    · subst z
      rw [e1, f1]
      refine ⟨hkd, ?_, ?_, h2, ?_⟩
      · intro m hm
        rw [g1 m hm]
        exact (hdr m hm).imp id (v2 _)
      · intro q m hm; rw [g1 m hm]; exact h1 q m hm
      · intro m hm
        rw [g1 m hm]
        exact hag 5 _ (hdr m hm) (hh m hm)
    · have a := S.2.2.1 i z
      rw [e2 i (vn i z), f2 i (vn i z)]
      refine ⟨a.1, ?_, ?_, a.2.2.2.1, hag 6 i (Or.inr z) a.2.2.2.2⟩
      · intro m hm
        rw [g2 i (vn i z) m hm]
        exact (a.2.1 m hm).imp id (v2 _)
      · intro q m hm; rw [g2 i (vn i z) m hm]; exact a.2.2.1 q m hm
  · intro i j hi hj hk hc hcc
    rcases v3 i hi with z | z <;> rcases v3 j hj with y | y
    · rw [z, y]
    · subst z
      rw [e1, e2 j (vn j y)] at hk
      rw [f1, f2 j (vn j y)] at hc
      refine absurd ⟨hk.symm, hc.symm, ?_⟩ (hno j y)
      intro m hm
      have := hcc m hm
      rw [g1 m hm, g2 j (vn j y) m hm] at this
      exact this.symm
    · subst y
      rw [e1, e2 i (vn i z)] at hk
      rw [f1, f2 i (vn i z)] at hc
      refine absurd ⟨hk, hc, ?_⟩ (hno i z)
      intro m hm
      have := hcc m hm
      rw [g1 m hm, g2 i (vn i z) m hm] at this
      exact this
    · rw [e2 i (vn i z), e2 j (vn j y)] at hk
      rw [f2 i (vn i z), f2 j (vn j y)] at hc
      refine S.2.2.2 i j z y hk hc ?_
      intro m hm
      have := hcc m hm
      rw [g2 i (vn i z) m hm, g2 j (vn j y) m hm] at this
      exact this
/-- nodes that nobody needs are freed -/
theorem sa_cut (S : sa_S K C c) {K' : Nat → Int32} {kp : Nat → Prop} (h0 : K' 0 = 0) (hk : ∀ n, n ≠ 0 → n < 128 → kp n → K' n = K n) (hn : ∀ n, n ≠ 0 → n < 128 → ¬ kp n → K' n = 0)
    (hcl : ∀ n, sa_V K n → kp n → ∀ m, m < 8 → c n m = 0 ∨ kp (c n m)) :
    sa_S K' C c ∧ (∀ n, sa_V K' n ↔ (sa_V K n ∧ kp n)) := by
  have v : ∀ n, sa_V K' n ↔ (sa_V K n ∧ kp n) := by
    intro n
    constructor
    · intro h
      by_cases q : kp n
      · exact ⟨⟨h.1, h.2.1, by rw [← hk n h.1 h.2.1 q]; exact h.2.2⟩, q⟩
      · exact absurd (hn n h.1 h.2.1 q) h.2.2
    · intro ⟨h, q⟩
      exact ⟨h.1, h.2.1, by rw [hk n h.1 h.2.1 q]; exact h.2.2⟩
  have e : ∀ n, sa_V K' n → K' n = K n := fun n h => hk n h.1 h.2.1 ((v n).mp h).2
  refine ⟨⟨h0, S.2.1, ?_, ?_⟩, v⟩
  · intro n h
    obtain ⟨h1, h2⟩ := (v n).mp h
    have a := S.2.2.1 n h1
    rw [e n h]
    refine ⟨a.1, ?_, a.2.2⟩
    intro m hm
    rcases a.2.1 m hm with z | z
    · exact Or.inl z
    · rcases hcl n h1 h2 m hm with y | y
      · exact Or.inl y
      · exact Or.inr ((v _).mpr ⟨z, y⟩)
  · intro n n' h h' hkk hc hcc
    rw [e n h, e n' h'] at hkk
    exact S.2.2.2 n n' ((v n).mp h).1 ((v n').mp h').1 hkk hc hcc
end
end
section
/-! entries and their nodes; snapshots -/
def la_L (E : Nat → Prop) (P M : Nat → Nat) (fi co K C : Nat → Int32) (c : Nat → Nat → Nat) (N : Nat → Nat) : Prop :=
  ∀ e, E e → N e ≠ 0 → sa_V K (N e) ∧ K (N e) = (if fi e = 0 then 2 else 1) ∧ C (N e) = (if fi e = 0 then 0 else co e) ∧
    (∀ e', E e' → e' ≠ 0 → P e' = e → N e' ≠ 0 ∧ c (N e) (M e') = N e') ∧
    (∀ m, m < 8 → (∀ e', E e' → e' ≠ 0 → P e' = e → M e' ≠ m) → c (N e) m = 0)
section
variable {E E' : Nat → Prop} {P M P' M' : Nat → Nat} {D : Nat → Prop} {fi co fi' co' K C K' C' : Nat → Int32} {c c' : Nat → Nat → Nat} {N N' : Nat → Nat}
theorem la_fresh (W : ea_W E P M D) (L : la_L E P M fi co K C c N) (h : N 0 ≠ 0) : ∀ e, E e → N e ≠ 0 :=
  ea_ind W h (fun e he h0 ih => ((L (P e) (ea_P W he h0) ih).2.2.2.1 e he h0 rfl).1)
theorem la_w1 (W : ea_W E P M D) (L : la_L E P M fi co K C c N) (F : ∀ e, E e → N e ≠ 0) (x : Nat) : ∀ e, E e → ∀ p, ea_r P M x e = some p → sa_w c (N x) p = N e := by
  refine ea_ind W ?_ ?_
  · intro p h
    rcases ea_inv W W.1 h with ⟨a, b⟩ | ⟨_, b, _⟩
    · rw [← a, b, sa_w_0]
    · exact absurd rfl b
  · intro e he h0 ih p h
    rcases ea_inv W he h with ⟨a, b⟩ | ⟨_, _, q, hq, hp⟩
    · rw [← a, b, sa_w_0]
    · rw [hp, sa_w_s (ea_M W he h0), ih q hq]
      exact ((L (P e) (ea_P W he h0) (F _ (ea_P W he h0))).2.2.2.1 e he h0 rfl).2
theorem la_w2 (W : ea_W E P M D) (L : la_L E P M fi co K C c N) (F : ∀ e, E e → N e ≠ 0) (c0 : ∀ m, m < 8 → c 0 m = 0) {x : Nat} (hx : E x) :
    ∀ p, sa_w c (N x) p ≠ 0 → ∃ e, E e ∧ ea_r P M x e = some p ∧ sa_w c (N x) p = N e := by
  refine sa_ind ?_ ?_ ?_
  · intro _; exact ⟨x, hx, ea_r_x, sa_w_0⟩
  · intro p hp h9 h; exact absurd (sa_w_9 hp h9) h
  · intro q m hm ih h
    rw [sa_w_s hm] at h ⊢
    have hq : sa_w c (N x) q ≠ 0 := by
      intro z; rw [z, c0 m hm] at h; exact h rfl
    obtain ⟨e, he, hr, hw⟩ := ih hq
    rw [hw] at h ⊢
    have l := L e he (F e he)
    by_cases ex : ∃ e', E e' ∧ e' ≠ 0 ∧ P e' = e ∧ M e' = m
    · obtain ⟨e', h1, h2, h3, h4⟩ := ex
      have b := (l.2.2.2.1 e' h1 h2 h3).2
      rw [h4] at b
      have hne : e' ≠ x := by
        intro z
        have d1 := ea_dle W x e he q hr
        have d2 := ea_d_s W h1 h2
        rw [h3, z] at d2
        omega
      refine ⟨e', h1, ?_, b⟩
      have := ea_r_c W h1 hne h2 (by rw [h3]; exact hr)
      rw [h4] at this
      exact this
    · exact absurd (l.2.2.2.2 m hm (fun e' h1 h2 h3 h4 => ex ⟨e', h1, h2, h3, h4⟩)) h
theorem la_h (W : ea_W E P M D) (L : la_L E P M fi co K C c N) (c0 : ∀ m, m < 8 → c 0 m = 0) : ∀ k e, E e → N e ≠ 0 → ea_d P e + k = 6 → sa_h c k (N e) := by
  intro k
  induction k with
  | zero => intro e he _ hd; have := ea_d5 W he; omega
  | succ k ih =>
    intro e he hn hd m hm
    have l := L e he hn
    by_cases ex : ∃ e', E e' ∧ e' ≠ 0 ∧ P e' = e ∧ M e' = m
    · obtain ⟨e', h1, h2, h3, h4⟩ := ex
      have b := l.2.2.2.1 e' h1 h2 h3
      rw [h4] at b
      rw [b.2]
      have d2 := ea_d_s W h1 h2
      rw [h3] at d2
      exact ih e' h1 b.1 (by omega)
    · rw [l.2.2.2.2 m hm (fun e' h1 h2 h3 h4 => ex ⟨e', h1, h2, h3, h4⟩)]
      exact sa_h0 c0 k
theorem la_keep (L : la_L E P M fi co K C c N) (h : ∀ e, E' e → N' e ≠ 0 → E e ∧ N' e = N e ∧ fi' e = fi e ∧ co' e = co e ∧
    (∀ e', e' ≠ 0 → ((E' e' ∧ P' e' = e) ↔ (E e' ∧ P e' = e))) ∧ (∀ e', E e' → e' ≠ 0 → P e' = e → M' e' = M e' ∧ N' e' = N e')) : la_L E' P' M' fi' co' K C c N' := by
  intro e he hn
  obtain ⟨a1, a2, a3, a4, a5, a6⟩ := h e he hn
  have l := L e a1 (a2 ▸ hn)
  rw [a2, a3, a4]
  refine ⟨l.1, l.2.1, l.2.2.1, ?_, ?_⟩
  · intro e' h1 h2 h3
    obtain ⟨b1, b2⟩ := (a5 e' h2).mp ⟨h1, h3⟩
    obtain ⟨d1, d2⟩ := a6 e' b1 h2 b2
    rw [d1, d2]
    exact l.2.2.2.1 e' b1 h2 b2
  · intro m hm hno
    refine l.2.2.2.2 m hm ?_
    intro e' h1 h2 h3
    rw [← (a6 e' h1 h2 h3).1]
    obtain ⟨b1, b2⟩ := (a5 e' h2).mpr ⟨h1, h3⟩
    exact hno e' b1 h2 b2
theorem la_store (L : la_L E P M fi co K C c N) (h : ∀ e, E e → N e ≠ 0 → sa_V K' (N e) ∧ K' (N e) = K (N e) ∧ C' (N e) = C (N e) ∧ ∀ m, m < 8 → c' (N e) m = c (N e) m)
    (W : ea_W E P M D) : la_L E P M fi co K' C' c' N := by
  intro e he hn
  obtain ⟨a1, a2, a3, a4⟩ := h e he hn
  have l := L e he hn
  rw [a2, a3]
  refine ⟨a1, l.2.1, l.2.2.1, ?_, ?_⟩
  · intro e' h1 h2 h3
    rw [a4 _ (ea_M W h1 h2)]
    exact l.2.2.2.1 e' h1 h2 h3
  · intro m hm hno
    rw [a4 m hm]
    exact l.2.2.2.2 m hm hno
theorem la_set (L : la_L E P M fi co K C c N) {e0 n : Nat} (hz : N e0 = 0) (hp : ∀ e, E e → e ≠ 0 → P e ≠ e)
    (hN : ∀ e, N' e = if e = e0 then n else N e) (hv : sa_V K n) (hk : K n = if fi e0 = 0 then 2 else 1) (hc : C n = if fi e0 = 0 then 0 else co e0)
    (hch : ∀ e', E e' → e' ≠ 0 → P e' = e0 → N e' ≠ 0 ∧ c n (M e') = N e')
    (hnc : ∀ m, m < 8 → (∀ e', E e' → e' ≠ 0 → P e' = e0 → M e' ≠ m) → c n m = 0) : la_L E P M fi co K C c N' := by
  have n1 : N' e0 = n := by rw [hN, if_pos rfl]
  have n2 : ∀ e, e ≠ e0 → N' e = N e := fun e h => by rw [hN, if_neg h]
  intro e he hn
  by_cases z : e = e0
  · subst z
    rw [n1]
    refine ⟨hv, hk, hc, ?_, hnc⟩
    intro e' h1 h2 h3
    have : e' ≠ e := fun q => hp e' h1 h2 (h3.trans q.symm)
    rw [n2 e' this]
    exact hch e' h1 h2 h3
  · rw [n2 e z] at hn ⊢
    have l := L e he hn
    refine ⟨l.1, l.2.1, l.2.2.1, ?_, l.2.2.2.2⟩
    intro e' h1 h2 h3
    have b := l.2.2.2.1 e' h1 h2 h3
    have : e' ≠ e0 := fun q => b.1 (q ▸ hz)
    rw [n2 e' this]
    exact b
/-- touched along the way up from a -/
def la_t (P M N : Nat → Nat) (a : Nat) : Nat → Nat := fun i => if (ea_r P M i a).isSome = true then 0 else N i
theorem la_t_no {a i : Nat} (h : la_t P M N a i ≠ 0) : ¬ ea_U P M i a ∧ la_t P M N a i = N i := by
  unfold la_t at h ⊢
  by_cases u : (ea_r P M i a).isSome = true
  · rw [if_pos u] at h; exact absurd rfl h
  · exact ⟨u, by rw [if_neg u]⟩
theorem la_t_eq {a i : Nat} (h : ¬ ea_U P M i a) : la_t P M N a i = N i := by unfold la_t; rw [if_neg h]
theorem la_t_z {a i : Nat} (h : ea_U P M i a) : la_t P M N a i = 0 := by unfold la_t; rw [if_pos h]
/-- write -/
theorem la_write (W : ea_W E P M D) (L : la_L E P M fi co K C c N) {a : Nat} (ha : E a) (hco : ∀ e, e ≠ a → co' e = co e) (hN : ∀ e, E e → N' e = la_t P M N a e) : la_L E P M fi co' K C c N' := by
  refine la_keep L ?_
  intro e he hn
  rw [hN e he] at hn
  obtain ⟨u, hn'⟩ := la_t_no hn
  refine ⟨he, by rw [hN e he]; exact hn', rfl, hco e (fun z => u (z ▸ ea_U_x)), fun _ _ => Iff.rfl, ?_⟩
  intro e' h1 h2 h3
  refine ⟨rfl, ?_⟩
  rw [hN e' h1]
  refine la_t_eq (fun q => u ?_)
  rw [← h3]
  exact ea_U_up W h1 h2 a ha q
/-- a new entry a -/
theorem la_make {D' : Nat → Prop} (W : ea_W E P M D) (W' : ea_W E' P' M' D') (L : la_L E P M fi co K C c N) {a : Nat} (ha : ¬ E a) (kE : ∀ e, E' e ↔ (E e ∨ e = a))
    (kP : ∀ e, e ≠ a → P' e = P e) (kM : ∀ e, e ≠ a → M' e = M e) (kf : ∀ e, e ≠ a → fi' e = fi e) (kc : ∀ e, e ≠ a → co' e = co e)
    (hN : ∀ e, E' e → N' e = la_t P' M' N a e) : la_L E' P' M' fi' co' K C c N' := by
  have ha' : E' a := (kE a).mpr (Or.inr rfl)
  have ne : ∀ e, E e → e ≠ a := fun e he z => ha (z ▸ he)
  have a0 : a ≠ 0 := fun z => ha (z ▸ W.1)
  refine la_keep L ?_
  intro e he hn
  rw [hN e he] at hn
  obtain ⟨u, hn'⟩ := la_t_no hn
  have hea : e ≠ a := fun z => u (z ▸ ea_U_x)
  have hE : E e := ((kE e).mp he).resolve_right hea
  have npa : P' a ≠ e := by
    intro z
    apply u
    rw [← z]
    exact ea_U_s W' ha' a0 ea_U_x
  refine ⟨hE, by rw [hN e he]; exact hn', kf e hea, kc e hea, ?_, ?_⟩
  · intro e' h0
    constructor
    · intro ⟨h1, h2⟩
      have q : e' ≠ a := fun z => npa (z ▸ h2)
      exact ⟨((kE e').mp h1).resolve_right q, by rw [← kP e' q]; exact h2⟩
    · intro ⟨h1, h2⟩
      exact ⟨(kE e').mpr (Or.inl h1), by rw [kP e' (ne e' h1)]; exact h2⟩
  · intro e' h1 h2 h3
    have h1' := (kE e').mpr (Or.inl h1)
    refine ⟨kM e' (ne e' h1), ?_⟩
    rw [hN e' h1']
    refine la_t_eq (fun q => u ?_)
    have := ea_U_up W' h1' h2 a ha' q
    rw [kP e' (ne e' h1), h3] at this
    exact this
/-- the entries under a are gone -/
theorem la_remove (W : ea_W E P M D) (L : la_L E P M fi co K C c N) {a : Nat} (ha : E a) (kE : ∀ e, E' e ↔ (E e ∧ ¬ ea_U P M a e))
    (hN : ∀ e, E' e → N' e = la_t P M N a e) : la_L E' P M fi co K C c N' := by
  refine la_keep L ?_
  intro e he hn
  rw [hN e he] at hn
  obtain ⟨u, hn'⟩ := la_t_no hn
  obtain ⟨hE, hU⟩ := (kE e).mp he
  have key : ∀ e', E e' → e' ≠ 0 → P e' = e → ¬ ea_U P M a e' := by
    intro e' h1 h2 h3 q
    rcases ea_U_inv W h1 q with z | ⟨_, _, z⟩
    · subst z; apply u; rw [← h3]; exact ea_U_s W h1 h2 ea_U_x
    · rw [h3] at z; exact hU z
  refine ⟨hE, by rw [hN e he]; exact hn', rfl, rfl, ?_, ?_⟩
  · intro e' h0
    constructor
    · intro ⟨h1, h2⟩; exact ⟨((kE e').mp h1).1, h2⟩
    · intro ⟨h1, h2⟩; exact ⟨(kE e').mpr ⟨h1, key e' h1 h0 h2⟩, h2⟩
  · intro e' h1 h2 h3
    refine ⟨rfl, ?_⟩
    rw [hN e' ((kE e').mpr ⟨h1, key e' h1 h2 h3⟩)]
    refine la_t_eq (fun q => u ?_)
    rw [← h3]
    exact ea_U_up W h1 h2 a ha q
/-- a is hung elsewhere -/
theorem la_move (W : ea_W E P M D) (W' : ea_W E P' M' D) (L : la_L E P M fi co K C c N) {a : Nat} (ha : E a) (ha0 : a ≠ 0)
    (kP : ∀ e, e ≠ a → P' e = P e) (kM : ∀ e, e ≠ a → M' e = M e)
    (hN : ∀ e, E e → N' e = la_t P' M' (la_t P M N a) a e) : la_L E P' M' fi co K C c N' := by
  refine la_keep L ?_
  intro e he hn
  rw [hN e he] at hn
  obtain ⟨u', hn'⟩ := la_t_no hn
  rw [hn'] at hn
  obtain ⟨u, hn2⟩ := la_t_no hn
  have npa : P a ≠ e := by
    intro z; apply u; rw [← z]; exact ea_U_s W ha ha0 ea_U_x
  have npa' : P' a ≠ e := by
    intro z; apply u'; rw [← z]; exact ea_U_s W' ha ha0 ea_U_x
  refine ⟨he, by rw [hN e he, hn', hn2], rfl, rfl, ?_, ?_⟩
  · intro e' h0
    constructor
    · intro ⟨h1, h2⟩
      have q : e' ≠ a := fun z => npa' (z ▸ h2)
      exact ⟨h1, by rw [← kP e' q]; exact h2⟩
    · intro ⟨h1, h2⟩
      have q : e' ≠ a := fun z => npa (z ▸ h2)
      exact ⟨h1, by rw [kP e' q]; exact h2⟩
  · intro e' h1 h2 h3
    have q : e' ≠ a := fun z => npa (z ▸ h3)
    refine ⟨kM e' q, ?_⟩
    rw [hN e' h1]
    have b1 : ¬ ea_U P' M' e' a := by
      intro z
      apply u'
      have := ea_U_up W' h1 h2 a ha z
      rw [kP e' q, h3] at this
      exact this
    have b2 : ¬ ea_U P M e' a := by
      intro z
      apply u
      rw [← h3]
      exact ea_U_up W h1 h2 a ha z
    rw [la_t_eq b1, la_t_eq b2]
end
/-! snapshots: the tree at node r is listed at o, o + 1, .. -/
def sn_T (K C : Nat → Int32) (c : Nat → Nat → Nat) (r n : Nat) (ps fs cs : Nat → Int32) (o : Nat) : Prop :=
  sa_V K r ∧ K r = 2 ∧ n ≤ 23 ∧
  (∀ i, i < n → ∃ p, p ≠ 0 ∧ ps (o + i) = nI p ∧ sa_w c r p ≠ 0 ∧ fs (o + i) = (if K (sa_w c r p) = 1 then 1 else 0) ∧ cs (o + i) = C (sa_w c r p)) ∧
  (∀ p, p ≠ 0 → sa_w c r p ≠ 0 → ∃ i, i < n ∧ ps (o + i) = nI p) ∧
  (∀ i j, i < n → j < n → ps (o + i) = ps (o + j) → i = j)
/-- what the snapshots need is kept -/
def sp_K (K C : Nat → Int32) (c : Nat → Nat → Nat) (K' C' : Nat → Int32) (c' : Nat → Nat → Nat) (R : Nat → Nat) : Prop :=
  ∀ t, t < 3 → ∀ p, sa_w c' (R t) p = sa_w c (R t) p ∧ K' (sa_w c (R t) p) = K (sa_w c (R t) p) ∧ (sa_w c (R t) p ≠ 0 → C' (sa_w c (R t) p) = C (sa_w c (R t) p))
def sp_B (K : Nat → Int32) (c : Nat → Nat → Nat) (R : Nat → Nat) : Prop :=
  ∀ t, t < 3 → (R t = 0 ∨ sa_V K (R t)) ∧ ∃ z : Nat → Nat, ∀ p, sa_w c (R t) p ≠ 0 → ∃ j, j < 24 ∧ z j = sa_w c (R t) p
section
variable {K C K' C' K2 C2 : Nat → Int32} {c c' c2 : Nat → Nat → Nat} {R : Nat → Nat}
theorem sp_refl : sp_K K C c K C c R := fun _ _ _ => ⟨rfl, rfl, fun _ => rfl⟩
theorem sp_trans (h : sp_K K C c K' C' c' R) (h2 : sp_K K' C' c' K2 C2 c2 R) : sp_K K C c K2 C2 c2 R := by
  intro t ht p
  obtain ⟨a1, a2, a3⟩ := h t ht p
  obtain ⟨b1, b2, b3⟩ := h2 t ht p
  rw [a1] at b1 b2 b3
  exact ⟨b1, b2.trans a2, fun q => (b3 q).trans (a3 q)⟩
theorem sp_mk (S : sa_S K C c) (k0 : K' 0 = 0) (c0 : ∀ m, m < 8 → c' 0 m = 0)
    (h : ∀ t, t < 3 → ∀ p, sa_w c (R t) p ≠ 0 → K' (sa_w c (R t) p) = K (sa_w c (R t) p) ∧ C' (sa_w c (R t) p) = C (sa_w c (R t) p) ∧ ∀ m, m < 8 → c' (sa_w c (R t) p) m = c (sa_w c (R t) p) m) :
    sp_K K C c K' C' c' R := by
  intro t ht
  have key := sa_wag (c := c) (c' := c') (A := fun n => n = 0 ∨ ∃ p, n = sa_w c (R t) p) (r := R t) (by
    intro n hn m hm
    rcases hn with z | ⟨p, z⟩
    · subst z; exact ⟨Or.inl (S.2.1 m hm), by rw [c0 m hm, S.2.1 m hm]⟩
    · subst z
      refine ⟨Or.inr ⟨9 * p + m + 1, (sa_w_s hm).symm⟩, ?_⟩
      by_cases q : sa_w c (R t) p = 0
      · rw [q, c0 m hm, S.2.1 m hm]
      · exact (h t ht p q).2.2 m hm) (Or.inl rfl) (Or.inr ⟨0, sa_w_0.symm⟩)
  intro p
  refine ⟨(key p).2, ?_, ?_⟩
  · by_cases q : sa_w c (R t) p = 0
    · rw [q, k0, S.1]
    · exact (h t ht p q).1
  · intro q; exact (h t ht p q).2.1
theorem sp_BK (B : sp_B K c R) (h : sp_K K C c K' C' c' R) : sp_B K' c' R := by
  intro t ht
  obtain ⟨v, z, hz⟩ := B t ht
  refine ⟨?_, z, ?_⟩
  · have := (h t ht 0).2.1
    rw [sa_w_0] at this
    exact v.imp id (fun v => ⟨v.1, v.2.1, by rw [this]; exact v.2.2⟩)
  · intro p hp
    rw [(h t ht p).1] at hp ⊢
    exact hz p hp
theorem sn_K {n : Nat} {ps fs cs : Nat → Int32} {o t : Nat} (ht : t < 3) (T : sn_T K C c (R t) n ps fs cs o) (h : sp_K K C c K' C' c' R) : sn_T K' C' c' (R t) n ps fs cs o := by
  obtain ⟨h1, h2, h3, h4, h5, h6⟩ := T
  have e0 := (h t ht 0).2.1
  rw [sa_w_0] at e0
  refine ⟨⟨h1.1, h1.2.1, by rw [e0]; exact h1.2.2⟩, by rw [e0]; exact h2, h3, ?_, ?_, h6⟩
  · intro i hi
    obtain ⟨p, a1, a2, a3, a4, a5⟩ := h4 i hi
    have k := h t ht p
    refine ⟨p, a1, a2, by rw [k.1]; exact a3, by rw [k.1, k.2.1]; exact a4, by rw [k.1, k.2.2 a3]; exact a5⟩
  · intro p h0 hp
    rw [(h t ht p).1] at hp
    exact h5 p h0 hp
theorem sn_B {n : Nat} {ps fs cs : Nat → Int32} {o r : Nat} (T : sn_T K C c r n ps fs cs o) (S : sa_S K C c) : sa_V K r ∧ ∃ z : Nat → Nat, ∀ p, sa_w c r p ≠ 0 → ∃ j, j < 24 ∧ z j = sa_w c r p := by
  refine ⟨T.1, fun j => if j < 23 then sa_w c r (ps (o + j)).toNatClampNeg else r, ?_⟩
  intro p hp
  by_cases h0 : p = 0
  · subst h0
    refine ⟨23, by omega, ?_⟩
    show (if 23 < 23 then _ else r) = _
    rw [if_neg (by omega), sa_w_0]
  · obtain ⟨i, hi, hps⟩ := T.2.2.2.2.1 p h0 hp
    have hi23 : i < 23 := Nat.lt_of_lt_of_le hi T.2.2.1
    have hlt := sa_wlt S T.1 hp
    refine ⟨i, by omega, ?_⟩
    show (if i < 23 then sa_w c r (ps (o + i)).toNatClampNeg else r) = _
    rw [if_pos hi23, hps, nI_clamp (by omega)]
end
theorem sa_w0 {c : Nat → Nat → Nat} (h : ∀ m, m < 8 → c 0 m = 0) : ∀ p, sa_w c 0 p = 0 := by
  refine sa_ind sa_w_0 (fun p hp h9 => sa_w_9 hp h9) ?_
  intro q m hm ih
  rw [sa_w_s hm, ih, h m hm]
end
section
/-! the state's shape, and the component's readers -/
def rl_E (ex : Nat → Int32) (e : Nat) : Prop := e < 24 ∧ ex e ≠ 0
def rl_N (f : Nat → Int32) (i : Nat) : Nat := (f i).toNatClampNeg
def rl_D (fi : Nat → Int32) (e : Nat) : Prop := fi e = 0
def rl_W (ex pa nm fi : Nat → Int32) : Prop :=
  ea_W (rl_E ex) (rl_N pa) (rl_N nm) (rl_D fi) ∧ (∀ e, rl_E ex e → e ≠ 0 → pa e = nI (rl_N pa e) ∧ nm e = nI (rl_N nm e)) ∧ (∀ e, e < 24 → fi e = 0 ∨ fi e = 1)
theorem rb_at {f : Nat → Int32} {i : Nat} (h : i < 2 ^ 31) : f (nI i).toNatClampNeg = f i := by rw [nI_clamp h]
theorem rb_z {f : Nat → Int32} {i : Nat} {A B : Prop} (h : i < 2 ^ 31) (a : f i = 0 → A) (b : f i ≠ 0 → B) : (f (nI i).toNatClampNeg = 0 → A) ∧ (¬ f (nI i).toNatClampNeg = 0 → B) := by
  rw [nI_clamp h]; exact ⟨a, b⟩
theorem rb_if {c d A B : Prop} (e : c ↔ d) (f : d → A) (g : ¬ d → B) : (c → A) ∧ (¬ c → B) := ⟨fun h => f (e.mp h), fun h => g (fun q => h (e.mpr q))⟩
theorem rb_b1 : vp_nar .boolean 1 = 1 := by decide
theorem rb_b0 : vp_nar .boolean 0 = 0 := by decide
theorem rb_N {f : Nat → Int32} {i k : Nat} (h : f i = nI k) (hk : k < 2 ^ 31) : rl_N f i = k := by unfold rl_N; rw [h, nI_clamp hk]
theorem rb_ring (s w p m : Nat) : s + (m + 1) * w + 9 * w * p = s + w * (9 * p + m + 1) := by grind
theorem rb_m1 : ¬ (0 : Int32) ≤ -1 := by decide
theorem rb_m1' : (-1 : Int32) < 0 := by decide
section
variable {fc ec : Int32} {ex pa nm fi co no kn cn ch nx bk mk dr sn lf rt wh fd : Nat → Int32}
theorem rl_P (H : rl_W ex pa nm fi) {e : Nat} (he : rl_E ex e) (h0 : e ≠ 0) : pa e = nI (rl_N pa e) := (H.2.1 e he h0).1
theorem rl_M (H : rl_W ex pa nm fi) {e : Nat} (he : rl_E ex e) (h0 : e ≠ 0) : nm e = nI (rl_N nm e) := (H.2.1 e he h0).2
theorem rl_Pat (H : rl_W ex pa nm fi) {e : Nat} (he : rl_E ex e) (h0 : e ≠ 0) : pa (nI e).toNatClampNeg = nI (rl_N pa e) := by
  have := he.1
  rw [nI_clamp (by omega)]; exact rl_P H he h0
theorem rl_Mat (H : rl_W ex pa nm fi) {e : Nat} (he : rl_E ex e) (h0 : e ≠ 0) : nm (nI e).toNatClampNeg = nI (rl_N nm e) := by
  have := he.1
  rw [nI_clamp (by omega)]; exact rl_M H he h0
theorem rl_Plt (H : rl_W ex pa nm fi) {e : Nat} (he : rl_E ex e) (h0 : e ≠ 0) : rl_N pa e < 24 := (ea_P H.1 he h0).1
/-! good, snapshot, name -/
theorem rl_good (ex : Nat → Int32) (v : Int32) : (∃ j, rl_E ex j ∧ v = nI j) ∨ (∀ j, j < 24 → v = nI j → ex j = 0) := by
  by_cases h : ∃ j, rl_E ex j ∧ v = nI j
  · exact Or.inl h
  · refine Or.inr ?_
    intro j hj e
    by_cases z : ex j = 0
    · exact z
    · exact absurd ⟨j, ⟨hj, z⟩, e⟩ h
theorem xg_t {post : Int32 → Prop} {j : Nat} (h : rl_E ex j) (p : post 1) : wpX_isGood post (fc, ec, ex, pa, nm, fi, co, no, kn, cn, ch, nx, bk, mk, dr, sn, lf, rt, wh, fd) (nI j) := by
  have h1 := h.1
  refine pk_lt j 0 (fun q => absurd q (by omega)) (fun _ => ?_)
  refine pk_le 24 j (fun q => absurd q (by omega)) (fun _ => ?_)
  exact ⟨pk_in j 24 h1, rb_z (by omega) (fun q => absurd q h.2) (fun _ => p)⟩
theorem xg_f {post : Int32 → Prop} {v : Int32} (h : ∀ j, j < 24 → v = nI j → ex j = 0) (p : post 0) : wpX_isGood post (fc, ec, ex, pa, nm, fi, co, no, kn, cn, ch, nx, bk, mk, dr, sn, lf, rt, wh, fd) v := by
  rcases pk_ix v (n := 24) (by decide) with a | a | ⟨j, hj, rfl⟩
  · exact br_t a p
  · exact br_f (Int32.not_lt.mpr (Int32.le_trans (show (0 : Int32) ≤ nI 24 by decide) a)) (br_t a p)
  · refine pk_lt j 0 (fun q => absurd q (by omega)) (fun _ => ?_)
    refine pk_le 24 j (fun q => absurd q (by omega)) (fun _ => ?_)
    exact ⟨pk_in j 24 hj, rb_z (by omega) (fun _ => p) (fun q => absurd (h j hj rfl) q)⟩
theorem rl_shot (v : Int32) : (∃ t, t < 3 ∧ v = nI t) ∨ (v < 0 ∨ (¬ v < 0 ∧ 2 < v)) := by
  rcases pk_ix v (n := 3) (by decide) with a | a | ⟨j, hj, rfl⟩
  · exact Or.inr (Or.inl a)
  · refine Or.inr (Or.inr ⟨Int32.not_lt.mpr (Int32.le_trans (show (0 : Int32) ≤ nI 3 by decide) a), ?_⟩)
    exact Int32.lt_of_lt_of_le (show (2 : Int32) < nI 3 by decide) a
  · exact Or.inl ⟨j, hj, rfl⟩
theorem xs_t {post : Int32 → Prop} {t : Nat} (h : t < 3) (p : post 1) : wpX_isSnapshot post (nI t) := by
  refine pk_lt t 0 (fun q => absurd q (by omega)) (fun _ => ?_)
  exact pk_lt 2 t (fun q => absurd q (by omega)) (fun _ => p)
theorem xs_f {post : Int32 → Prop} {v : Int32} (h : v < 0 ∨ (¬ v < 0 ∧ 2 < v)) (p : post 0) : wpX_isSnapshot post v := by
  rcases h with a | ⟨a, b⟩
  · exact br_t a p
  · exact br_f a (br_t b p)
theorem rl_name (v : Int32) : (∃ m, m < 8 ∧ v = nI m) ∨ (v < 0 ∨ (¬ v < 0 ∧ 8 ≤ v)) := by
  rcases pk_ix v (n := 8) (by decide) with a | a | ⟨j, hj, rfl⟩
  · exact Or.inr (Or.inl a)
  · exact Or.inr (Or.inr ⟨Int32.not_lt.mpr (Int32.le_trans (show (0 : Int32) ≤ nI 8 by decide) a), a⟩)
  · exact Or.inl ⟨j, hj, rfl⟩
theorem xn_t {post : Int32 → Prop} {m : Nat} (h : m < 8) (p : post 1) : wpX_isName post (nI m) := by
  refine pk_lt m 0 (fun q => absurd q (by omega)) (fun _ => ?_)
  exact pk_le 8 m (fun q => absurd q (by omega)) (fun _ => p)
theorem xn_f {post : Int32 → Prop} {v : Int32} (h : v < 0 ∨ (¬ v < 0 ∧ 8 ≤ v)) (p : post 0) : wpX_isName post v := by
  rcases h with a | ⟨a, b⟩
  · exact br_t a p
  · exact br_f a (br_t b p)
/-! depth -/
theorem xw_depth_l (H : rl_W ex pa nm fi) {post : Int32 → Prop} : ∀ n k d0 e, rl_E ex e → ea_d (rl_N pa) e + k ≤ 5 → 5 < n + k → post (nI (d0 + ea_d (rl_N pa) e)) → wX_depthOf_7 post fc ec ex pa nm fi co no kn cn ch nx bk mk dr sn lf rt wh fd n (nI d0) (nI e) (nI k) := by
  intro n
  induction n with
  | zero => intro k d0 e _ h1 h2; omega
  | succ n ih =>
    intro k d0 e he h1 h2 hp
    have h24 := he.1
    refine pk_le 5 k (fun h => ?_) (fun h => ?_)
    · have z : ea_d (rl_N pa) e = 0 := by omega
      rw [z] at hp; exact hp
    · refine pk_eq e 0 (fun h0 => ?_) (fun h0 => ?_)
      · rw [h0, ea_d_0] at hp; exact hp
      · have ds := ea_d_s H.1 he h0
        refine nm_r (nI_1 d0) ⟨pk_in e 24 h24, nm_r (rl_Pat H he h0) (nm_r (nI_1 k) ?_)⟩
        refine ih (k + 1) (d0 + 1) _ (ea_P H.1 he h0) (by omega) (by omega) ?_
        rw [show d0 + 1 + ea_d (rl_N pa) (rl_N pa e) = d0 + ea_d (rl_N pa) e by omega]; exact hp
theorem xw_depth (H : rl_W ex pa nm fi) {post : Int32 → Prop} {e : Nat} (he : rl_E ex e) (hp : post (nI (ea_d (rl_N pa) e))) : wpX_depthOf post (fc, ec, ex, pa, nm, fi, co, no, kn, cn, ch, nx, bk, mk, dr, sn, lf, rt, wh, fd) (nI e) :=
  ⟨6, xw_depth_l H 6 0 0 e he (by have := ea_d5 H.1 he; omega) (by omega) (by rw [Nat.zero_add]; exact hp)⟩
/-! under -/
theorem xw_under_l (H : rl_W ex pa nm fi) {post : Int32 → Prop} {x : Nat} (hx : x < 24) : ∀ n k y, rl_E ex y → k ≤ 6 → 6 < n + k → ((ea_rF (rl_N pa) (rl_N nm) (6 - k) x y).isSome = true → post 1) → (¬ (ea_rF (rl_N pa) (rl_N nm) (6 - k) x y).isSome = true → post 0) →
    wX_isUnder_5 post (nI x) fc ec ex pa nm fi co no kn cn ch nx bk mk dr sn lf rt wh fd n (nI y) (nI k) := by
  intro n
  induction n with
  | zero => intro k y _ h1 h2; omega
  | succ n ih =>
    intro k y hy h1 h2 hp hn
    have h24 := hy.1
    refine pk_lt 5 k (fun h => ?_) (fun h => ?_)
    · have z : 6 - k = 0 := by omega
      rw [z] at hn; exact hn (by simp [ea_rF])
    · have z : 6 - k = (6 - (k + 1)) + 1 := by omega
      rw [z] at hp hn
      refine pk_eq y x (fun hh => ?_) (fun hh => ?_)
      · subst hh; exact hp (by rw [ea_rF_x]; rfl)
      · refine pk_eq y 0 (fun h0 => ?_) (fun h0 => ?_)
        · subst h0; exact hn (by rw [ea_rF_0 (fun q => hh q.symm)]; simp)
        · refine ⟨pk_in y 24 h24, nm_r (rl_Pat H hy h0) (nm_r (nI_1 k) ?_)⟩
          rw [ea_rF_s hh h0, Option.isSome_map] at hp hn
          exact ih (k + 1) _ (ea_P H.1 hy h0) (by omega) (by omega) hp hn
theorem xw_under (H : rl_W ex pa nm fi) {post : Int32 → Prop} {x e : Nat} (hx : x < 24) (he : rl_E ex e) (hp : ea_U (rl_N pa) (rl_N nm) x e → post 1) (hn : ¬ ea_U (rl_N pa) (rl_N nm) x e → post 0) : wpX_isUnder post (fc, ec, ex, pa, nm, fi, co, no, kn, cn, ch, nx, bk, mk, dr, sn, lf, rt, wh, fd) (nI e) (nI x) :=
  ⟨7, xw_under_l H hx 7 0 e he (by omega) (by omega) hp hn⟩
/-! path -/
theorem xw_path_l (H : rl_W ex pa nm fi) {post : Int32 → Prop} : ∀ n k s w e, rl_E ex e → ea_d (rl_N pa) e + k ≤ 5 → 5 < n + k → post (nI (s + w * ea_c (rl_N pa) (rl_N nm) e)) → wX_path_20 post fc ec ex pa nm fi co no kn cn ch nx bk mk dr sn lf rt wh fd n (nI s) (nI w) (nI e) (nI k) := by
  intro n
  induction n with
  | zero => intro k s w e _ h1 h2; omega
  | succ n ih =>
    intro k s w e he h1 h2 hp
    have h24 := he.1
    have fin : e = 0 → post (nI s) := by
      intro z; rw [z, ea_c_0] at hp; exact hp
    refine pk_le 5 k (fun h => ?_) (fun h => ?_)
    · refine fin ?_
      by_cases z : e = 0
      · exact z
      · have := ea_d_s H.1 he z; omega
    · refine pk_eq e 0 fin (fun h0 => ?_)
      have ds := ea_d_s H.1 he h0
      refine ⟨pk_in e 24 h24, nm_r (e' := nI (s + (rl_N nm e + 1) * w)) ?_ (nm_r (e' := nI (9 * w)) ?_ ⟨pk_in e 24 h24, nm_r (rl_Pat H he h0) (nm_r (nI_1 k) ?_)⟩)⟩
      · rw [rl_Mat H he h0, nI_1, pk_mul, nI_add]
      · rw [Nat.mul_comm]; exact pk_mul w 9
      · refine ih (k + 1) _ _ _ (ea_P H.1 he h0) (by omega) (by omega) ?_
        rw [rb_ring, ← ea_c_s H.1 he h0]; exact hp
theorem xw_path (H : rl_W ex pa nm fi) {post : Int32 → Prop} {e : Nat} (he : rl_E ex e) (hp : post (nI (ea_c (rl_N pa) (rl_N nm) e))) : wpX_path post (fc, ec, ex, pa, nm, fi, co, no, kn, cn, ch, nx, bk, mk, dr, sn, lf, rt, wh, fd) (nI e) := by
  unfold wpX_path
  dsimp only
  refine xg_t he (br_f (by decide) ⟨6, xw_path_l H 6 0 0 1 e he (by have := ea_d5 H.1 he; omega) (by omega) ?_⟩)
  rw [Nat.zero_add, Nat.one_mul]; exact hp
/-! the child of a name -/
theorem xw_child_l (H : rl_W ex pa nm fi) {post : Int32 → Prop} {p m : Nat} (hp24 : p < 24) (hm : m < 2 ^ 31) : ∀ n i, 1 ≤ i → i ≤ 24 → 24 < n + i →
    (∀ e, rl_E ex e → i ≤ e → rl_N pa e = p → rl_N nm e = m → post (nI e)) → ((∀ e, rl_E ex e → i ≤ e → rl_N pa e = p → rl_N nm e ≠ m) → post (-1)) →
    wX_childNamed_2 post (nI p) (nI m) fc ec ex pa nm fi co no kn cn ch nx bk mk dr sn lf rt wh fd n (nI i) := by
  intro n
  induction n with
  | zero => intro i _ h1 h2; omega
  | succ n ih =>
    intro i h0 h1 h2 hs hn
    refine pk_le 24 i (fun h => ?_) (fun h => ?_)
    · exact hn (fun e he hi => absurd he.1 (by omega))
    · have nx : (¬ (rl_E ex i ∧ rl_N pa i = p ∧ rl_N nm i = m)) → wX_childNamed_2 post (nI p) (nI m) fc ec ex pa nm fi co no kn cn ch nx bk mk dr sn lf rt wh fd n (nI (i + 1)) := by
        intro hno
        refine ih (i + 1) (by omega) (by omega) (by omega) (fun e he hi => hs e he (by omega)) (fun hh => hn ?_)
        intro e he hi h3 h4
        by_cases z : e = i
        · subst z; exact hno ⟨he, h3, h4⟩
        · exact hh e he (by omega) h3 h4
      refine ⟨pk_in i 24 h, rb_z (by omega) (fun z => ?_) (fun z => ?_)⟩
      · exact nm_r (nI_1 i) (nx (fun q => q.1.2 z))
      · have he : rl_E ex i := ⟨h, z⟩
        have hi0 : i ≠ 0 := by omega
        have hlt := rl_Plt H he hi0
        have hM := ea_M H.1 he hi0
        refine ⟨pk_in i 24 h, pk_eq (rl_N pa i) p (fun hh => ?_) (fun hh => ?_) (rl_Pat H he hi0)⟩
        · refine ⟨pk_in i 24 h, pk_eq (rl_N nm i) m (fun hh' => ?_) (fun hh' => ?_) (rl_Mat H he hi0)⟩
          · exact hs i he (Nat.le_refl _) hh hh'
          · exact nm_r (nI_1 i) (nx (fun q => hh' q.2.2))
        · exact nm_r (nI_1 i) (nx (fun q => hh q.2.1))
theorem xw_child (H : rl_W ex pa nm fi) {post : Int32 → Prop} {p m : Nat} (hp24 : p < 24) (hm : m < 2 ^ 31)
    (hs : ∀ e, rl_E ex e → e ≠ 0 → rl_N pa e = p → rl_N nm e = m → post (nI e)) (hn : (∀ e, rl_E ex e → e ≠ 0 → rl_N pa e = p → rl_N nm e ≠ m) → post (-1)) :
    wpX_childNamed post (fc, ec, ex, pa, nm, fi, co, no, kn, cn, ch, nx, bk, mk, dr, sn, lf, rt, wh, fd) (nI p) (nI m) :=
  ⟨25, xw_child_l H hp24 hm 25 1 (by omega) (by omega) (by omega) (fun e he hi => hs e he (by omega)) (fun hh => hn (fun e he h0 => hh e he (by omega)))⟩
end
end
section
/-! the reference's readers -/
section
variable {ex fi pa nm co ym ps fs cs ct : Nat → Int32}
theorem yg_t {post : Int32 → Prop} {j : Nat} (h : rl_E ex j) (p : post 0) : wpY_bad post (ex, fi, pa, nm, co, ym, ps, fs, cs, ct) (nI j) := by
  have h1 := h.1
  refine pk_lt j 0 (fun q => absurd q (by omega)) (fun _ => ?_)
  refine pk_lt 23 j (fun q => absurd q (by omega)) (fun _ => ?_)
  exact ⟨pk_in j 24 h1, rb_z (by omega) (fun q => absurd q h.2) (fun _ => p)⟩
theorem yg_f {post : Int32 → Prop} {v : Int32} (h : ∀ j, j < 24 → v = nI j → ex j = 0) (p : post 1) : wpY_bad post (ex, fi, pa, nm, co, ym, ps, fs, cs, ct) v := by
  rcases pk_ix v (n := 24) (by decide) with a | a | ⟨j, hj, rfl⟩
  · exact br_t a p
  · exact br_f (Int32.not_lt.mpr (Int32.le_trans (show (0 : Int32) ≤ nI 24 by decide) a)) (br_t (Int32.lt_of_lt_of_le (show (23 : Int32) < nI 24 by decide) a) p)
  · refine pk_lt j 0 (fun q => absurd q (by omega)) (fun _ => ?_)
    refine pk_lt 23 j (fun q => absurd q (by omega)) (fun _ => ?_)
    exact ⟨pk_in j 24 hj, rb_z (by omega) (fun _ => p) (fun q => absurd (h j hj rfl) q)⟩
theorem ys_t {post : Int32 → Prop} {t : Nat} (h : t < 3) (p : post 0) : wpY_badShot post (ex, fi, pa, nm, co, ym, ps, fs, cs, ct) (nI t) := by
  refine pk_lt t 0 (fun q => absurd q (by omega)) (fun _ => ?_)
  exact pk_le t 2 (fun _ => p) (fun q => absurd q (by omega))
theorem ys_f {post : Int32 → Prop} {v : Int32} (h : v < 0 ∨ (¬ v < 0 ∧ 2 < v)) (p : post 1) : wpY_badShot post (ex, fi, pa, nm, co, ym, ps, fs, cs, ct) v := by
  rcases h with a | ⟨a, b⟩
  · exact br_t a p
  · exact br_f a (br_f (Int32.not_le.mpr b) p)
/-! depth -/
theorem yw_depth_l (H : rl_W ex pa nm fi) {post : Int32 → Prop} : ∀ n k d0 e, rl_E ex e → ea_d (rl_N pa) e + k ≤ 6 → 6 < n + k → post (nI (d0 + ea_d (rl_N pa) e)) → wY_depth_7 post ex fi pa nm co ym ps fs cs ct n (nI d0) (nI e) (nI k) := by
  intro n
  induction n with
  | zero => intro k d0 e _ h1 h2; omega
  | succ n ih =>
    intro k d0 e he h1 h2 hp
    have h24 := he.1
    refine pk_le 6 k (fun h => ?_) (fun h => ?_)
    · have z : ea_d (rl_N pa) e = 0 := by omega
      rw [z] at hp; exact hp
    · refine pk_eq e 0 (fun h0 => ?_) (fun h0 => ?_)
      · refine nm_r (nI_1 k) (ih (k + 1) d0 e he ?_ (by omega) hp)
        rw [h0, ea_d_0]; omega
      · have ds := ea_d_s H.1 he h0
        refine ⟨pk_in e 24 h24, nm_r (rl_Pat H he h0) (nm_r (nI_1 d0) (nm_r (nI_1 k) ?_))⟩
        refine ih (k + 1) (d0 + 1) _ (ea_P H.1 he h0) (by omega) (by omega) ?_
        rw [show d0 + 1 + ea_d (rl_N pa) (rl_N pa e) = d0 + ea_d (rl_N pa) e by omega]; exact hp
theorem yw_depth (H : rl_W ex pa nm fi) {post : Int32 → Prop} {e : Nat} (he : rl_E ex e) (hp : post (nI (ea_d (rl_N pa) e))) : wpY_depth post (ex, fi, pa, nm, co, ym, ps, fs, cs, ct) (nI e) :=
  ⟨7, yw_depth_l H 7 0 0 e he (by have := ea_d5 H.1 he; omega) (by omega) (by rw [Nat.zero_add]; exact hp)⟩
/-! from -/
theorem yw_from_l (H : rl_W ex pa nm fi) {post : Int32 → Prop} {x : Nat} (hx : x < 24) : ∀ n k s w y, rl_E ex y → k ≤ 6 → 6 < n + k → (∀ p, ea_rF (rl_N pa) (rl_N nm) (6 - k) x y = some p → post (nI (s + w * p))) → (ea_rF (rl_N pa) (rl_N nm) (6 - k) x y = none → post (-1)) →
    wY_from_11 post (nI x) ex fi pa nm co ym ps fs cs ct n (nI s) (nI w) (nI y) (nI k) := by
  intro n
  induction n with
  | zero => intro k s w y _ h1 h2; omega
  | succ n ih =>
    intro k s w y hy h1 h2 hp hn
    have h24 := hy.1
    refine pk_le 6 k (fun h => ?_) (fun h => ?_)
    · have z : 6 - k = 0 := by omega
      rw [z] at hn; exact hn rfl
    · have z : 6 - k = (6 - (k + 1)) + 1 := by omega
      rw [z] at hp hn
      refine pk_eq y x (fun hh => ?_) (fun hh => ?_)
      · subst hh
        have := hp 0 ea_rF_x
        rw [Nat.mul_zero, Nat.add_zero] at this; exact this
      · refine pk_eq y 0 (fun h0 => ?_) (fun h0 => ?_)
        · subst h0; exact hn (ea_rF_0 (fun q => hh q.symm))
        · rw [ea_rF_s hh h0] at hp hn
          refine ⟨pk_in y 24 h24, nm_r (e' := nI (s + (rl_N nm y + 1) * w)) ?_ (nm_r (pk_mul 9 w) ⟨pk_in y 24 h24, nm_r (rl_Pat H hy h0) (nm_r (nI_1 k) ?_)⟩)⟩
          · rw [rl_Mat H hy h0, nI_1, pk_mul, nI_add]
          · refine ih (k + 1) _ _ _ (ea_P H.1 hy h0) (by omega) (by omega) ?_ ?_
            · intro p q
              rw [rb_ring]
              exact hp _ (by rw [q]; rfl)
            · intro q; exact hn (by rw [q]; rfl)
theorem yw_from (H : rl_W ex pa nm fi) {post : Int32 → Prop} {x e : Nat} (hx : x < 24) (he : rl_E ex e) (hp : ∀ p, ea_r (rl_N pa) (rl_N nm) x e = some p → post (nI p)) (hn : ea_r (rl_N pa) (rl_N nm) x e = none → post (-1)) : wpY_from post (ex, fi, pa, nm, co, ym, ps, fs, cs, ct) (nI x) (nI e) :=
  ⟨7, yw_from_l H hx 7 0 0 1 e he (by omega) (by omega) (fun p q => by rw [Nat.zero_add, Nat.one_mul]; exact hp p q) hn⟩
theorem yw_from0 (H : rl_W ex pa nm fi) {post : Int32 → Prop} {e : Nat} (he : rl_E ex e) (hp : post (nI (ea_c (rl_N pa) (rl_N nm) e))) : wpY_from post (ex, fi, pa, nm, co, ym, ps, fs, cs, ct) 0 (nI e) := by
  have a := ea_c_r H.1 e he
  refine yw_from (x := 0) H (by omega) he (fun p q => ?_) (fun q => ?_)
  · rw [a] at q; rw [← Option.some.inj q]; exact hp
  · rw [a] at q; exact absurd q (by simp)
/-! the child of a name -/
theorem yw_child_l (H : rl_W ex pa nm fi) {post : Int32 → Prop} {p m : Nat} (hp24 : p < 24) (hm : m < 2 ^ 31) : ∀ n i, 1 ≤ i → i ≤ 24 → 24 < n + i →
    (∀ e, rl_E ex e → i ≤ e → rl_N pa e = p → rl_N nm e = m → post (nI e)) → ((∀ e, rl_E ex e → i ≤ e → rl_N pa e = p → rl_N nm e ≠ m) → post (-1)) →
    wY_child_2 post (nI p) (nI m) ex fi pa nm co ym ps fs cs ct n (nI i) := by
  intro n
  induction n with
  | zero => intro i _ h1 h2; omega
  | succ n ih =>
    intro i h0 h1 h2 hs hn
    refine pk_le 24 i (fun h => ?_) (fun h => ?_)
    · exact hn (fun e he hi => absurd he.1 (by omega))
    · have nx : (¬ (rl_E ex i ∧ rl_N pa i = p ∧ rl_N nm i = m)) → wY_child_2 post (nI p) (nI m) ex fi pa nm co ym ps fs cs ct n (nI (i + 1)) := by
        intro hno
        refine ih (i + 1) (by omega) (by omega) (by omega) (fun e he hi => hs e he (by omega)) (fun hh => hn ?_)
        intro e he hi h3 h4
        by_cases z : e = i
        · subst z; exact hno ⟨he, h3, h4⟩
        · exact hh e he (by omega) h3 h4
      refine ⟨pk_in i 24 h, rb_z (by omega) (fun z => ?_) (fun z => ?_)⟩
      · exact nm_r (nI_1 i) (nx (fun q => q.1.2 z))
      · have he : rl_E ex i := ⟨h, z⟩
        have hi0 : i ≠ 0 := by omega
        have hlt := rl_Plt H he hi0
        have hM := ea_M H.1 he hi0
        refine ⟨pk_in i 24 h, pk_eq (rl_N pa i) p (fun hh => ?_) (fun hh => ?_) (rl_Pat H he hi0)⟩
        · refine ⟨pk_in i 24 h, pk_eq (rl_N nm i) m (fun hh' => ?_) (fun hh' => ?_) (rl_Mat H he hi0)⟩
          · exact hs i he (Nat.le_refl _) hh hh'
          · exact nm_r (nI_1 i) (nx (fun q => hh' q.2.2))
        · exact nm_r (nI_1 i) (nx (fun q => hh q.2.1))
theorem yw_child (H : rl_W ex pa nm fi) {post : Int32 → Prop} {p m : Nat} (hp24 : p < 24) (hm : m < 2 ^ 31)
    (hs : ∀ e, rl_E ex e → e ≠ 0 → rl_N pa e = p → rl_N nm e = m → post (nI e)) (hn : (∀ e, rl_E ex e → e ≠ 0 → rl_N pa e = p → rl_N nm e ≠ m) → post (-1)) :
    wpY_child post (ex, fi, pa, nm, co, ym, ps, fs, cs, ct) (nI p) (nI m) :=
  ⟨25, yw_child_l H hp24 hm 25 1 (by omega) (by omega) (by omega) (fun e he hi => hs e he (by omega)) (fun hh => hn (fun e he h0 => hh e he (by omega)))⟩
/-! find -/
theorem yw_find_l (H : rl_W ex pa nm fi) {post : Int32 → Prop} {v : Int32} : ∀ n i, i ≤ 24 → 24 < n + i →
    (∀ e, rl_E ex e → i ≤ e → nI (ea_c (rl_N pa) (rl_N nm) e) = v → post (nI e)) → ((∀ e, rl_E ex e → i ≤ e → nI (ea_c (rl_N pa) (rl_N nm) e) ≠ v) → post (-1)) →
    wY_find_2 post v ex fi pa nm co ym ps fs cs ct n (nI i) := by
  intro n
  induction n with
  | zero => intro i h1 h2; omega
  | succ n ih =>
    intro i h1 h2 hs hn
    refine pk_le 24 i (fun h => ?_) (fun h => ?_)
    · exact hn (fun e he hi => absurd he.1 (by omega))
    · have nx : (¬ (rl_E ex i ∧ nI (ea_c (rl_N pa) (rl_N nm) i) = v)) → wY_find_2 post v ex fi pa nm co ym ps fs cs ct n (nI (i + 1)) := by
        intro hno
        refine ih (i + 1) (by omega) (by omega) (fun e he hi => hs e he (by omega)) (fun hh => hn ?_)
        intro e he hi h3
        by_cases z : e = i
        · subst z; exact hno ⟨he, h3⟩
        · exact hh e he (by omega) h3
      refine ⟨pk_in i 24 h, rb_z (by omega) (fun z => ?_) (fun z => ?_)⟩
      · exact nm_r (nI_1 i) (nx (fun q => q.1.2 z))
      · have he : rl_E ex i := ⟨h, z⟩
        refine yw_from0 H he (br_c (fun hh => ?_) (fun hh => ?_))
        · exact hs i he (Nat.le_refl _) hh
        · exact nm_r (nI_1 i) (nx (fun q => hh q.2))
theorem yw_find (H : rl_W ex pa nm fi) {post : Int32 → Prop} {v : Int32} (hs : ∀ e, rl_E ex e → nI (ea_c (rl_N pa) (rl_N nm) e) = v → post (nI e)) (hn : (∀ e, rl_E ex e → nI (ea_c (rl_N pa) (rl_N nm) e) ≠ v) → post (-1)) :
    wpY_find post (ex, fi, pa, nm, co, ym, ps, fs, cs, ct) v :=
  ⟨25, yw_find_l H 25 0 (by omega) (by omega) (fun e he _ => hs e he) (fun hh => hn (fun e he => hh e he (Nat.zero_le _)))⟩
/-! the least free place -/
theorem yw_least_l {post : Int32 → Prop} : ∀ n i, 1 ≤ i → i ≤ 24 → 24 < n + i → (∀ e, i ≤ e → e < 24 → ex e = 0 → (∀ j, i ≤ j → j < e → ex j ≠ 0) → post (nI e)) → ((∀ e, i ≤ e → e < 24 → ex e ≠ 0) → post (-1)) →
    wY_leastFree_2 post ex fi pa nm co ym ps fs cs ct n (nI i) := by
  intro n
  induction n with
  | zero => intro i _ h1 h2; omega
  | succ n ih =>
    intro i h0 h1 h2 hs hn
    refine pk_le 24 i (fun h => ?_) (fun h => ?_)
    · exact hn (fun e _ _ => absurd h (by omega))
    · refine ⟨pk_in i 24 h, rb_z (by omega) (fun z => ?_) (fun z => ?_)⟩
      · exact hs i (Nat.le_refl _) h z (fun j _ _ => absurd h (by omega))
      · refine nm_r (nI_1 i) (ih (i + 1) (by omega) (by omega) (by omega) ?_ ?_)
        · intro e h3 h4 h5 h6
          refine hs e (by omega) h4 h5 ?_
          intro j h7 h8
          by_cases q : j = i
          · rw [q]; exact z
          · exact h6 j (by omega) h8
        · intro hh
          refine hn ?_
          intro e h3 h4
          by_cases q : e = i
          · rw [q]; exact z
          · exact hh e (by omega) h4
theorem yw_least {post : Int32 → Prop} (hs : ∀ e, 1 ≤ e → e < 24 → ex e = 0 → (∀ j, 1 ≤ j → j < e → ex j ≠ 0) → post (nI e)) (hn : (∀ e, 1 ≤ e → e < 24 → ex e ≠ 0) → post (-1)) : wpY_leastFree post (ex, fi, pa, nm, co, ym, ps, fs, cs, ct) :=
  ⟨25, yw_least_l 25 1 (by omega) (by omega) (by omega) hs hn⟩
end
/-! how many entries there are -/
def ct_n (f : Nat → Int32) : Nat → Nat
  | 0 => 0
  | k + 1 => ct_n f k + (if f k = 0 then 0 else 1)
theorem ct_z {f : Nat → Int32} {k : Nat} (h : f k = 0) : ct_n f (k + 1) = ct_n f k := by simp [ct_n, h]
theorem ct_s {f : Nat → Int32} {k : Nat} (h : f k ≠ 0) : ct_n f (k + 1) = ct_n f k + 1 := by simp [ct_n, h]
theorem ct_le (f : Nat → Int32) : ∀ k, ct_n f k ≤ k := by
  intro k
  induction k with
  | zero => exact Nat.le_refl _
  | succ k ih =>
    by_cases h : f k = 0
    · rw [ct_z h]; omega
    · rw [ct_s h]; omega
theorem ct_mono (f : Nat → Int32) : ∀ k, ct_n f k ≤ ct_n f (k + 1) := by
  intro k
  by_cases h : f k = 0
  · rw [ct_z h]; omega
  · rw [ct_s h]; omega
theorem ct_full {f : Nat → Int32} : ∀ k, ct_n f k = k → ∀ j, j < k → f j ≠ 0 := by
  intro k
  induction k with
  | zero => intro _ j hj; omega
  | succ k ih =>
    intro h j hj
    by_cases z : f k = 0
    · rw [ct_z z] at h; have := ct_le f k; omega
    · rw [ct_s z] at h
      by_cases q : j = k
      · rw [q]; exact z
      · exact ih (by omega) j (by omega)
theorem ct_all {f : Nat → Int32} : ∀ k, (∀ j, j < k → f j ≠ 0) → ct_n f k = k := by
  intro k
  induction k with
  | zero => intro _; rfl
  | succ k ih => intro h; rw [ct_s (h k (by omega)), ih (fun j hj => h j (by omega))]
theorem ct_eq {f g : Nat → Int32} : ∀ k, (∀ j, j < k → (f j = 0 ↔ g j = 0)) → ct_n f k = ct_n g k := by
  intro k
  induction k with
  | zero => intro _; rfl
  | succ k ih =>
    intro h
    have := ih (fun j hj => h j (by omega))
    by_cases z : f k = 0
    · rw [ct_z z, ct_z ((h k (by omega)).mp z), this]
    · rw [ct_s z, ct_s (fun q => z ((h k (by omega)).mpr q)), this]
theorem ct_add {f : Nat → Int32} {a : Nat} {v : Int32} (ha : f a = 0) (hv : v ≠ 0) : ∀ k, a < k → ct_n (upd f a v) k = ct_n f k + 1 := by
  intro k
  induction k with
  | zero => intro h; omega
  | succ k ih =>
    intro h
    by_cases q : a = k
    · subst q
      have e : ct_n (upd f a v) a = ct_n f a := ct_eq a (fun j hj => by rw [pk_un (by omega)])
      rw [ct_s (by rw [pk_us]; exact hv), ct_z ha, e]
    · have ih' := ih (by omega)
      by_cases z : f k = 0
      · rw [ct_z (by rw [pk_un (by omega)]; exact z), ct_z z, ih']
      · rw [ct_s (by rw [pk_un (by omega)]; exact z), ct_s z, ih']
section
variable {ex fi pa nm co ym ps fs cs ct : Nat → Int32}
theorem yw_entries_l {post : Int32 → Prop} : ∀ n i, i ≤ 24 → 24 < n + i → post (nI (ct_n ex 24)) → wY_entries_4 post ex fi pa nm co ym ps fs cs ct n (nI (ct_n ex i)) (nI i) := by
  intro n
  induction n with
  | zero => intro i h1 h2; omega
  | succ n ih =>
    intro i h1 h2 hp
    refine pk_le 24 i (fun h => ?_) (fun h => ?_)
    · have z : i = 24 := by omega
      rw [z]; exact hp
    · refine ⟨pk_in i 24 h, rb_z (by omega) (fun z => ?_) (fun z => ?_)⟩
      · refine nm_r (nI_1 i) ?_
        have := ih (i + 1) (by omega) (by omega) hp
        rw [ct_z z] at this
        exact this
      · refine nm_r (nI_1 _) (nm_r (nI_1 i) ?_)
        have := ih (i + 1) (by omega) (by omega) hp
        rw [ct_s z] at this
        exact this
theorem yw_entries {post : Int32 → Prop} (hp : post (nI (ct_n ex 24))) : wpY_entries post (ex, fi, pa, nm, co, ym, ps, fs, cs, ct) := ⟨25, yw_entries_l 25 0 (by omega) (by omega) hp⟩
end
end
section
/-! the store's readers, and a chain cut -/
theorem pg_l : ∀ (n : Nat) (l : List Nat), l.Nodup → (∀ a, a ∈ l → a < n) → l.length ≤ n := by
  intro n
  induction n with
  | zero =>
    intro l _ h
    cases l with
    | nil => exact Nat.le_refl _
    | cons a r => exact absurd (h a List.mem_cons_self) (by omega)
  | succ n ih =>
    intro l hd h
    by_cases hn : n ∈ l
    · have h3 := List.length_erase_of_mem hn
      have h4 := ih (l.erase n) (hd.erase n) (by
        intro a ha
        have h1 := h a (List.mem_of_mem_erase ha)
        have h2 : a ≠ n := fun e => by rw [e] at ha; exact (List.Nodup.not_mem_erase hd) ha
        omega)
      omega
    · have := ih l hd (by
        intro a ha
        have h1 := h a ha
        have h2 : a ≠ n := fun e => hn (e ▸ ha)
        omega)
      omega
def rs_c (ch : Nat → Int32) (n m : Nat) : Nat := rl_N ch (8 * n + m)
def rs_S (kn cn ch : Nat → Int32) : Prop := sa_S kn cn (rs_c ch) ∧ (∀ i, i < 1024 → ∃ k, k < 128 ∧ ch i = nI k)
theorem rs_at {kn cn ch : Nat → Int32} (S : rs_S kn cn ch) {n m : Nat} (hn : n < 128) (hm : m < 8) : ch (8 * n + m) = nI (rs_c ch n m) ∧ rs_c ch n m < 128 := by
  obtain ⟨k, hk, e⟩ := S.2 (8 * n + m) (by omega)
  unfold rs_c
  rw [rb_N e (by omega)]
  exact ⟨e, hk⟩
theorem rb_8 (a i : Nat) : (8 : Int32) * nI a + nI i = nI (8 * a + i) := by
  rw [show (8 : Int32) = nI 8 from rfl, pk_mul, nI_add]
def ks_m (d : Nat → Int32) : Nat → Int32 → Int32
  | 0, x => x
  | k + 1, x => (ks_m d k x) * 31 + d k
def ks_f (x : Int32) : Int32 := (((x ^^^ ((x.toUInt32 >>> ((4 : Int32).toUInt32 &&& Int32.toUInt32 31)).toInt32)) ^^^ ((x.toUInt32 >>> ((16 : Int32).toUInt32 &&& Int32.toUInt32 31)).toInt32)) &&& 15)
def ks_k (kd ct : Int32) (d : Nat → Int32) : Int32 := ks_f (ks_m d 8 (kd * 31 + ct))
theorem ks_in (kd ct : Int32) (d : Nat → Int32) : ∃ j, j < 16 ∧ ks_k kd ct d = nI j := pk_andE _ 4 (by decide)
theorem ks_me {d d' : Nat → Int32} (x : Int32) : ∀ k, (∀ m, m < k → d m = d' m) → ks_m d k x = ks_m d' k x := by
  intro k
  induction k with
  | zero => intro _; rfl
  | succ k ih => intro h; simp only [ks_m]; rw [ih (fun m hm => h m (by omega)), h k (by omega)]
theorem ks_e {kd ct : Int32} {d d' : Nat → Int32} (h : ∀ m, m < 8 → d m = d' m) : ks_k kd ct d = ks_k kd ct d' := by
  unfold ks_k; rw [ks_me _ 8 h]
def kc_C (nx : Nat → Int32) : Int32 → List Nat → Prop
  | x, [] => x = 0
  | x, a :: l => x = nI a ∧ a ≠ 0 ∧ a < 128 ∧ kc_C nx (nx a) l
theorem kc_up {nx : Nat → Int32} {a : Nat} {v : Int32} : ∀ (l : List Nat) (x : Int32), kc_C nx x l → a ∉ l → kc_C (upd nx a v) x l := by
  intro l
  induction l with
  | nil => intro x h _; exact h
  | cons b r ih =>
    intro x h hn
    obtain ⟨h1, h2, h3, h4⟩ := h
    have hb : b ≠ a := fun e => hn (e ▸ List.mem_cons_self)
    refine ⟨h1, h2, h3, ?_⟩
    rw [pk_un hb]
    exact ih _ h4 (fun q => hn (List.mem_cons_of_mem _ q))
theorem kc_ag {nx nx' : Nat → Int32} : ∀ (l : List Nat) (x : Int32), kc_C nx x l → (∀ a, a ∈ l → nx' a = nx a) → kc_C nx' x l := by
  intro l
  induction l with
  | nil => intro x h _; exact h
  | cons b r ih =>
    intro x h hn
    obtain ⟨h1, h2, h3, h4⟩ := h
    refine ⟨h1, h2, h3, ?_⟩
    rw [hn b List.mem_cons_self]
    exact ih _ h4 (fun a q => hn a (List.mem_cons_of_mem _ q))
theorem kc_lt {nx : Nat → Int32} : ∀ (l : List Nat) (x : Int32), kc_C nx x l → ∀ a, a ∈ l → a ≠ 0 ∧ a < 128 := by
  intro l
  induction l with
  | nil => intro x _ a ha; cases ha
  | cons b r ih =>
    intro x h a ha
    obtain ⟨h1, h2, h3, h4⟩ := h
    rcases List.mem_cons.mp ha with e | e
    · subst e; exact ⟨h2, h3⟩
    · exact ih _ h4 a e
theorem kc_len {nx : Nat → Int32} {x : Int32} {l : List Nat} (h : kc_C nx x l) (hd : l.Nodup) : l.length ≤ 127 := by
  have z : (0 :: l).Nodup := List.nodup_cons.mpr ⟨fun q => (kc_lt l x h 0 q).1 rfl, hd⟩
  have := pg_l 128 (0 :: l) z (by
    intro a ha
    rcases List.mem_cons.mp ha with e | e
    · omega
    · exact (kc_lt l x h a e).2)
  simp only [List.length_cons] at this
  omega
def ks_n (kn cn ch : Nat → Int32) (a : Nat) : Int32 := ks_k (kn a) (cn a) (fun m => ch (8 * a + m))
def kb_B (kn cn ch nx bk : Nat → Int32) : Prop := ∃ L : Nat → List Nat, ∀ k, k < 16 → kc_C nx (bk k) (L k) ∧ (L k).Nodup ∧ ∀ a, a ∈ L k ↔ (sa_V kn a ∧ ks_n kn cn ch a = nI k)
section
variable {fc ec : Int32} {ex pa nm fi co no kn cn ch nx bk mk dr sn lf rt wh fd : Nat → Int32}
theorem xw_key_l {post : Int32 → Prop} {x0 : Int32} : ∀ n i, i ≤ 8 → 8 < n + i → post (ks_f (ks_m dr 8 x0)) → wX_keyOf_10 post fc ec ex pa nm fi co no kn cn ch nx bk mk dr sn lf rt wh fd n (ks_m dr i x0) (nI i) := by
  intro n
  induction n with
  | zero => intro i h1 h2; omega
  | succ n ih =>
    intro i h1 h2 hp
    refine pk_le 8 i (fun h => ?_) (fun h => ?_)
    · have z : i = 8 := by omega
      rw [z]; exact hp
    · refine ⟨pk_in i 8 h, nm_r (e' := ks_m dr (i + 1) x0) ?_ (nm_r (nI_1 i) (ih (i + 1) (by omega) (by omega) hp))⟩
      rw [nI_clamp (by omega)]; rfl
theorem xw_key {post : Int32 → Prop} {kd ct : Int32} (hp : post (ks_k kd ct dr)) : wpX_keyOf post (fc, ec, ex, pa, nm, fi, co, no, kn, cn, ch, nx, bk, mk, dr, sn, lf, rt, wh, fd) kd ct :=
  nm_e ⟨9, xw_key_l (x0 := kd * 31 + ct) 9 0 (by omega) (by omega) hp⟩
def ks_S (kn cn ch dr : Nat → Int32) (kd ct : Int32) (a : Nat) : Prop := kn a = kd ∧ cn a = ct ∧ ∀ m, m < 8 → ch (8 * a + m) = dr m
theorem xw_same_l {post : Int32 → Prop} {a : Nat} (ha : a < 128) : ∀ n i, i ≤ 8 → 8 < n + i → (∀ m, m < i → ch (8 * a + m) = dr m) → ((∀ m, m < 8 → ch (8 * a + m) = dr m) → post 1) → (¬ (∀ m, m < 8 → ch (8 * a + m) = dr m) → post 0) →
    wX_isSame_25 post (nI a) fc ec ex pa nm fi co no kn cn ch nx bk mk dr sn lf rt wh fd n (nI i) := by
  intro n
  induction n with
  | zero => intro i h1 h2; omega
  | succ n ih =>
    intro i h1 h2 hi hp hn
    refine pk_le 8 i (fun h => ?_) (fun h => ?_)
    · exact hp (fun m hm => hi m (by omega))
    · rw [rb_8, nI_clamp (by omega), nI_clamp (by omega)]
      refine ⟨pk_in (8 * a + i) 1024 (by omega), pk_in i 8 h, br_c (fun z => ?_) (fun z => ?_)⟩
      · refine nm_r (nI_1 i) (ih (i + 1) (by omega) (by omega) ?_ hp hn)
        intro m hm
        by_cases q : m = i
        · rw [q]; exact z
        · exact hi m (by omega)
      · exact hn (fun q => z (q i h))
theorem xw_same {post : Int32 → Prop} {a : Nat} {kd ct : Int32} (ha : a < 128) (hp : ks_S kn cn ch dr kd ct a → post 1) (hn : ¬ ks_S kn cn ch dr kd ct a → post 0) : wpX_isSame post (fc, ec, ex, pa, nm, fi, co, no, kn, cn, ch, nx, bk, mk, dr, sn, lf, rt, wh, fd) (nI a) kd ct := by
  unfold wpX_isSame
  dsimp only
  rw [nI_clamp (by omega)]
  refine ⟨pk_in a 128 ha, br_c (fun z1 => ⟨pk_in a 128 ha, br_c (fun z2 => ⟨9, ?_⟩) (fun z2 => hn (fun q => z2 q.2.1))⟩) (fun z1 => hn (fun q => z1 q.1))⟩
  exact xw_same_l ha 9 0 (by omega) (by omega) (fun m hm => absurd hm (by omega)) (fun q => hp ⟨z1, z2, q⟩) (fun q => hn (fun r => q r.2.2))
theorem xw_look_l {post : Int32 → Prop} {kd ct : Int32} : ∀ n l k x, kc_C nx x l → l.length + k ≤ 127 → l.length < n → (∀ a, a ∈ l → ks_S kn cn ch dr kd ct a → post (nI a)) → ((∀ a, a ∈ l → ¬ ks_S kn cn ch dr kd ct a) → post 0) →
    wX_lookFor_11 post kd ct fc ec ex pa nm fi co no kn cn ch nx bk mk dr sn lf rt wh fd n x (nI k) := by
  intro n
  induction n with
  | zero => intro l k x _ _ h; omega
  | succ n ih =>
    intro l k x hc h1 h2 hs hn
    refine pk_le 128 k (fun h => absurd h (by omega)) (fun h => ?_)
    cases l with
    | nil => exact br_t hc (hn (fun a ha => nomatch ha))
    | cons a r =>
      obtain ⟨c1, c2, c3, c4⟩ := hc
      subst c1
      simp only [List.length_cons] at h1 h2
      refine pk_eq a 0 (fun z => absurd z c2) (fun _ => ?_)
      refine xw_same c3 (fun z => br_f (by decide) (hs a List.mem_cons_self z)) (fun z => br_t rfl ⟨pk_in a 128 c3, nm_r (e' := nx a) (rb_at (by omega)) (nm_r (nI_1 k) ?_)⟩)
      refine ih r (k + 1) (nx a) c4 (by omega) (by omega) (fun b hb => hs b (List.mem_cons_of_mem _ hb)) (fun hh => hn ?_)
      intro b hb
      rcases List.mem_cons.mp hb with e | e
      · rw [e]; exact z
      · exact hh b e
theorem xw_look {post : Int32 → Prop} {kd ct : Int32} {k : Nat} (hk : k < 16) (B : kb_B kn cn ch nx bk) (hkey : ks_k kd ct dr = nI k)
    (hs : ∀ a, sa_V kn a → ks_S kn cn ch dr kd ct a → post (nI a)) (hn : (∀ a, sa_V kn a → ¬ ks_S kn cn ch dr kd ct a) → post 0) : wpX_lookFor post (fc, ec, ex, pa, nm, fi, co, no, kn, cn, ch, nx, bk, mk, dr, sn, lf, rt, wh, fd) (nI k) kd ct := by
  obtain ⟨L, hL⟩ := B
  obtain ⟨h1, h2, h3⟩ := hL k hk
  have hlen := kc_len h1 h2
  refine ⟨pk_in k 16 hk, nm_r (e' := bk k) (rb_at (by omega)) ⟨128, xw_look_l 128 (L k) 0 (bk k) h1 (by omega) (by omega) (fun a ha => hs a ((h3 a).mp ha).1) (fun hh => hn ?_)⟩⟩
  intro a hv hsame
  refine hh a ((h3 a).mpr ⟨hv, ?_⟩) hsame
  rw [← hkey]
  unfold ks_n
  rw [hsame.1, hsame.2.1]
  exact ks_e hsame.2.2
theorem xw_free_l {post : Int32 → Prop} : ∀ n i, 1 ≤ i → i ≤ 128 → 128 < n + i → (∀ a, i ≤ a → a < 128 → kn a = 0 → post (nI a)) → ((∀ a, i ≤ a → a < 128 → kn a ≠ 0) → post 0) → wX_freeNode_2 post fc ec ex pa nm fi co no kn cn ch nx bk mk dr sn lf rt wh fd n (nI i) := by
  intro n
  induction n with
  | zero => intro i _ h1 h2; omega
  | succ n ih =>
    intro i h0 h1 h2 hs hn
    refine pk_le 128 i (fun h => ?_) (fun h => ?_)
    · exact hn (fun a ha hb => absurd hb (by omega))
    · refine ⟨pk_in i 128 h, rb_z (by omega) (fun z => hs i (Nat.le_refl _) h z) (fun z => nm_r (nI_1 i) ?_)⟩
      refine ih (i + 1) (by omega) (by omega) (by omega) (fun a ha => hs a (by omega)) (fun hh => hn ?_)
      intro a ha hb
      by_cases q : a = i
      · rw [q]; exact z
      · exact hh a (by omega) hb
theorem xw_free {post : Int32 → Prop} (hs : ∀ a, a ≠ 0 → a < 128 → kn a = 0 → post (nI a)) (hn : (∀ a, a ≠ 0 → a < 128 → kn a ≠ 0) → post 0) : wpX_freeNode post (fc, ec, ex, pa, nm, fi, co, no, kn, cn, ch, nx, bk, mk, dr, sn, lf, rt, wh, fd) :=
  ⟨128, xw_free_l 128 1 (by omega) (by omega) (by omega) (fun a ha => hs a (by omega)) (fun hh => hn (fun a ha => hh a (by omega)))⟩
theorem xw_kept_l {post : Int32 → SX → Prop} : ∀ n l acc k x chain nx, kc_C nx x l → l.Nodup → kc_C nx chain acc → acc.Nodup → (∀ a, a ∈ l → a ∉ acc) → l.length + k ≤ 127 → l.length < n →
    (∀ nx' chain' acc', (∀ a, a ∉ l → nx' a = nx a) → kc_C nx' chain' acc' → acc'.Nodup → (∀ a, a ∈ acc' ↔ (a ∈ acc ∨ (a ∈ l ∧ mk a ≠ 0))) → post chain' (fc, ec, ex, pa, nm, fi, co, no, kn, cn, ch, nx', bk, mk, dr, sn, lf, rt, wh, fd)) →
    wX_keptChain_7 post fc ec n chain x (nI k) ex pa nm fi co no kn cn ch nx bk mk dr sn lf rt wh fd := by
  intro n
  induction n with
  | zero => intro l acc k x chain nx _ _ _ _ _ _ h; omega
  | succ n ih =>
    intro l acc k x chain nx hc hd hca hda hdis h1 h2 hp
    refine pk_le 128 k (fun h => absurd h (by omega)) (fun h => ?_)
    cases l with
    | nil => exact br_t hc (hp nx chain acc (fun _ _ => rfl) hca hda (fun a => ⟨Or.inl, fun q => q.elim id (fun z => nomatch z.1)⟩))
    | cons a r =>
      obtain ⟨c1, c2, c3, c4⟩ := hc
      subst c1
      simp only [List.length_cons] at h1 h2
      obtain ⟨d1, d2⟩ := List.nodup_cons.mp hd
      refine pk_eq a 0 (fun z => absurd z c2) (fun _ => ?_)
      refine ⟨pk_in a 128 c3, nm_r (e' := nx a) (rb_at (by omega)) ⟨pk_in a 128 c3, rb_z (by omega) (fun z => ?_) (fun z => ?_)⟩⟩
      · refine nm_r (nI_1 k) (ih r acc (k + 1) (nx a) chain nx c4 d2 hca hda (fun b hb => hdis b (List.mem_cons_of_mem _ hb)) (by omega) (by omega) ?_)
        intro nx' chain' acc' g1 g2 g3 g4
        refine hp nx' chain' acc' (fun b hb => g1 b (fun q => hb (List.mem_cons_of_mem _ q))) g2 g3 ?_
        intro b
        rw [g4 b]
        constructor
        · intro q; exact q.imp id (fun w => ⟨List.mem_cons_of_mem _ w.1, w.2⟩)
        · intro q
          refine q.imp id (fun w => ⟨?_, w.2⟩)
          rcases List.mem_cons.mp w.1 with e | e
          · rw [e] at w; exact absurd z w.2
          · exact e
      · have hac := hdis a List.mem_cons_self
        refine ⟨pk_in a 128 c3, nm_r (e' := upd nx a chain) (by rw [nI_clamp (by omega)]) (nm_r (nI_1 k) ?_)⟩
        refine ih r (a :: acc) (k + 1) (nx a) (nI a) (upd nx a chain) (kc_up r _ c4 d1) d2 ⟨rfl, c2, c3, by rw [pk_us]; exact kc_up acc _ hca hac⟩ (List.nodup_cons.mpr ⟨hac, hda⟩) ?_ (by omega) (by omega) ?_
        · intro b hb q
          rcases List.mem_cons.mp q with e | e
          · rw [e] at hb; exact d1 hb
          · exact hdis b (List.mem_cons_of_mem _ hb) e
        · intro nx' chain' acc' g1 g2 g3 g4
          refine hp nx' chain' acc' ?_ g2 g3 ?_
          · intro b hb
            have hba : b ≠ a := fun e => hb (by rw [e]; exact List.mem_cons_self)
            rw [g1 b (fun q => hb (List.mem_cons_of_mem _ q)), pk_un hba]
          · intro b
            rw [g4 b]
            constructor
            · intro q
              rcases q with q | q
              · rcases List.mem_cons.mp q with e | e
                · rw [e]; exact Or.inr ⟨List.mem_cons_self, z⟩
                · exact Or.inl e
              · exact Or.inr ⟨List.mem_cons_of_mem _ q.1, q.2⟩
            · intro q
              rcases q with q | ⟨q, w⟩
              · exact Or.inl (List.mem_cons_of_mem _ q)
              · rcases List.mem_cons.mp q with e | e
                · rw [e]; exact Or.inl List.mem_cons_self
                · exact Or.inr ⟨e, w⟩
theorem xw_kept {post : Int32 → SX → Prop} {x : Int32} {l : List Nat} (hc : kc_C nx x l) (hd : l.Nodup)
    (hp : ∀ nx' chain' acc', (∀ a, a ∉ l → nx' a = nx a) → kc_C nx' chain' acc' → acc'.Nodup → (∀ a, a ∈ acc' ↔ (a ∈ l ∧ mk a ≠ 0)) → post chain' (fc, ec, ex, pa, nm, fi, co, no, kn, cn, ch, nx', bk, mk, dr, sn, lf, rt, wh, fd)) : wpX_keptChain post (fc, ec, ex, pa, nm, fi, co, no, kn, cn, ch, nx, bk, mk, dr, sn, lf, rt, wh, fd) x := by
  have hlen := kc_len hc hd
  refine ⟨128, xw_kept_l 128 l [] 0 x 0 nx hc hd rfl List.nodup_nil (fun _ _ q => nomatch q) (by omega) (by omega) ?_⟩
  intro nx' chain' acc' g1 g2 g3 g4
  refine hp nx' chain' acc' g1 g2 g3 ?_
  intro a
  rw [g4 a]
  exact ⟨fun q => q.elim (fun z => nomatch z) id, Or.inr⟩
end
end
section
/-! the sweep -/
theorem mk_1 {mk : Nat → Int32} {j i : Nat} : upd mk j (vp_nar .boolean 1) i ≠ 0 ↔ (i = j ∨ mk i ≠ 0) := by
  by_cases h : i = j
  · subst h; rw [pk_us]; exact ⟨fun _ => Or.inl rfl, fun _ => by decide⟩
  · rw [pk_un h]; exact ⟨Or.inr, fun q => q.resolve_left h⟩
/-- no more is marked than lives -/
def mk_S (LV : Nat → Prop) (mk : Nat → Int32) : Prop := ∀ j, j < 128 → mk j ≠ 0 → j = 0 ∨ LV j
theorem mk_Su {LV : Nat → Prop} {mk : Nat → Int32} {j : Nat} (h : mk_S LV mk) (hj : j = 0 ∨ LV j) : mk_S LV (upd mk j (vp_nar .boolean 1)) := by
  intro i hi hm
  rcases mk_1.mp hm with e | e
  · rw [e]; exact hj
  · exact h i hi e
section
variable {fc ec : Int32} {ex pa nm fi co no kn cn ch nx bk mk dr sn lf rt wh fd : Nat → Int32}
/-! the last loop: what is not marked is freed -/
theorem xw_sw205 {post : SX → Prop} : ∀ n i kn, 1 ≤ i → i ≤ 128 → 128 < n + i →
    (∀ kn', (∀ j, j < 128 → i ≤ j → mk j = 0 → kn' j = 0) → (∀ j, (j < i ∨ 128 ≤ j ∨ mk j ≠ 0) → kn' j = kn j) → post (fc, ec, ex, pa, nm, fi, co, no, kn', cn, ch, nx, bk, mk, dr, sn, lf, rt, wh, fd)) → wX_sweep_205 post fc ec n (nI i) ex pa nm fi co no kn cn ch nx bk mk dr sn lf rt wh fd := by
  intro n
  induction n with
  | zero => intro i kn _ h1 h2; omega
  | succ n ih =>
    intro i kn h0 h1 h2 hp
    refine pk_le 128 i (fun h => ?_) (fun h => ?_)
    · exact hp kn (fun j hj hi => absurd hj (by omega)) (fun _ _ => rfl)
    · refine ⟨pk_in i 128 h, rb_z (by omega) (fun z => ?_) (fun z => ?_)⟩
      · refine ⟨pk_in i 128 h, nm_r (e' := upd kn i 0) (by rw [nI_clamp (by omega)]) (nm_r (nI_1 i) (ih (i + 1) _ (by omega) (by omega) (by omega) ?_))⟩
        intro kn' g1 g2
        refine hp kn' ?_ ?_
        · intro j hj hi hm
          by_cases q : j = i
          · rw [g2 j (Or.inl (by omega)), q, pk_us]
          · exact g1 j hj (by omega) hm
        · intro j hj
          have q : j ≠ i := by
            intro e; subst e
            rcases hj with w | w | w
            · omega
            · omega
            · exact w z
          rw [g2 j (by rcases hj with w | w | w; exact Or.inl (by omega); exact Or.inr (Or.inl w); exact Or.inr (Or.inr w)), pk_un q]
      · refine nm_r (nI_1 i) (ih (i + 1) _ (by omega) (by omega) (by omega) ?_)
        intro kn' g1 g2
        refine hp kn' ?_ ?_
        · intro j hj hi hm
          by_cases q : j = i
          · rw [q] at hm; exact absurd hm z
          · exact g1 j hj (by omega) hm
        · intro j hj
          refine g2 j ?_
          rcases hj with w | w | w
          · exact Or.inl (by omega)
          · exact Or.inr (Or.inl w)
          · exact Or.inr (Or.inr w)
/-- the chains: of the first k keys only the marked nodes -/
def sw_B (kn cn ch mk nx bk : Nat → Int32) (i : Nat) : Prop :=
  ∃ L : Nat → List Nat, ∀ k, k < 16 → kc_C nx (bk k) (L k) ∧ (L k).Nodup ∧ ∀ a, a ∈ L k ↔ (sa_V kn a ∧ ks_n kn cn ch a = nI k ∧ (k < i → mk a ≠ 0))
theorem xw_sw175 {post : SX → Prop} : ∀ n i nx bk, i ≤ 16 → 16 < n + i → sw_B kn cn ch mk nx bk i →
    (∀ nx' bk', sw_B kn cn ch mk nx' bk' 16 → ∃ n205, wX_sweep_205 post fc ec n205 1 ex pa nm fi co no kn cn ch nx' bk' mk dr sn lf rt wh fd) → wX_sweep_175 post n (nI i) fc ec ex pa nm fi co no kn cn ch nx bk mk dr sn lf rt wh fd := by
  intro n
  induction n with
  | zero => intro i nx bk h1 h2; omega
  | succ n ih =>
    intro i nx bk h1 h2 hB hp
    refine pk_le 16 i (fun h => ?_) (fun h => ?_)
    · have z : i = 16 := by omega
      rw [z] at hB
      exact hp nx bk hB
    · obtain ⟨L, hL⟩ := hB
      obtain ⟨b1, b2, b3⟩ := hL i h
      refine ⟨pk_in i 16 h, ?_⟩
      rw [nI_clamp (by omega)]
      refine xw_kept b1 b2 ?_
      intro nx' chain' acc' g1 g2 g3 g4
      refine ⟨pk_in i 16 h, nm_r (e' := upd bk i chain') rfl (nm_r (nI_1 i) (ih (i + 1) nx' (upd bk i chain') (by omega) (by omega) ?_ hp))⟩
      refine ⟨fun k => if k = i then acc' else L k, ?_⟩
      intro k hk
      obtain ⟨c1, c2, c3⟩ := hL k hk
      by_cases q : k = i
      · subst q
        show kc_C nx' (upd bk k chain' k) (if k = k then acc' else L k) ∧ (if k = k then acc' else L k).Nodup ∧ ∀ a, a ∈ (if k = k then acc' else L k) ↔ _
        rw [if_pos rfl, pk_us]
        refine ⟨g2, g3, ?_⟩
        intro a
        rw [g4 a, b3 a]
        constructor
        · intro w; exact ⟨w.1.1, w.1.2.1, fun _ => w.2⟩
        · intro w; exact ⟨⟨w.1, w.2.1, fun r => absurd r (by omega)⟩, w.2.2 (by omega)⟩
      · show kc_C nx' (upd bk i chain' k) (if k = i then acc' else L k) ∧ (if k = i then acc' else L k).Nodup ∧ ∀ a, a ∈ (if k = i then acc' else L k) ↔ _
        rw [if_neg q, pk_un q]
        refine ⟨kc_ag (L k) _ c1 ?_, c2, ?_⟩
        · intro a ha
          refine g1 a (fun hb => q ?_)
          have e1 := ((c3 a).mp ha).2.1
          have e2 := ((b3 a).mp hb).2.1
          rw [e1] at e2
          exact (nI_eq (by omega) (by omega)).mp e2
        · intro a
          rw [c3 a]
          constructor
          · intro w; exact ⟨w.1, w.2.1, fun r => w.2.2 (by omega)⟩
          · intro w; exact ⟨w.1, w.2.1, fun r => w.2.2 (by omega)⟩
/-! one round of marking -/
theorem xw_sw117 {post : SX → Prop} {J : Int32 → (Nat → Int32) → (Nat → Int32) → (Nat → Int32) → (Nat → Int32) → (Nat → Int32) → (Nat → Int32) → (Nat → Int32) → (Nat → Int32) → (Nat → Int32) → (Nat → Int32) → (Nat → Int32) → (Nat → Int32) → (Nat → Int32) → (Nat → Int32) → (Nat → Int32) → (Nat → Int32) → (Nat → Int32) → (Nat → Int32) → Prop}
    {LV : Nat → Prop} {r : Nat} {mk0 : Nat → Int32} (hch : ∀ i, i < 1024 → ∃ k, k < 128 ∧ ch i = nI k) (hcl : ∀ a m, a < 128 → m < 8 → LV a → kn a = 2 → rs_c ch a m = 0 ∨ LV (rs_c ch a m)) (h0 : kn 0 = 0) :
    ∀ n i mk, i ≤ 1024 → 1024 < n + i → mk_S LV mk → (∀ j, mk0 j ≠ 0 → mk j ≠ 0) → (∀ j, j < i → mk0 (j / 8) ≠ 0 → kn (j / 8) = 2 → mk (rl_N ch j) ≠ 0) →
    (∀ mk', mk_S LV mk' → (∀ j, mk0 j ≠ 0 → mk' j ≠ 0) → (∀ j, j < 1024 → mk0 (j / 8) ≠ 0 → kn (j / 8) = 2 → mk' (rl_N ch j) ≠ 0) → J (nI (r + 1)) ex pa nm fi co no kn cn ch nx bk mk' dr sn lf rt wh fd) →
    wX_sweep_117 post J (nI r) fc ec n (nI i) ex pa nm fi co no kn cn ch nx bk mk dr sn lf rt wh fd := by
  intro n
  induction n with
  | zero => intro i mk h1 h2; omega
  | succ n ih =>
    intro i mk h1 h2 hS hM hD hp
    refine pk_le 1024 i (fun h => ?_) (fun h => ?_)
    · have z : i = 1024 := by omega
      rw [z] at hD
      exact nm_r (nI_1 r) (hp mk hS hM hD)
    · have hd : nI i / 8 = nI (i / 8) := pk_div (d := 8) (by omega) (by omega) (by omega)
      have hi8 : i / 8 < 128 := by omega
      obtain ⟨k, hk, ek⟩ := hch i h
      have eN : rl_N ch i = k := rb_N ek (by omega)
      have skip : (¬ (mk (i / 8) ≠ 0 ∧ kn (i / 8) = 2)) → wX_sweep_117 post J (nI r) fc ec n (nI (i + 1)) ex pa nm fi co no kn cn ch nx bk mk dr sn lf rt wh fd := by
        intro hno
        refine ih (i + 1) mk (by omega) (by omega) hS hM ?_ hp
        intro j hj h3 h4
        by_cases q : j = i
        · rw [q] at h3 h4; exact absurd ⟨hM _ h3, h4⟩ hno
        · exact hD j (by omega) h3 h4
      refine ⟨by decide, ?_⟩
      rw [hd, nI_clamp (show i / 8 < 2 ^ 31 by omega)]
      refine ⟨pk_in (i / 8) 128 hi8, br_c (fun z => nm_r (nI_1 i) (skip (fun q => q.1 z))) (fun z => ⟨by decide, pk_in (i / 8) 128 hi8, br_c (fun z2 => ?_) (fun z2 => nm_r (nI_1 i) (skip (fun q => z2 q.2)))⟩)⟩
      have hlive : LV (i / 8) := (hS _ hi8 z).resolve_left (fun e => by rw [e, h0] at z2; exact absurd z2 (by decide))
      have hk0 : k = 0 ∨ LV k := by
        have := hcl (i / 8) (i % 8) hi8 (by omega) hlive z2
        unfold rs_c at this
        rw [show 8 * (i / 8) + i % 8 = i by omega, eN] at this
        exact this
      refine ⟨pk_in i 1024 h, ?_⟩
      rw [nI_clamp (show i < 2 ^ 31 by omega), ek, nI_clamp (show k < 2 ^ 31 by omega)]
      refine ⟨pk_in k 128 hk, nm_r (e' := upd mk k (vp_nar .boolean 1)) rfl (nm_r (nI_1 i) ?_)⟩
      refine ih (i + 1) _ (by omega) (by omega) (mk_Su hS hk0) (fun j hj => mk_1.mpr (Or.inr (hM j hj))) ?_ hp
      intro j hj h3 h4
      refine mk_1.mpr ?_
      by_cases q : j = i
      · rw [q]; exact Or.inl eN
      · exact Or.inr (hD j (by omega) h3 h4)
theorem xw_sw110 {post : SX → Prop} {LV : Nat → Prop} {Z : Nat → Nat → Prop} (hch : ∀ i, i < 1024 → ∃ k, k < 128 ∧ ch i = nI k) (hcl : ∀ a m, a < 128 → m < 8 → LV a → kn a = 2 → rs_c ch a m = 0 ∨ LV (rs_c ch a m)) (h0 : kn 0 = 0)
    (hZ : ∀ r a, Z (r + 1) a → Z r a ∨ ∃ b m, b < 128 ∧ m < 8 ∧ Z r b ∧ kn b = 2 ∧ a = rs_c ch b m) {mk0 : Nat → Int32} :
    ∀ n r mk, r ≤ 6 → 6 < n + r → mk_S LV mk → (∀ j, mk0 j ≠ 0 → mk j ≠ 0) → (∀ a, Z r a → mk a ≠ 0) →
    (∀ mk', mk_S LV mk' → (∀ j, mk0 j ≠ 0 → mk' j ≠ 0) → (∀ a, Z 6 a → mk' a ≠ 0) → ∃ n175, wX_sweep_175 post n175 0 fc ec ex pa nm fi co no kn cn ch nx bk mk' dr sn lf rt wh fd) → wX_sweep_110 post fc ec n (nI r) ex pa nm fi co no kn cn ch nx bk mk dr sn lf rt wh fd := by
  intro n
  induction n with
  | zero => intro r mk h1 h2; omega
  | succ n ih =>
    intro r mk h1 h2 hS hM hz hp
    refine pk_lt 5 r (fun h => ?_) (fun h => ?_)
    · have z : r = 6 := by omega
      rw [z] at hz
      exact hp mk hS hM hz
    · refine ⟨1025, xw_sw117 (LV := LV) (mk0 := mk) hch hcl h0 1025 0 mk (by omega) (by omega) hS (fun _ q => q) (fun j hj => absurd hj (by omega)) ?_⟩
      intro mk' g1 g2 g3
      refine ih (r + 1) mk' (by omega) (by omega) g1 (fun j hj => g2 j (hM j hj)) ?_ hp
      intro a ha
      rcases hZ r a ha with w | ⟨b, m, w1, w2, w3, w4, w5⟩
      · exact g2 a (hz a w)
      · have := g3 (8 * b + m) (by omega)
        rw [show (8 * b + m) / 8 = b by omega] at this
        rw [w5]
        exact this (hz b w3) w4
/-! the roots of the marking -/
theorem xw_sw84 {post : SX → Prop} {LV : Nat → Prop} (hdr : ∀ m, m < 8 → ∃ k, k < 128 ∧ dr m = nI k ∧ (k = 0 ∨ LV k)) {mk0 : Nat → Int32} : ∀ n i mk, i ≤ 8 → 8 < n + i → mk_S LV mk → (∀ j, mk0 j ≠ 0 → mk j ≠ 0) →
    (∀ mk', mk_S LV mk' → (∀ j, mk0 j ≠ 0 → mk' j ≠ 0) → ∃ n110, wX_sweep_110 post fc ec n110 0 ex pa nm fi co no kn cn ch nx bk mk' dr sn lf rt wh fd) → wX_sweep_84 post fc ec n (nI i) ex pa nm fi co no kn cn ch nx bk mk dr sn lf rt wh fd := by
  intro n
  induction n with
  | zero => intro i mk h1 h2; omega
  | succ n ih =>
    intro i mk h1 h2 hS hM hp
    refine pk_le 8 i (fun h => hp mk hS hM) (fun h => ?_)
    obtain ⟨k, hk, ek, hl⟩ := hdr i h
    refine ⟨pk_in i 8 h, ?_⟩
    rw [nI_clamp (show i < 2 ^ 31 by omega), ek, nI_clamp (show k < 2 ^ 31 by omega)]
    refine ⟨pk_in k 128 hk, nm_r (e' := upd mk k (vp_nar .boolean 1)) rfl (nm_r (nI_1 i) ?_)⟩
    exact ih (i + 1) _ (by omega) (by omega) (mk_Su hS hl) (fun j hj => mk_1.mpr (Or.inr (hM j hj))) hp
theorem xw_sw49 {post : SX → Prop} {LV : Nat → Prop} (hno : ∀ e, rl_E ex e → ∃ k, k < 128 ∧ no e = nI k ∧ (k = 0 ∨ LV k)) {mk0 : Nat → Int32} : ∀ n i mk, i ≤ 24 → 24 < n + i → mk_S LV mk → (∀ j, mk0 j ≠ 0 → mk j ≠ 0) →
    (∀ e, rl_E ex e → e < i → mk (rl_N no e) ≠ 0) →
    (∀ mk', mk_S LV mk' → (∀ j, mk0 j ≠ 0 → mk' j ≠ 0) → (∀ e, rl_E ex e → mk' (rl_N no e) ≠ 0) → ∃ n84, wX_sweep_84 post fc ec n84 0 ex pa nm fi co no kn cn ch nx bk mk' dr sn lf rt wh fd) → wX_sweep_49 post fc ec n (nI i) ex pa nm fi co no kn cn ch nx bk mk dr sn lf rt wh fd := by
  intro n
  induction n with
  | zero => intro i mk h1 h2; omega
  | succ n ih =>
    intro i mk h1 h2 hS hM hD hp
    refine pk_le 24 i (fun h => hp mk hS hM (fun e he => hD e he (by have := he.1; omega))) (fun h => ?_)
    refine ⟨pk_in i 24 h, rb_z (by omega) (fun z => ?_) (fun z => ?_)⟩
    · refine nm_r (nI_1 i) (ih (i + 1) mk (by omega) (by omega) hS hM ?_ hp)
      intro e he hi
      by_cases q : e = i
      · rw [q] at he; exact absurd z he.2
      · exact hD e he (by omega)
    · obtain ⟨k, hk, ek, hl⟩ := hno i ⟨h, z⟩
      have eN : rl_N no i = k := rb_N ek (by omega)
      refine ⟨pk_in i 24 h, ?_⟩
      rw [nI_clamp (show i < 2 ^ 31 by omega), ek, nI_clamp (show k < 2 ^ 31 by omega)]
      refine ⟨pk_in k 128 hk, nm_r (e' := upd mk k (vp_nar .boolean 1)) rfl (nm_r (nI_1 i) ?_)⟩
      refine ih (i + 1) _ (by omega) (by omega) (mk_Su hS hl) (fun j hj => mk_1.mpr (Or.inr (hM j hj))) ?_ hp
      intro e he hi
      refine mk_1.mpr ?_
      by_cases q : e = i
      · rw [q]; exact Or.inl eN
      · exact Or.inr (hD e he (by omega))
theorem xw_sw24 {post : SX → Prop} {LV : Nat → Prop} (hsn : ∀ t, t < 3 → ∃ k, k < 128 ∧ sn t = nI k ∧ (k = 0 ∨ LV k)) : ∀ n i mk, i ≤ 3 → 3 < n + i → mk_S LV mk → (∀ t, t < i → mk (rl_N sn t) ≠ 0) →
    (∀ mk', mk_S LV mk' → (∀ t, t < 3 → mk' (rl_N sn t) ≠ 0) → ∃ n49, wX_sweep_49 post fc ec n49 0 ex pa nm fi co no kn cn ch nx bk mk' dr sn lf rt wh fd) → wX_sweep_24 post fc ec n (nI i) ex pa nm fi co no kn cn ch nx bk mk dr sn lf rt wh fd := by
  intro n
  induction n with
  | zero => intro i mk h1 h2; omega
  | succ n ih =>
    intro i mk h1 h2 hS hD hp
    refine pk_le 3 i (fun h => hp mk hS (fun t ht => hD t (by omega))) (fun h => ?_)
    obtain ⟨k, hk, ek, hl⟩ := hsn i h
    have eN : rl_N sn i = k := rb_N ek (by omega)
    refine ⟨pk_in i 3 h, ?_⟩
    rw [nI_clamp (show i < 2 ^ 31 by omega), ek, nI_clamp (show k < 2 ^ 31 by omega)]
    refine ⟨pk_in k 128 hk, nm_r (e' := upd mk k (vp_nar .boolean 1)) rfl (nm_r (nI_1 i) ?_)⟩
    refine ih (i + 1) _ (by omega) (by omega) (mk_Su hS hl) ?_ hp
    intro t ht
    refine mk_1.mpr ?_
    by_cases q : t = i
    · rw [q]; exact Or.inl eN
    · exact Or.inr (hD t (by omega))
theorem xw_sw2 {post : SX → Prop} : ∀ n i mk, i ≤ 128 → 128 < n + i → (∀ j, j < i → mk j = 0) →
    (∀ mk', (∀ j, j < 128 → mk' j = 0) → ∃ n24, wX_sweep_24 post fc ec n24 0 ex pa nm fi co no kn cn ch nx bk mk' dr sn lf rt wh fd) → wX_sweep_2 post fc ec n (nI i) ex pa nm fi co no kn cn ch nx bk mk dr sn lf rt wh fd := by
  intro n
  induction n with
  | zero => intro i mk h1 h2; omega
  | succ n ih =>
    intro i mk h1 h2 hD hp
    refine pk_le 128 i (fun h => hp mk (fun j hj => hD j (by omega))) (fun h => ?_)
    refine ⟨pk_in i 128 h, nm_r (e' := upd mk i 0) (by rw [nI_clamp (by omega), rb_b0]) (nm_r (nI_1 i) ?_)⟩
    refine ih (i + 1) _ (by omega) (by omega) ?_ hp
    intro j hj
    by_cases q : j = i
    · rw [q, pk_us]
    · rw [pk_un q]; exact hD j (by omega)
/-- the sweep as a whole: what lives stays, all else goes -/
theorem xw_sweep {post : SX → Prop} {LV : Nat → Prop} {Z : Nat → Nat → Prop} (S : rs_S kn cn ch) (B : kb_B kn cn ch nx bk)
    (hcl : ∀ a m, a < 128 → m < 8 → LV a → kn a = 2 → rs_c ch a m = 0 ∨ LV (rs_c ch a m))
    (hZ : ∀ r a, Z (r + 1) a → Z r a ∨ ∃ b m, b < 128 ∧ m < 8 ∧ Z r b ∧ kn b = 2 ∧ a = rs_c ch b m) (hZ0 : ∀ a, Z 0 a → ∃ t, t < 3 ∧ a = rl_N sn t)
    (hdr : ∀ m, m < 8 → ∃ k, k < 128 ∧ dr m = nI k ∧ (k = 0 ∨ LV k)) (hno : ∀ e, rl_E ex e → ∃ k, k < 128 ∧ no e = nI k ∧ (k = 0 ∨ LV k)) (hsn : ∀ t, t < 3 → ∃ k, k < 128 ∧ sn t = nI k ∧ (k = 0 ∨ LV k))
    (hl : ∀ a, LV a → (∃ e, rl_E ex e ∧ rl_N no e = a) ∨ Z 6 a) (hlv : ∀ a, LV a → sa_V kn a)
    (hp : ∀ kn' nx' bk' mk', rs_S kn' cn ch → kb_B kn' cn ch nx' bk' → (∀ a, LV a → kn' a = kn a) → (∀ a, a ≠ 0 → a < 128 → ¬ LV a → kn' a = 0) → post (fc, ec, ex, pa, nm, fi, co, no, kn', cn, ch, nx', bk', mk', dr, sn, lf, rt, wh, fd)) : wpX_sweep post (fc, ec, ex, pa, nm, fi, co, no, kn, cn, ch, nx, bk, mk, dr, sn, lf, rt, wh, fd) := by
  refine ⟨129, xw_sw2 129 0 mk (by omega) (by omega) (fun j hj => absurd hj (by omega)) ?_⟩
  intro mk1 a1
  refine ⟨4, xw_sw24 (LV := LV) hsn 4 0 mk1 (by omega) (by omega) (fun j hj q => absurd (a1 j hj) q) (fun t ht => absurd ht (by omega)) ?_⟩
  intro mk2 b1 b2
  refine ⟨25, xw_sw49 (LV := LV) (mk0 := mk2) hno 25 0 mk2 (by omega) (by omega) b1 (fun _ q => q) (fun e _ he => absurd he (by omega)) ?_⟩
  intro mk3 c1 c2 c3
  refine ⟨9, xw_sw84 (LV := LV) (mk0 := mk3) hdr 9 0 mk3 (by omega) (by omega) c1 (fun _ q => q) ?_⟩
  intro mk4 d1 d2
  refine ⟨7, xw_sw110 (LV := LV) (Z := Z) (mk0 := mk4) S.2 hcl S.1.1 hZ 7 0 mk4 (by omega) (by omega) d1 (fun _ q => q) ?_ ?_⟩
  · intro a ha
    obtain ⟨t, ht, e⟩ := hZ0 a ha
    rw [e]; exact d2 _ (c2 _ (b2 t ht))
  · intro mk5 e1 e2 e3
    have live : ∀ a, LV a → mk5 a ≠ 0 := by
      intro a ha
      rcases hl a ha with ⟨e, he, hh⟩ | h6
      · rw [← hh]; exact e2 _ (d2 _ (c3 e he))
      · exact e3 a h6
    have dead : ∀ a, a ≠ 0 → a < 128 → ¬ LV a → mk5 a = 0 := by
      intro a h0 h1 h2
      by_cases z : mk5 a = 0
      · exact z
      · exact absurd ((e1 a h1 z).resolve_left h0) h2
    obtain ⟨L, hL⟩ := B
    refine ⟨17, xw_sw175 17 0 nx bk (by omega) (by omega) ⟨L, fun k hk => ⟨(hL k hk).1, (hL k hk).2.1, fun a => ?_⟩⟩ ?_⟩
    · rw [(hL k hk).2.2 a]
      exact ⟨fun w => ⟨w.1, w.2, fun r => absurd r (by omega)⟩, fun w => ⟨w.1, w.2.1⟩⟩
    · intro nx' bk' hB
      refine ⟨128, xw_sw205 128 1 kn (by omega) (by omega) (by omega) ?_⟩
      intro kn' k1 k2
      have kp : ∀ a, mk5 a ≠ 0 → kn' a = kn a := fun a ha => k2 a (Or.inr (Or.inr ha))
      have kz : ∀ a, a ≠ 0 → a < 128 → mk5 a = 0 → kn' a = 0 := fun a h0 h1 h2 => k1 a h1 (by omega) h2
      have cut := sa_cut S.1 (K' := kn') (kp := fun a => mk5 a ≠ 0) (by rw [k2 0 (Or.inl (by omega))]; exact S.1.1) (fun a _ _ h => kp a h) (fun a h0 h1 h => kz a h0 h1 (Classical.not_not.mp h)) (by
        intro a hv hm m hm8
        have hla : LV a := (e1 a hv.2.1 hm).resolve_left hv.1
        rcases (S.1.2.2.1 a hv).1 with q | q
        · exact Or.inl ((S.1.2.2.1 a hv).2.2.1 q m hm8)
        · exact (hcl a m hv.2.1 hm8 hla q).imp id (live _))
      refine hp kn' nx' bk' mk5 ⟨cut.1, S.2⟩ ?_ (fun a ha => kp a (live a ha)) (fun a h0 h1 h2 => kz a h0 h1 (dead a h0 h1 h2))
      obtain ⟨L', hL'⟩ := hB
      refine ⟨L', fun k hk => ⟨(hL' k hk).1, (hL' k hk).2.1, fun a => ?_⟩⟩
      rw [(hL' k hk).2.2 a, cut.2 a]
      constructor
      · intro w
        refine ⟨⟨w.1, w.2.2 hk⟩, ?_⟩
        unfold ks_n
        rw [kp a (w.2.2 hk)]
        exact w.2.1
      · intro w
        refine ⟨w.1.1, ?_, fun _ => w.1.2⟩
        have := w.2
        unfold ks_n at this
        rw [kp a w.1.2] at this
        exact this
end
end
section
/-! store, nodeFor, refresh -/
section
variable {fc ec : Int32} {ex pa nm fi co no kn cn ch nx bk mk dr sn lf rt wh fd : Nat → Int32}
theorem xw_st43 {post : Int32 → SX → Prop} {a k : Nat} (ha : a < 128) (hk : k < 16) : ∀ n i ch, i ≤ 8 → 8 < n + i →
    (∀ ch', (∀ m, i ≤ m → m < 8 → ch' (8 * a + m) = dr m) → (∀ j, (j < 8 * a + i ∨ 8 * a + 8 ≤ j) → ch' j = ch j) → post (nI a) (fc, ec, ex, pa, nm, fi, co, no, kn, cn, ch', (upd nx a (bk k)), (upd bk k (nI a)), mk, dr, sn, lf, rt, wh, fd)) →
    wX_store_43 post (nI a) (nI k) fc ec n (nI i) ex pa nm fi co no kn cn ch nx bk mk dr sn lf rt wh fd := by
  intro n
  induction n with
  | zero => intro i ch h1 h2; omega
  | succ n ih =>
    intro i ch h1 h2 hp
    refine pk_le 8 i (fun h => ?_) (fun h => ?_)
    · refine ⟨pk_in k 16 hk, pk_in a 128 ha, nm_r (e' := upd nx a (bk k)) (by rw [nI_clamp (by omega), nI_clamp (by omega)]) ⟨pk_in k 16 hk, nm_r (e' := upd bk k (nI a)) (by rw [nI_clamp (by omega)]) ?_⟩⟩
      exact hp ch (fun m h3 h4 => absurd h4 (by omega)) (fun _ _ => rfl)
    · refine ⟨pk_in i 8 h, ?_⟩
      rw [rb_8, nI_clamp (show i < 2 ^ 31 by omega), nI_clamp (show 8 * a + i < 2 ^ 31 by omega)]
      refine ⟨pk_in (8 * a + i) 1024 (by omega), nm_r (e' := upd ch (8 * a + i) (dr i)) rfl (nm_r (nI_1 i) (ih (i + 1) _ (by omega) (by omega) ?_))⟩
      intro ch' g1 g2
      refine hp ch' ?_ ?_
      · intro m h3 h4
        by_cases q : m = i
        · rw [q, g2 _ (Or.inl (by omega)), pk_us]
        · exact g1 m (by omega) h4
      · intro j hj
        rw [g2 j (by omega), pk_un (by omega)]
/-- the new node is laid in a free place -/
theorem xw_st18 {post : Int32 → SX → Prop} {a : Nat} {kd ct : Int32} (S : rs_S kn cn ch) (B : kb_B kn cn ch nx bk) (ha0 : a ≠ 0) (ha : a < 128) (hf : kn a = 0)
    (hkd : kd = 1 ∨ kd = 2) (hdr : ∀ m, m < 8 → ∃ k, k < 128 ∧ dr m = nI k ∧ (k = 0 ∨ sa_V kn k) ∧ sa_h (rs_c ch) 5 k) (h1 : kd = 1 → ∀ m, m < 8 → dr m = 0) (h2 : kd = 2 → ct = 0)
    (hno : ∀ b, sa_V kn b → ¬ ks_S kn cn ch dr kd ct b)
    (hp : ∀ kn' cn' ch' nx' bk', rs_S kn' cn' ch' → kb_B kn' cn' ch' nx' bk' → sa_V kn' a → kn' a = kd → cn' a = ct → (∀ m, m < 8 → ch' (8 * a + m) = dr m) →
      (∀ b, sa_V kn b → kn' b = kn b ∧ cn' b = cn b ∧ ∀ m, m < 8 → rs_c ch' b m = rs_c ch b m) → post (nI a) (fc, ec, ex, pa, nm, fi, co, no, kn', cn', ch', nx', bk', mk, dr, sn, lf, rt, wh, fd)) :
    wX_store_18 post kd ct (nI a) fc ec ex pa nm fi co no kn cn ch nx bk mk dr sn lf rt wh fd := by
  obtain ⟨k, hk, ek⟩ := ks_in kd ct dr
  unfold wX_store_18
  refine xw_key ?_
  rw [ek]
  refine ⟨pk_in a 128 ha, nm_r (e' := upd kn a kd) (by rw [nI_clamp (by omega)]) ⟨pk_in a 128 ha, nm_r (e' := upd cn a ct) (by rw [nI_clamp (by omega)]) ⟨9, xw_st43 ha hk 9 0 ch (by omega) (by omega) ?_⟩⟩⟩
  intro ch' g1 g2
  have g1' : ∀ m, m < 8 → ch' (8 * a + m) = dr m := fun m hm => g1 m (by omega) hm
  have gc : ∀ b m, b ≠ a → m < 8 → ch' (8 * b + m) = ch (8 * b + m) := fun b m hb hm => g2 _ (by omega)
  have hdN : ∀ m, m < 8 → rl_N ch' (8 * a + m) = rl_N dr m := fun m hm => by unfold rl_N; rw [g1' m hm]
  have hdk : ∀ m, m < 8 → dr m = nI (rl_N dr m) ∧ rl_N dr m < 128 ∧ (rl_N dr m = 0 ∨ sa_V kn (rl_N dr m)) ∧ sa_h (rs_c ch) 5 (rl_N dr m) := by
    intro m hm
    obtain ⟨j, j1, j2, j3, j4⟩ := hdr m hm
    rw [rb_N j2 (by omega)]
    exact ⟨j2, j1, j3, j4⟩
  have put := sa_put S.1 (K' := upd kn a kd) (C' := upd cn a ct) (c' := rs_c ch') (n := a) (kd := kd) (ct := ct) (dr := rl_N dr) ha0 ha hf hkd (fun m hm => (hdk m hm).2.2.1)
    (fun q m hm => by unfold rl_N; rw [h1 q m hm]; decide) h2 (fun m hm => (hdk m hm).2.2.2) (by
      intro b hb ⟨q1, q2, q3⟩
      refine hno b hb ⟨q1, q2, ?_⟩
      intro m hm
      rw [(rs_at S hb.2.1 hm).1, q3 m hm, ← (hdk m hm).1]) (fun i => rfl) (fun i => rfl) (by
      intro i m hm
      by_cases q : i = a
      · rw [if_pos q, q]; exact hdN m hm
      · rw [if_neg q]; unfold rs_c rl_N; rw [gc i m q hm])
  refine hp (upd kn a kd) (upd cn a ct) ch' (upd nx a (bk k)) (upd bk k (nI a)) ⟨put.1, ?_⟩ ?_ put.2.1 pk_us pk_us g1' ?_
  · intro i hi
    by_cases q : i / 8 = a
    · have e : 8 * a + i % 8 = i := by omega
      refine ⟨rl_N dr (i % 8), (hdk (i % 8) (by omega)).2.1, ?_⟩
      rw [← e, g1' (i % 8) (by omega), show (8 * a + i % 8) % 8 = i % 8 by omega]
      exact (hdk (i % 8) (by omega)).1
    · rw [g2 i (by omega)]; exact S.2 i hi
  · obtain ⟨L, hL⟩ := B
    have keyb : ∀ b, sa_V kn b → ks_n (upd kn a kd) (upd cn a ct) ch' b = ks_n kn cn ch b := by
      intro b hb
      have hne := (put.2.2.1 b hb).2
      unfold ks_n
      rw [pk_un hne, pk_un hne]
      exact ks_e (fun m hm => gc b m hne hm)
    have keya : ks_n (upd kn a kd) (upd cn a ct) ch' a = nI k := by
      unfold ks_n
      rw [pk_us, pk_us, ← ek]
      exact ks_e g1'
    refine ⟨fun j => if j = k then a :: L j else L j, ?_⟩
    intro j hj
    obtain ⟨c1, c2, c3⟩ := hL j hj
    have hna : a ∉ L j := fun q => ((c3 a).mp q).1.2.2 hf
    by_cases q : j = k
    · subst q
      show kc_C (upd nx a (bk j)) (upd bk j (nI a) j) (if j = j then a :: L j else L j) ∧ (if j = j then a :: L j else L j).Nodup ∧ ∀ b, b ∈ (if j = j then a :: L j else L j) ↔ _
      rw [if_pos rfl, pk_us]
      refine ⟨⟨rfl, ha0, ha, ?_⟩, List.nodup_cons.mpr ⟨hna, c2⟩, ?_⟩
      · rw [pk_us]; exact kc_up (L j) _ c1 hna
      · intro b
        constructor
        · intro w
          rcases List.mem_cons.mp w with e | e
          · rw [e]; exact ⟨put.2.1, keya⟩
          · obtain ⟨w1, w2⟩ := (c3 b).mp e
            exact ⟨(put.2.2.1 b w1).1, by rw [keyb b w1]; exact w2⟩
        · intro ⟨w1, w2⟩
          rcases put.2.2.2 b w1 with e | e
          · rw [e]; exact List.mem_cons_self
          · refine List.mem_cons_of_mem _ ((c3 b).mpr ⟨e, ?_⟩)
            rw [← keyb b e]; exact w2
    · show kc_C (upd nx a (bk k)) (upd bk k (nI a) j) (if j = k then a :: L j else L j) ∧ (if j = k then a :: L j else L j).Nodup ∧ ∀ b, b ∈ (if j = k then a :: L j else L j) ↔ _
      rw [if_neg q, pk_un q]
      refine ⟨kc_up (L j) _ c1 hna, c2, ?_⟩
      intro b
      constructor
      · intro e
        obtain ⟨w1, w2⟩ := (c3 b).mp e
        exact ⟨(put.2.2.1 b w1).1, by rw [keyb b w1]; exact w2⟩
      · intro ⟨w1, w2⟩
        rcases put.2.2.2 b w1 with e | e
        · rw [e, keya] at w2
          exact absurd ((nI_eq (by omega) (by omega)).mp w2).symm q
        · refine (c3 b).mpr ⟨e, ?_⟩
          rw [← keyb b e]; exact w2
  · intro b hb
    have hne := (put.2.2.1 b hb).2
    refine ⟨pk_un hne, pk_un hne, ?_⟩
    intro m hm
    unfold rs_c rl_N
    rw [gc b m hne hm]
end
/-- what lives: what the snapshots and the entries need -/
def lv_V (ex no ch sn : Nat → Int32) (a : Nat) : Prop :=
  a ≠ 0 ∧ ((∃ t, t < 3 ∧ ∃ p, a = sa_w (rs_c ch) (rl_N sn t) p) ∨ (∃ e, rl_E ex e ∧ rl_N no e = a))
/-- 96 names do not reach 127 nodes -/
theorem pg_f (z : Nat → Nat) (m : Nat) : ∀ n, (∀ a, a < n → ∃ j, j < m ∧ z j = a) → n ≤ m := by
  intro n h
  have key : ∀ l : List Nat, (∀ a, a ∈ l → ∃ j, j < m ∧ z j = a) → l.Nodup → ∃ l' : List Nat, l'.length = l.length ∧ l'.Nodup ∧ (∀ j, j ∈ l' → j < m) ∧ (∀ j, j ∈ l' → z j ∈ l) := by
    intro l
    induction l with
    | nil => intro _ _; exact ⟨[], rfl, List.nodup_nil, (fun j hj => nomatch hj), (fun j hj => nomatch hj)⟩
    | cons a r ih =>
      intro h1 h2
      obtain ⟨d1, d2⟩ := List.nodup_cons.mp h2
      obtain ⟨l', g1, g2, g3, g4⟩ := ih (fun b hb => h1 b (List.mem_cons_of_mem _ hb)) d2
      obtain ⟨j, hj, ej⟩ := h1 a List.mem_cons_self
      refine ⟨j :: l', by simp [g1], List.nodup_cons.mpr ⟨fun q => d1 (ej ▸ g4 j q), g2⟩, ?_, ?_⟩
      · intro i hi
        rcases List.mem_cons.mp hi with e | e
        · rw [e]; exact hj
        · exact g3 i e
      · intro i hi
        rcases List.mem_cons.mp hi with e | e
        · rw [e, ej]; exact List.mem_cons_self
        · exact List.mem_cons_of_mem _ (g4 i e)
  obtain ⟨l', g1, g2, g3, _⟩ := key (List.range n) (fun a ha => h a (List.mem_range.mp ha)) List.nodup_range
  have := pg_l m l' g2 g3
  rw [g1, List.length_range] at this
  exact this
theorem pg_no {ex no ch sn kn : Nat → Int32} (B : sp_B kn (rs_c ch) (rl_N sn)) : ¬ ∀ a, a ≠ 0 → a < 128 → lv_V ex no ch sn a := by
  intro h
  obtain ⟨_, z0, h0⟩ := B 0 (by omega)
  obtain ⟨_, z1, h1⟩ := B 1 (by omega)
  obtain ⟨_, z2, h2⟩ := B 2 (by omega)
  have := pg_f (fun j => if j < 24 then z0 j - 1 else if j < 48 then z1 (j - 24) - 1 else if j < 72 then z2 (j - 48) - 1 else rl_N no (j - 72) - 1) 96 127 (by
    intro a ha
    obtain ⟨_, hl⟩ := h (a + 1) (by omega) (by omega)
    rcases hl with ⟨t, ht, p, hp⟩ | ⟨e, he, hn⟩
    · have ht' : t = 0 ∨ t = 1 ∨ t = 2 := by omega
      rcases ht' with e | e | e
      · subst e
        obtain ⟨j, hj, ej⟩ := h0 p (by omega)
        refine ⟨j, by omega, ?_⟩
        show (if j < 24 then z0 j - 1 else _) = a
        rw [if_pos hj, ej, ← hp]; rfl
      · subst e
        obtain ⟨j, hj, ej⟩ := h1 p (by omega)
        refine ⟨j + 24, by omega, ?_⟩
        show (if j + 24 < 24 then _ else if j + 24 < 48 then z1 (j + 24 - 24) - 1 else _) = a
        rw [if_neg (by omega), if_pos (by omega), Nat.add_sub_cancel, ej, ← hp]; rfl
      · subst e
        obtain ⟨j, hj, ej⟩ := h2 p (by omega)
        refine ⟨j + 48, by omega, ?_⟩
        show (if j + 48 < 24 then _ else if j + 48 < 48 then _ else if j + 48 < 72 then z2 (j + 48 - 48) - 1 else _) = a
        rw [if_neg (by omega), if_neg (by omega), if_pos (by omega), Nat.add_sub_cancel, ej, ← hp]; rfl
    · have := he.1
      refine ⟨e + 72, by omega, ?_⟩
      show (if e + 72 < 24 then _ else if e + 72 < 48 then _ else if e + 72 < 72 then _ else rl_N no (e + 72 - 72) - 1) = a
      rw [if_neg (by omega), if_neg (by omega), if_neg (by omega), Nat.add_sub_cancel, hn]; rfl)
  omega
/-- what the entries and the snapshots say of the store -/
def rf_I (ex pa nm fi co no kn cn ch nx bk sn : Nat → Int32) : Prop :=
  rs_S kn cn ch ∧ kb_B kn cn ch nx bk ∧ la_L (rl_E ex) (rl_N pa) (rl_N nm) fi co kn cn (rs_c ch) (rl_N no) ∧ sp_B kn (rs_c ch) (rl_N sn) ∧
  (∀ e, rl_E ex e → no e = nI (rl_N no e)) ∧ (∀ t, t < 3 → sn t = nI (rl_N sn t))
section
variable {fc ec : Int32} {ex pa nm fi co no kn cn ch nx bk mk dr sn lf rt wh fd : Nat → Int32}
theorem rf_no (I : rf_I ex pa nm fi co no kn cn ch nx bk sn) {e : Nat} (he : rl_E ex e) : rl_N no e = 0 ∨ sa_V kn (rl_N no e) := by
  by_cases z : rl_N no e = 0
  · exact Or.inl z
  · exact Or.inr (I.2.2.1 e he z).1
theorem rf_no128 (I : rf_I ex pa nm fi co no kn cn ch nx bk sn) {e : Nat} (he : rl_E ex e) : rl_N no e < 128 := by
  rcases rf_no I he with z | z
  · omega
  · exact z.2.1
theorem rf_lv (I : rf_I ex pa nm fi co no kn cn ch nx bk sn) {a : Nat} (h : lv_V ex no ch sn a) : sa_V kn a := by
  obtain ⟨h0, h1⟩ := h
  rcases h1 with ⟨t, ht, p, hp⟩ | ⟨e, he, hn⟩
  · rw [hp]
    exact (sa_wV I.1.1 (I.2.2.2.1 t ht).1 p).resolve_left (fun z => h0 (hp.trans z))
  · rw [← hn]
    exact (rf_no I he).resolve_left (fun z => h0 (hn ▸ z))
theorem rf_cl (H : rl_W ex pa nm fi) (I : rf_I ex pa nm fi co no kn cn ch nx bk sn) {a m : Nat} (hm : m < 8) (h : lv_V ex no ch sn a) : rs_c ch a m = 0 ∨ lv_V ex no ch sn (rs_c ch a m) := by
  by_cases z : rs_c ch a m = 0
  · exact Or.inl z
  · refine Or.inr ⟨z, ?_⟩
    obtain ⟨h0, h1⟩ := h
    rcases h1 with ⟨t, ht, p, hp⟩ | ⟨e, he, hn⟩
    · refine Or.inl ⟨t, ht, 9 * p + m + 1, ?_⟩
      rw [sa_w_s hm, ← hp]
    · right
      have l := I.2.2.1 e he (by rw [hn]; exact h0)
      by_cases hx : ∃ e', rl_E ex e' ∧ e' ≠ 0 ∧ rl_N pa e' = e ∧ rl_N nm e' = m
      · obtain ⟨e', q1, q2, q3, q4⟩ := hx
        have b := (l.2.2.2.1 e' q1 q2 q3).2
        rw [q4, hn] at b
        exact ⟨e', q1, b.symm⟩
      · have b := l.2.2.2.2 m hm (fun e' q1 q2 q3 q4 => hx ⟨e', q1, q2, q3, q4⟩)
        rw [hn] at b
        exact absurd b z
/-- store: a node for the draft -/
theorem xw_store {post : Int32 → SX → Prop} {kd ct : Int32} (H : rl_W ex pa nm fi) (I : rf_I ex pa nm fi co no kn cn ch nx bk sn)
    (hkd : kd = 1 ∨ kd = 2) (hdr : ∀ m, m < 8 → ∃ k, k < 128 ∧ dr m = nI k ∧ (k = 0 ∨ lv_V ex no ch sn k) ∧ sa_h (rs_c ch) 5 k) (h1 : kd = 1 → ∀ m, m < 8 → dr m = 0) (h2 : kd = 2 → ct = 0)
    (hno : ∀ b, sa_V kn b → ¬ ks_S kn cn ch dr kd ct b)
    (hp : ∀ a kn' cn' ch' nx' bk' mk', rs_S kn' cn' ch' → kb_B kn' cn' ch' nx' bk' → sa_V kn' a → kn' a = kd → cn' a = ct → (∀ m, m < 8 → ch' (8 * a + m) = dr m) →
      (∀ b, lv_V ex no ch sn b → kn' b = kn b ∧ cn' b = cn b ∧ ∀ m, m < 8 → rs_c ch' b m = rs_c ch b m) → post (nI a) (fc, ec, ex, pa, nm, fi, co, no, kn', cn', ch', nx', bk', mk', dr, sn, lf, rt, wh, fd)) :
    wpX_store post (fc, ec, ex, pa, nm, fi, co, no, kn, cn, ch, nx, bk, mk, dr, sn, lf, rt, wh, fd) kd ct := by
  unfold wpX_store
  dsimp only
  refine xw_free (fun a a0 a1 a2 => ?_) (fun full => ?_)
  · refine pk_eq a 0 (fun z => absurd z a0) (fun _ => ?_)
    refine xw_st18 I.1 I.2.1 a0 a1 a2 hkd (fun m hm => ?_) h1 h2 hno ?_
    · obtain ⟨k, k1, k2, k3, k4⟩ := hdr m hm
      exact ⟨k, k1, k2, k3.imp id (rf_lv I), k4⟩
    · intro kn' cn' ch' nx' bk' g1 g2 g3 g4 g5 g6 g7
      exact hp a kn' cn' ch' nx' bk' mk g1 g2 g3 g4 g5 g6 (fun b hb => g7 b (rf_lv I hb))
  · refine br_t rfl ?_
    refine xw_sweep (LV := lv_V ex no ch sn) (Z := fun r a => a ≠ 0 ∧ ∃ t, t < 3 ∧ ∃ p, p < 9 ^ r ∧ a = sa_w (rs_c ch) (rl_N sn t) p) I.1 I.2.1 ?_ ?_ ?_ ?_ ?_ ?_ ?_ (fun a ha => rf_lv I ha) ?_
    · intro a m ha hm hl _; exact rf_cl H I hm hl
    · intro r a ⟨h0, t, ht, p, hp9, e⟩
      have hsn := (I.2.2.2.1 t ht).1
      by_cases z : p = 0
      · exact Or.inl ⟨h0, t, ht, 0, Nat.pow_pos (by omega), by rw [e, z]⟩
      · right
        have up := sa_wup I.1.1 hsn z (by rw [← e]; exact h0)
        have vb := (sa_wV I.1.1 hsn (p / 9)).resolve_left up.2.1
        refine ⟨sa_w (rs_c ch) (rl_N sn t) (p / 9), p % 9 - 1, vb.2.1, by omega, ⟨up.2.1, t, ht, p / 9, ?_, rfl⟩, up.2.2, ?_⟩
        · rw [Nat.pow_succ] at hp9; omega
        · rw [e]; exact sa_w_n up.1
    · intro a ⟨h0, t, ht, p, hp9, e⟩
      have z : p = 0 := by
        have : (9 : Nat) ^ 0 = 1 := by decide
        omega
      rw [z, sa_w_0] at e
      exact ⟨t, ht, e⟩
    · intro m hm
      obtain ⟨k, k1, k2, k3, _⟩ := hdr m hm
      exact ⟨k, k1, k2, k3⟩
    · intro e he
      refine ⟨rl_N no e, rf_no128 I he, I.2.2.2.2.1 e he, ?_⟩
      by_cases z : rl_N no e = 0
      · exact Or.inl z
      · exact Or.inr ⟨z, Or.inr ⟨e, he, rfl⟩⟩
    · intro t ht
      rcases (I.2.2.2.1 t ht).1 with z | v
      · exact ⟨rl_N sn t, by omega, I.2.2.2.2.2 t ht, Or.inl z⟩
      · exact ⟨rl_N sn t, v.2.1, I.2.2.2.2.2 t ht, Or.inr ⟨v.1, Or.inl ⟨t, ht, 0, sa_w_0.symm⟩⟩⟩
    · intro a ⟨h0, hl⟩
      rcases hl with ⟨t, ht, p, e⟩ | he
      · right
        refine ⟨h0, t, ht, p, ?_, e⟩
        have hv : sa_V kn (rl_N sn t) := (I.2.2.2.1 t ht).1.resolve_left (fun z => h0 (by rw [e, z]; exact sa_w0 I.1.1.2.1 p))
        have := sa_wlt I.1.1 hv (show sa_w (rs_c ch) (rl_N sn t) p ≠ 0 by rw [← e]; exact h0)
        have : (9 : Nat) ^ 6 = 531441 := by decide
        omega
      · exact Or.inl he
    · intro kn2 nx2 bk2 mk2 s1 s2 s3 s4
      have vk : ∀ b, lv_V ex no ch sn b → sa_V kn2 b := fun b hb => ⟨(rf_lv I hb).1, (rf_lv I hb).2.1, by rw [s3 b hb]; exact (rf_lv I hb).2.2⟩
      have kv : ∀ b, sa_V kn2 b → lv_V ex no ch sn b := fun b hb => Classical.byContradiction (fun q => hb.2.2 (s4 b hb.1 hb.2.1 q))
      refine xw_free (fun a a0 a1 a2 => ?_) (fun full2 => ?_)
      · refine xw_st18 s1 s2 a0 a1 a2 hkd (fun m hm => ?_) h1 h2 ?_ ?_
        · obtain ⟨k, k1, k2, k3, k4⟩ := hdr m hm
          exact ⟨k, k1, k2, k3.imp id (vk k), k4⟩
        · intro b hb hs
          refine hno b (rf_lv I (kv b hb)) ⟨?_, hs.2.1, hs.2.2⟩
          rw [← s3 b (kv b hb)]; exact hs.1
        · intro kn' cn' ch' nx' bk' g1 g2 g3 g4 g5 g6 g7
          refine hp a kn' cn' ch' nx' bk' mk2 g1 g2 g3 g4 g5 g6 (fun b hb => ?_)
          have := g7 b (vk b hb)
          exact ⟨this.1.trans (s3 b hb), this.2⟩
      · exfalso
        refine pg_no (ex := ex) (no := no) I.2.2.2.1 ?_
        intro a a0 a1
        exact kv a ⟨a0, a1, full2 a a0 a1⟩
end
end
section
/-! nodeFor and refresh -/
theorem sa_hmono {c : Nat → Nat → Nat} (h : ∀ m, m < 8 → c 0 m = 0) {n : Nat} : ∀ j k, sa_h c k n → sa_h c (k + j) n := by
  intro j
  induction j with
  | zero => intro k q; exact q
  | succ j ih => intro k q; exact sa_hm h _ _ (ih k q)
section
variable {fc ec : Int32} {ex pa nm fi co no kn cn ch nx bk mk dr sn lf rt wh fd : Nat → Int32}
theorem xw_nf2 {post : Int32 → SX → Prop} {x1 : Int32} : ∀ n i dr, i ≤ 8 → 8 < n + i → (∀ m, m < i → dr m = 0) →
    (∀ dr', (∀ m, m < 8 → dr' m = 0) → ∃ n23, wX_nodeFor_23 post x1 fc ec n23 1 ex pa nm fi co no kn cn ch nx bk mk dr' sn lf rt wh fd) → wX_nodeFor_2 post x1 fc ec n (nI i) ex pa nm fi co no kn cn ch nx bk mk dr sn lf rt wh fd := by
  intro n
  induction n with
  | zero => intro i dr h1 h2; omega
  | succ n ih =>
    intro i dr h1 h2 hD hp
    refine pk_le 8 i (fun h => hp dr (fun m hm => hD m (by omega))) (fun h => ?_)
    refine ⟨pk_in i 8 h, nm_r (e' := upd dr i 0) (by rw [nI_clamp (by omega)]) (nm_r (nI_1 i) (ih (i + 1) _ (by omega) (by omega) ?_ hp))⟩
    intro m hm
    by_cases q : m = i
    · rw [q, pk_us]
    · rw [pk_un q]; exact hD m (by omega)
/-- the draft of e by the entries below i -/
def nf_D (ex pa nm no dr : Nat → Int32) (e i : Nat) : Prop := ∀ m, m < 8 →
  (∀ e', rl_E ex e' → e' ≠ 0 → e' < i → rl_N pa e' = e → rl_N nm e' = m → dr m = no e') ∧
  ((∀ e', rl_E ex e' → e' ≠ 0 → e' < i → rl_N pa e' = e → rl_N nm e' ≠ m) → dr m = 0)
theorem xw_nf23 (H : rl_W ex pa nm fi) {post : Int32 → SX → Prop} {e : Nat} (he : rl_E ex e) : ∀ n i dr, 1 ≤ i → i ≤ 24 → 24 < n + i → nf_D ex pa nm no dr e i →
    (∀ dr', nf_D ex pa nm no dr' e 24 → (fi e = 0 → wX_nodeFor_105 post 2 0 fc ec ex pa nm fi co no kn cn ch nx bk mk dr' sn lf rt wh fd) ∧ (fi e ≠ 0 → wX_nodeFor_105 post 1 (co e) fc ec ex pa nm fi co no kn cn ch nx bk mk dr' sn lf rt wh fd)) → wX_nodeFor_23 post (nI e) fc ec n (nI i) ex pa nm fi co no kn cn ch nx bk mk dr sn lf rt wh fd := by
  have h24 := he.1
  intro n
  induction n with
  | zero => intro i dr _ h1 h2; omega
  | succ n ih =>
    intro i dr h0 h1 h2 hD hp
    refine pk_le 24 i (fun h => ?_) (fun h => ?_)
    · have z : i = 24 := by omega
      rw [z] at hD
      have hh := hp dr hD
      refine ⟨pk_in e 24 h24, rb_z (by omega) (fun q => ?_) (fun q => ?_)⟩
      · exact ⟨pk_in e 24 h24, rb_z (by omega) (fun _ => hh.1 q) (fun w => absurd q w)⟩
      · refine ⟨pk_in e 24 h24, rb_z (by omega) (fun w => absurd w q) (fun _ => ⟨pk_in e 24 h24, ?_⟩)⟩
        rw [nI_clamp (by omega)]
        exact hh.2 q
    · have skip : (¬ (rl_E ex i ∧ rl_N pa i = e)) → wX_nodeFor_23 post (nI e) fc ec n (nI (i + 1)) ex pa nm fi co no kn cn ch nx bk mk dr sn lf rt wh fd := by
        intro hno
        refine ih (i + 1) dr (by omega) (by omega) (by omega) ?_ hp
        intro m hm
        refine ⟨?_, ?_⟩
        · intro e' q1 q2 q3 q4 q5
          by_cases w : e' = i
          · subst w; exact absurd ⟨q1, q4⟩ hno
          · exact (hD m hm).1 e' q1 q2 (by omega) q4 q5
        · intro hh
          exact (hD m hm).2 (fun e' q1 q2 q3 => hh e' q1 q2 (by omega))
      refine ⟨pk_in i 24 h, rb_z (by omega) (fun z => nm_r (nI_1 i) (skip (fun q => q.1.2 z))) (fun z => ?_)⟩
      have hi : rl_E ex i := ⟨h, z⟩
      have hi0 : i ≠ 0 := by omega
      have hlt := rl_Plt H hi hi0
      have hM := ea_M H.1 hi hi0
      refine ⟨pk_in i 24 h, pk_eq (rl_N pa i) e (fun w => ?_) (fun w => nm_r (nI_1 i) (skip (fun q => w q.2))) (rl_Pat H hi hi0)⟩
      rw [rl_Mat H hi hi0, nI_clamp (show i < 2 ^ 31 by omega), nI_clamp (show rl_N nm i < 2 ^ 31 by omega)]
      refine ⟨pk_in i 24 h, pk_in i 24 h, pk_in _ 8 hM, nm_r (e' := upd dr (rl_N nm i) (no i)) rfl (nm_r (nI_1 i) (ih (i + 1) _ (by omega) (by omega) (by omega) ?_ hp))⟩
      intro m hm
      by_cases q : m = rl_N nm i
      · subst q
        rw [pk_us]
        refine ⟨?_, ?_⟩
        · intro e' q1 q2 q3 q4 q5
          rw [ea_u H.1 q1 hi q2 hi0 (q4.trans w.symm) q5]
        · intro hh; exact absurd rfl (hh i hi hi0 (by omega) w)
      · rw [pk_un q]
        refine ⟨?_, ?_⟩
        · intro e' q1 q2 q3 q4 q5
          by_cases r : e' = i
          · rw [r] at q5; exact absurd q5.symm q
          · exact (hD m hm).1 e' q1 q2 (by omega) q4 q5
        · intro hh
          exact (hD m hm).2 (fun e' q1 q2 q3 => hh e' q1 q2 (by omega))
theorem xw_nf105 {post : Int32 → SX → Prop} {kd ct : Int32} (H : rl_W ex pa nm fi) (I : rf_I ex pa nm fi co no kn cn ch nx bk sn)
    (hkd : kd = 1 ∨ kd = 2) (hdr : ∀ m, m < 8 → ∃ k, k < 128 ∧ dr m = nI k ∧ (k = 0 ∨ lv_V ex no ch sn k) ∧ sa_h (rs_c ch) 5 k) (h1 : kd = 1 → ∀ m, m < 8 → dr m = 0) (h2 : kd = 2 → ct = 0)
    (hp : ∀ a kn' cn' ch' nx' bk' mk', rs_S kn' cn' ch' → kb_B kn' cn' ch' nx' bk' → sa_V kn' a → kn' a = kd → cn' a = ct → (∀ m, m < 8 → ch' (8 * a + m) = dr m) →
      (∀ b, lv_V ex no ch sn b → kn' b = kn b ∧ cn' b = cn b ∧ ∀ m, m < 8 → rs_c ch' b m = rs_c ch b m) → post (nI a) (fc, ec, ex, pa, nm, fi, co, no, kn', cn', ch', nx', bk', mk', dr, sn, lf, rt, wh, fd)) :
    wX_nodeFor_105 post kd ct fc ec ex pa nm fi co no kn cn ch nx bk mk dr sn lf rt wh fd := by
  obtain ⟨k, hk, ek⟩ := ks_in kd ct dr
  unfold wX_nodeFor_105
  refine xw_key ?_
  rw [ek]
  refine xw_look hk I.2.1 ek (fun a hv hs => ?_) (fun hno => ?_)
  · refine br_f (nI_nle (by have := hv.1; omega) (by have := hv.2.1; omega)) ?_
    exact hp a kn cn ch nx bk mk I.1 I.2.1 hv hs.1 hs.2.1 hs.2.2 (fun b _ => ⟨rfl, rfl, fun _ _ => rfl⟩)
  · refine br_t (by decide) ?_
    exact xw_store H I hkd hdr h1 h2 hno hp
theorem xw_nodeFor {post : Int32 → SX → Prop} {e : Nat} (H : rl_W ex pa nm fi) (I : rf_I ex pa nm fi co no kn cn ch nx bk sn) (he : rl_E ex e)
    (hfr : ∀ e', rl_E ex e' → e' ≠ 0 → rl_N pa e' = e → rl_N no e' ≠ 0)
    (hp : ∀ a kn' cn' ch' nx' bk' mk' dr', rs_S kn' cn' ch' → kb_B kn' cn' ch' nx' bk' → sa_V kn' a → kn' a = (if fi e = 0 then 2 else 1) → cn' a = (if fi e = 0 then 0 else co e) →
      (∀ e', rl_E ex e' → e' ≠ 0 → rl_N pa e' = e → rs_c ch' a (rl_N nm e') = rl_N no e') → (∀ m, m < 8 → (∀ e', rl_E ex e' → e' ≠ 0 → rl_N pa e' = e → rl_N nm e' ≠ m) → rs_c ch' a m = 0) →
      (∀ b, lv_V ex no ch sn b → kn' b = kn b ∧ cn' b = cn b ∧ ∀ m, m < 8 → rs_c ch' b m = rs_c ch b m) → post (nI a) (fc, ec, ex, pa, nm, fi, co, no, kn', cn', ch', nx', bk', mk', dr', sn, lf, rt, wh, fd)) :
    wpX_nodeFor post (fc, ec, ex, pa, nm, fi, co, no, kn, cn, ch, nx, bk, mk, dr, sn, lf, rt, wh, fd) (nI e) := by
  refine ⟨9, xw_nf2 9 0 dr (by omega) (by omega) (fun m hm => absurd hm (by omega)) ?_⟩
  intro dr1 hz
  refine ⟨24, xw_nf23 H he 24 1 dr1 (by omega) (by omega) (by omega) ?_ ?_⟩
  · intro m hm
    exact ⟨fun e' _ q2 q3 => absurd q3 (by omega), fun _ => hz m hm⟩
  · intro dr2 hD
    have hdr : ∀ m, m < 8 → ∃ k, k < 128 ∧ dr2 m = nI k ∧ (k = 0 ∨ lv_V ex no ch sn k) ∧ sa_h (rs_c ch) 5 k := by
      intro m hm
      by_cases hx : ∃ e', rl_E ex e' ∧ e' ≠ 0 ∧ rl_N pa e' = e ∧ rl_N nm e' = m
      · obtain ⟨e', q1, q2, q3, q4⟩ := hx
        have hn := hfr e' q1 q2 q3
        refine ⟨rl_N no e', rf_no128 I q1, ?_, Or.inr ⟨hn, Or.inr ⟨e', q1, rfl⟩⟩, ?_⟩
        · rw [(hD m hm).1 e' q1 q2 q1.1 q3 q4]; exact I.2.2.2.2.1 e' q1
        · have d1 := ea_d5 H.1 q1
          have d2 := ea_d_s H.1 q1 q2
          have := sa_hmono I.1.1.2.1 (ea_d (rl_N pa) e' - 1) _ (la_h H.1 I.2.2.1 I.1.1.2.1 (6 - ea_d (rl_N pa) e') e' q1 hn (by omega))
          rw [show 6 - ea_d (rl_N pa) e' + (ea_d (rl_N pa) e' - 1) = 5 by omega] at this
          exact this
      · refine ⟨0, by omega, ?_, Or.inl rfl, sa_h0 I.1.1.2.1 5⟩
        exact (hD m hm).2 (fun e' q1 q2 _ q3 q4 => hx ⟨e', q1, q2, q3, q4⟩)
    have fin : ∀ a kn' cn' ch' nx' bk' mk', rs_S kn' cn' ch' → kb_B kn' cn' ch' nx' bk' → sa_V kn' a → kn' a = (if fi e = 0 then 2 else 1) → cn' a = (if fi e = 0 then 0 else co e) → (∀ m, m < 8 → ch' (8 * a + m) = dr2 m) →
      (∀ b, lv_V ex no ch sn b → kn' b = kn b ∧ cn' b = cn b ∧ ∀ m, m < 8 → rs_c ch' b m = rs_c ch b m) → post (nI a) (fc, ec, ex, pa, nm, fi, co, no, kn', cn', ch', nx', bk', mk', dr2, sn, lf, rt, wh, fd) := by
      intro a kn' cn' ch' nx' bk' mk' g1 g2 g3 g4 g5 g6 g7
      refine hp a kn' cn' ch' nx' bk' mk' dr2 g1 g2 g3 g4 g5 ?_ ?_ g7
      · intro e' q1 q2 q3
        have hm := ea_M H.1 q1 q2
        show (ch' (8 * a + rl_N nm e')).toNatClampNeg = (no e').toNatClampNeg
        rw [g6 _ hm, (hD _ hm).1 e' q1 q2 q1.1 q3 rfl]
      · intro m hm hno
        unfold rs_c rl_N
        rw [g6 m hm, (hD m hm).2 (fun e' q1 q2 _ q3 => hno e' q1 q2 q3)]
        decide
    refine ⟨fun z => ?_, fun z => ?_⟩
    · refine xw_nf105 H I (Or.inr rfl) hdr (fun q => absurd q (by decide)) (fun _ => rfl) ?_
      intro a kn' cn' ch' nx' bk' mk' g1 g2 g3 g4 g5 g6 g7
      exact fin a kn' cn' ch' nx' bk' mk' g1 g2 g3 (by rw [if_pos z]; exact g4) (by rw [if_pos z]; exact g5) g6 g7
    · refine xw_nf105 H I (Or.inl rfl) hdr (fun _ m hm => ?_) (fun q => absurd q (by decide)) ?_
      · exact (hD m hm).2 (fun e' q1 q2 _ q3 => absurd (show fi e = 0 from q3 ▸ ea_D H.1 q1 q2) z)
      · intro a kn' cn' ch' nx' bk' mk' g1 g2 g3 g4 g5 g6 g7
        exact fin a kn' cn' ch' nx' bk' mk' g1 g2 g3 (by rw [if_neg z]; exact g4) (by rw [if_neg z]; exact g5) g6 g7
/-- one entry more has its node -/
theorem rf_step (H : rl_W ex pa nm fi) (I : rf_I ex pa nm fi co no kn cn ch nx bk sn) {i a : Nat} (hi : rl_E ex i) (hz : rl_N no i = 0) {kn' cn' ch' nx' bk' : Nat → Int32}
    (g1 : rs_S kn' cn' ch') (g2 : kb_B kn' cn' ch' nx' bk') (g3 : sa_V kn' a) (g4 : kn' a = (if fi i = 0 then 2 else 1)) (g5 : cn' a = (if fi i = 0 then 0 else co i))
    (g6 : ∀ e', rl_E ex e' → e' ≠ 0 → rl_N pa e' = i → rs_c ch' a (rl_N nm e') = rl_N no e') (g7 : ∀ m, m < 8 → (∀ e', rl_E ex e' → e' ≠ 0 → rl_N pa e' = i → rl_N nm e' ≠ m) → rs_c ch' a m = 0)
    (g8 : ∀ b, lv_V ex no ch sn b → kn' b = kn b ∧ cn' b = cn b ∧ ∀ m, m < 8 → rs_c ch' b m = rs_c ch b m)
    (hfr : ∀ e', rl_E ex e' → e' ≠ 0 → rl_N pa e' = i → rl_N no e' ≠ 0) :
    rf_I ex pa nm fi co (upd no i (nI a)) kn' cn' ch' nx' bk' sn ∧ sp_K kn cn (rs_c ch) kn' cn' (rs_c ch') (rl_N sn) ∧ (∀ e, rl_N (upd no i (nI a)) e = if e = i then a else rl_N no e) := by
  have hN : ∀ e, rl_N (upd no i (nI a)) e = if e = i then a else rl_N no e := by
    intro e
    by_cases q : e = i
    · rw [if_pos q, q]; exact rb_N pk_us (by have := g3.2.1; omega)
    · rw [if_neg q]; unfold rl_N; rw [pk_un q]
  have hK : sp_K kn cn (rs_c ch) kn' cn' (rs_c ch') (rl_N sn) := by
    refine sp_mk I.1.1 g1.1.1 g1.1.2.1 ?_
    intro t ht p hp
    exact g8 _ ⟨hp, Or.inl ⟨t, ht, p, rfl⟩⟩
  refine ⟨⟨g1, g2, ?_, sp_BK I.2.2.2.1 hK, ?_, I.2.2.2.2.2⟩, hK, hN⟩
  · have L1 := la_store (K' := kn') (C' := cn') (c' := rs_c ch') I.2.2.1 (by
      intro e he hn
      have hl : lv_V ex no ch sn (rl_N no e) := ⟨hn, Or.inr ⟨e, he, rfl⟩⟩
      have v := rf_lv I hl
      have q := g8 _ hl
      exact ⟨⟨v.1, v.2.1, by rw [q.1]; exact v.2.2⟩, q⟩) H.1
    refine la_set L1 hz ?_ hN g3 g4 g5 (fun e' q1 q2 q3 => ⟨hfr e' q1 q2 q3, g6 e' q1 q2 q3⟩) g7
    intro e he h0 q
    have := ea_d_s H.1 he h0
    rw [q] at this
    omega
  · intro e he
    rw [hN e]
    by_cases q : e = i
    · rw [if_pos q, q, pk_us]
    · rw [if_neg q, pk_un q]; exact I.2.2.2.2.1 e he
theorem xw_rf18 (H : rl_W ex pa nm fi) {post : SX → Prop} {J : Int32 → Int32 → Int32 → (Nat → Int32) → (Nat → Int32) → (Nat → Int32) → (Nat → Int32) → (Nat → Int32) → (Nat → Int32) → (Nat → Int32) → (Nat → Int32) → (Nat → Int32) → (Nat → Int32) → (Nat → Int32) → (Nat → Int32) → (Nat → Int32) → (Nat → Int32) → (Nat → Int32) → (Nat → Int32) → (Nat → Int32) → (Nat → Int32) → Prop}
    {d : Nat} (hd5 : d ≤ 5) {kn0 cn0 : Nat → Int32} {c0 : Nat → Nat → Nat} :
    ∀ n i no kn cn ch nx bk mk dr, i ≤ 24 → 24 < n + i → rf_I ex pa nm fi co no kn cn ch nx bk sn → sp_K kn0 cn0 c0 kn cn (rs_c ch) (rl_N sn) →
    (∀ e, rl_E ex e → (d < ea_d (rl_N pa) e ∨ (ea_d (rl_N pa) e = d ∧ e < i)) → rl_N no e ≠ 0) →
    (∀ no' kn' cn' ch' nx' bk' mk' dr', rf_I ex pa nm fi co no' kn' cn' ch' nx' bk' sn → sp_K kn0 cn0 c0 kn' cn' (rs_c ch') (rl_N sn) → (∀ e, rl_E ex e → d ≤ ea_d (rl_N pa) e → rl_N no' e ≠ 0) →
      J (nI d + (-1)) fc ec ex pa nm fi co no' kn' cn' ch' nx' bk' mk' dr' sn lf rt wh fd) → wX_refresh_18 post J (nI d) n (nI i) fc ec ex pa nm fi co no kn cn ch nx bk mk dr sn lf rt wh fd := by
  intro n
  induction n with
  | zero => intro i no kn cn ch nx bk mk dr h1 h2; omega
  | succ n ih =>
    intro i no kn cn ch nx bk mk dr h1 h2 I hK hD hp
    refine pk_le 24 i (fun h => ?_) (fun h => ?_)
    · refine nm_e (hp no kn cn ch nx bk mk dr I hK ?_)
      intro e he hde
      refine hD e he ?_
      have := he.1
      omega
    · have skip : (rl_E ex i → ea_d (rl_N pa) i = d → rl_N no i ≠ 0) → wX_refresh_18 post J (nI d) n (nI (i + 1)) fc ec ex pa nm fi co no kn cn ch nx bk mk dr sn lf rt wh fd := by
        intro hs
        refine ih (i + 1) no kn cn ch nx bk mk dr (by omega) (by omega) I hK ?_ hp
        intro e he hh
        by_cases q : e = i
        · rcases hh with w | w
          · exact hD e he (Or.inl w)
          · subst q; exact hs he w.1
        · refine hD e he ?_
          rcases hh with w | w
          · exact Or.inl w
          · exact Or.inr ⟨w.1, by omega⟩
      refine ⟨pk_in i 24 h, rb_z (by omega) (fun z => nm_r (nI_1 i) (skip (fun q => absurd z q.2))) (fun z => ?_)⟩
      have hi : rl_E ex i := ⟨h, z⟩
      refine ⟨pk_in i 24 h, rb_z (by omega) (fun z2 => ?_) (fun z2 => nm_r (nI_1 i) (skip (fun _ _ q => z2 ?_)))⟩
      · have hz : rl_N no i = 0 := by unfold rl_N; rw [z2]; decide
        have hd5' := ea_d5 H.1 hi
        refine xw_depth H hi (pk_eq (ea_d (rl_N pa) i) d (fun w => ?_) (fun w => nm_r (nI_1 i) (skip (fun _ q => absurd q w))))
        have hfr : ∀ e', rl_E ex e' → e' ≠ 0 → rl_N pa e' = i → rl_N no e' ≠ 0 := by
          intro e' q1 q2 q3
          refine hD e' q1 (Or.inl ?_)
          have := ea_d_s H.1 q1 q2
          rw [q3] at this
          omega
        refine xw_nodeFor H I hi hfr ?_
        intro a kn' cn' ch' nx' bk' mk' dr' g1 g2 g3 g4 g5 g6 g7 g8
        obtain ⟨I', hK', hN⟩ := rf_step H I hi hz g1 g2 g3 g4 g5 g6 g7 g8 hfr
        refine ⟨pk_in i 24 h, nm_r (e' := upd no i (nI a)) (by rw [nI_clamp (by omega)]) (nm_r (nI_1 i) (ih (i + 1) _ _ _ _ _ _ _ _ (by omega) (by omega) I' (sp_trans hK hK') ?_ hp))⟩
        intro e he hh
        rw [hN e]
        by_cases q : e = i
        · rw [if_pos q]; exact g3.1
        · rw [if_neg q]
          refine hD e he ?_
          rcases hh with r | r
          · exact Or.inl r
          · exact Or.inr ⟨r.1, by omega⟩
      · have := I.2.2.2.2.1 i hi
        rw [q] at this
        exact this
theorem xw_rf12 (H : rl_W ex pa nm fi) {post : SX → Prop} {kn0 cn0 : Nat → Int32} {c0 : Nat → Nat → Nat} :
    ∀ r n no kn cn ch nx bk mk dr, r ≤ 6 → r < n → rf_I ex pa nm fi co no kn cn ch nx bk sn → sp_K kn0 cn0 c0 kn cn (rs_c ch) (rl_N sn) →
    (∀ e, rl_E ex e → r ≤ ea_d (rl_N pa) e → rl_N no e ≠ 0) →
    (∀ no' kn' cn' ch' nx' bk' mk' dr', rf_I ex pa nm fi co no' kn' cn' ch' nx' bk' sn → sp_K kn0 cn0 c0 kn' cn' (rs_c ch') (rl_N sn) → (∀ e, rl_E ex e → rl_N no' e ≠ 0) →
      post (fc, ec, ex, pa, nm, fi, co, no', kn', cn', ch', nx', bk', mk', dr', sn, lf, rt, wh, fd)) → wX_refresh_12 post n (nI r + (-1)) fc ec ex pa nm fi co no kn cn ch nx bk mk dr sn lf rt wh fd := by
  intro r
  induction r with
  | zero =>
    intro n no kn cn ch nx bk mk dr _ hn I hK hD hp
    cases n with
    | zero => omega
    | succ n => exact br_t (by decide) (hp no kn cn ch nx bk mk dr I hK (fun e he => hD e he (Nat.zero_le _)))
  | succ r ih =>
    intro n no kn cn ch nx bk mk dr hr hn I hK hD hp
    cases n with
    | zero => omega
    | succ n =>
      rw [pk_m1]
      refine br_f (nI_pos (by omega)) ⟨25, xw_rf18 H (by omega) 25 0 no kn cn ch nx bk mk dr (by omega) (by omega) I hK ?_ ?_⟩
      · intro e he hh
        refine hD e he ?_
        omega
      · intro no' kn' cn' ch' nx' bk' mk' dr' g1 g2 g3
        exact ih n no' kn' cn' ch' nx' bk' mk' dr' (by omega) (by omega) g1 g2 g3 hp
theorem xw_refresh (H : rl_W ex pa nm fi) (I : rf_I ex pa nm fi co no kn cn ch nx bk sn) {post : SX → Prop}
    (hp : ∀ no' kn' cn' ch' nx' bk' mk' dr', rf_I ex pa nm fi co no' kn' cn' ch' nx' bk' sn → sp_K kn cn (rs_c ch) kn' cn' (rs_c ch') (rl_N sn) → (∀ e, rl_E ex e → rl_N no' e ≠ 0) →
      post (fc, ec, ex, pa, nm, fi, co, no', kn', cn', ch', nx', bk', mk', dr', sn, lf, rt, wh, fd)) : wpX_refresh post (fc, ec, ex, pa, nm, fi, co, no, kn, cn, ch, nx, bk, mk, dr, sn, lf, rt, wh, fd) := by
  refine br_c (fun z => ⟨7, ?_⟩) (fun z => ?_)
  · have := xw_rf12 (fc := fc) (ec := ec) (lf := lf) (rt := rt) (wh := wh) (fd := fd) H (post := post) 6 7 no kn cn ch nx bk mk dr (by omega) (by omega) I sp_refl (fun e he h6 => absurd (ea_d5 H.1 he) (by omega)) hp
    rw [pk_m1] at this
    exact this
  · refine hp no kn cn ch nx bk mk dr I sp_refl (la_fresh H.1 I.2.2.1 ?_)
    intro q
    have := I.2.2.2.2.1 0 H.1.1
    rw [q] at this
    exact z this
end
end
section
/-! the relation -/
def ir_R (ec : Int32) (ex pa nm fi co no kn cn ch nx bk sn ps fs cs ct : Nat → Int32) : Prop :=
  rl_W ex pa nm fi ∧ ec = nI (ct_n ex 24) ∧ rf_I ex pa nm fi co no kn cn ch nx bk sn ∧
  (∀ t, t < 3 → ∃ n, ct t = nI n ∧ sn_T kn cn (rs_c ch) (rl_N sn t) n ps fs cs (24 * t))
/-- the relation at the head of a turn: the entries are the same functions, the store holds their values and the snapshots -/
def i_Rel (k : Nat) (u : SX) (v : SY) : Prop :=
  ∃ fc ec ex pa nm fi co no kn cn ch nx bk mk dr sn lf rt wh fd ym ps fs cs ct, u = (fc, ec, ex, pa, nm, fi, co, no, kn, cn, ch, nx, bk, mk, dr, sn, lf, rt, wh, fd) ∧ v = (ex, fi, pa, nm, co, ym, ps, fs, cs, ct) ∧ ir_R ec ex pa nm fi co no kn cn ch nx bk sn ps fs cs ct
theorem i_up {k : Nat} {u : SX} {v : SY} (h : i_Rel k u v) : i_Rel (k + 4) u v := h
theorem ir_mk {k : Nat} {fc ec : Int32} {ex pa nm fi co no kn cn ch nx bk mk dr sn lf rt wh fd ym ps fs cs ct : Nat → Int32} (h : ir_R ec ex pa nm fi co no kn cn ch nx bk sn ps fs cs ct) : i_Rel k (fc, ec, ex, pa, nm, fi, co, no, kn, cn, ch, nx, bk, mk, dr, sn, lf, rt, wh, fd) (ex, fi, pa, nm, co, ym, ps, fs, cs, ct) :=
  ⟨fc, ec, ex, pa, nm, fi, co, no, kn, cn, ch, nx, bk, mk, dr, sn, lf, rt, wh, fd, ym, ps, fs, cs, ct, rfl, rfl, h⟩
theorem ir_el {k : Nat} {u : SX} {v : SY} {P : SX → SY → Prop}
    (h : ∀ (fc ec : Int32) (ex pa nm fi co no kn cn ch nx bk mk dr sn lf rt wh fd ym ps fs cs ct : Nat → Int32), ir_R ec ex pa nm fi co no kn cn ch nx bk sn ps fs cs ct → P (fc, ec, ex, pa, nm, fi, co, no, kn, cn, ch, nx, bk, mk, dr, sn, lf, rt, wh, fd) (ex, fi, pa, nm, co, ym, ps, fs, cs, ct))
    (I : i_Rel k u v) : P u v :=
  I.elim fun fc I => I.elim fun ec I => I.elim fun ex I => I.elim fun pa I => I.elim fun nm I => I.elim fun fi I => I.elim fun co I => I.elim fun no I => I.elim fun kn I => I.elim fun cn I => I.elim fun ch I => I.elim fun nx I => I.elim fun bk I => I.elim fun mk I => I.elim fun dr I => I.elim fun sn I => I.elim fun lf I => I.elim fun rt I => I.elim fun wh I => I.elim fun fd I => I.elim fun ym I => I.elim fun ps I => I.elim fun fs I => I.elim fun cs I => I.elim fun ct I =>
    I.1 ▸ I.2.1 ▸ h fc ec ex pa nm fi co no kn cn ch nx bk mk dr sn lf rt wh fd ym ps fs cs ct I.2.2
theorem rb_Nu {f : Nat → Int32} {a b : Nat} (hb : b < 2 ^ 31) (e : Nat) : rl_N (upd f a (nI b)) e = if e = a then b else rl_N f e := by
  by_cases q : e = a
  · rw [if_pos q, q]; exact rb_N pk_us hb
  · rw [if_neg q]; unfold rl_N; rw [pk_un q]
/-! touch -/
def to_t (pa nm no : Nat → Int32) (a : Nat) : Nat → Int32 := fun i => if (ea_r (rl_N pa) (rl_N nm) i a).isSome = true then 0 else no i
theorem to_N {pa nm no : Nat → Int32} {a i : Nat} : rl_N (to_t pa nm no a) i = la_t (rl_N pa) (rl_N nm) (rl_N no) a i := by
  unfold rl_N to_t la_t
  by_cases h : (ea_r (rl_N pa) (rl_N nm) i a).isSome = true
  · rw [if_pos h]
    have h' : (ea_r (fun i => (pa i).toNatClampNeg) (fun i => (nm i).toNatClampNeg) i a).isSome = true := h
    rw [if_pos h']; decide
  · rw [if_neg h]
    have h' : ¬ (ea_r (fun i => (pa i).toNatClampNeg) (fun i => (nm i).toNatClampNeg) i a).isSome = true := h
    rw [if_neg h']
theorem to_no {pa nm no ex : Nat → Int32} {a : Nat} (h : ∀ e, rl_E ex e → no e = nI (rl_N no e)) {e : Nat} (he : rl_E ex e) : to_t pa nm no a e = nI (rl_N (to_t pa nm no a) e) := by
  unfold rl_N to_t
  by_cases q : (ea_r (rl_N pa) (rl_N nm) e a).isSome = true
  · rw [if_pos q]; decide
  · rw [if_neg q]; exact h e he
section
variable {fc ec : Int32} {ex pa nm fi co no kn cn ch nx bk mk dr sn lf rt wh fd : Nat → Int32}
theorem xw_touch_l (H : rl_W ex pa nm fi) {post : SX → Prop} : ∀ n k e no, rl_E ex e → ea_d (rl_N pa) e + k ≤ 5 → 5 < n + k → post (fc, ec, ex, pa, nm, fi, co, (to_t pa nm no e), kn, cn, ch, nx, bk, mk, dr, sn, lf, rt, wh, fd) → wX_touch_4 post fc ec n (nI e) (nI k) ex pa nm fi co no kn cn ch nx bk mk dr sn lf rt wh fd := by
  intro n
  induction n with
  | zero => intro k e no _ h1 h2; omega
  | succ n ih =>
    intro k e no he h1 h2 hp
    have h24 := he.1
    have fin : e = 0 → post (fc, ec, ex, pa, nm, fi, co, (upd no 0 0), kn, cn, ch, nx, bk, mk, dr, sn, lf, rt, wh, fd) := by
      intro z
      have e1 : to_t pa nm no e = upd no 0 0 := by
        funext i
        unfold to_t
        by_cases q : i = 0
        · rw [q, pk_us, z, if_pos ea_U_x]
        · rw [pk_un q, z, ea_r_0 q]; rfl
      rw [e1] at hp; exact hp
    refine pk_le 5 k (fun h => ?_) (fun h => ?_)
    · refine nm_e (fin ?_)
      by_cases z : e = 0
      · exact z
      · have := ea_d_s H.1 he z; omega
    · refine pk_eq e 0 (fun z => nm_e (fin z)) (fun h0 => ?_)
      have ds := ea_d_s H.1 he h0
      refine ⟨pk_in e 24 h24, nm_r (e' := upd no e 0) (by rw [nI_clamp (by omega)]) ⟨pk_in e 24 h24, nm_r (rl_Pat H he h0) (nm_r (nI_1 k) (ih (k + 1) _ _ (ea_P H.1 he h0) (by omega) (by omega) ?_))⟩⟩
      have e1 : to_t pa nm (upd no e 0) (rl_N pa e) = to_t pa nm no e := by
        funext i
        unfold to_t
        by_cases q : i = e
        · rw [q, if_pos ea_U_x, pk_us]
          by_cases w : (ea_r (rl_N pa) (rl_N nm) e (rl_N pa e)).isSome = true
          · rw [if_pos w]
          · rw [if_neg w]
        · rw [pk_un q, ea_r_s H.1 he (fun w => q w.symm) h0, Option.isSome_map]
      rw [e1]; exact hp
theorem xw_touch (H : rl_W ex pa nm fi) {post : SX → Prop} {e : Nat} (he : rl_E ex e) (hp : post (fc, ec, ex, pa, nm, fi, co, (to_t pa nm no e), kn, cn, ch, nx, bk, mk, dr, sn, lf, rt, wh, fd)) : wpX_touch post (fc, ec, ex, pa, nm, fi, co, no, kn, cn, ch, nx, bk, mk, dr, sn, lf, rt, wh, fd) (nI e) :=
  ⟨6, xw_touch_l H 6 0 e no he (by have := ea_d5 H.1 he; omega) (by omega) hp⟩
end
/-! the small methods -/
theorem i_vc_kind {k : Nat} {u : SX} {v : SY} (I : i_Rel k u v) (hk : k + 4 ≤ 2048) (v1 : Int32) : wpX_kind (fun r => wpY_kind (fun r' => r' = r ∧ i_Rel (k + 4) u v) v v1) u v1 := by
  refine ir_el (P := fun u v => wpX_kind (fun r => wpY_kind (fun r' => r' = r ∧ i_Rel (k + 4) u v) v v1) u v1) ?_ I
  intro fc ec ex pa nm fi co no kn cn ch nx bk mk dr sn lf rt wh fd ym ps fs cs ct R
  have RR : i_Rel (k + 4) (fc, ec, ex, pa, nm, fi, co, no, kn, cn, ch, nx, bk, mk, dr, sn, lf, rt, wh, fd) (ex, fi, pa, nm, co, ym, ps, fs, cs, ct) := ir_mk R
  unfold wpX_kind wpY_kind
  dsimp only
  rcases rl_good ex v1 with ⟨j, hj, rfl⟩ | hb
  · have h24 := hj.1
    refine xg_t hj (br_f (by decide) ⟨pk_in j 24 h24, rb_z (by omega) (fun z => ?_) (fun z => ?_)⟩)
    · exact yg_t hj (br_t rfl ⟨pk_in j 24 h24, rb_z (by omega) (fun _ => ⟨rfl, RR⟩) (fun q => absurd z q)⟩)
    · exact yg_t hj (br_t rfl ⟨pk_in j 24 h24, rb_z (by omega) (fun q => absurd q z) (fun _ => ⟨rfl, RR⟩)⟩)
  · exact xg_f hb (br_t rfl (yg_f hb (br_f (by decide) ⟨rfl, RR⟩)))
theorem i_vc_content {k : Nat} {u : SX} {v : SY} (I : i_Rel k u v) (hk : k + 4 ≤ 2048) (v1 : Int32) : wpX_content (fun r => wpY_content (fun r' => r' = r ∧ i_Rel (k + 4) u v) v v1) u v1 := by
  refine ir_el (P := fun u v => wpX_content (fun r => wpY_content (fun r' => r' = r ∧ i_Rel (k + 4) u v) v v1) u v1) ?_ I
  intro fc ec ex pa nm fi co no kn cn ch nx bk mk dr sn lf rt wh fd ym ps fs cs ct R
  have RR : i_Rel (k + 4) (fc, ec, ex, pa, nm, fi, co, no, kn, cn, ch, nx, bk, mk, dr, sn, lf, rt, wh, fd) (ex, fi, pa, nm, co, ym, ps, fs, cs, ct) := ir_mk R
  unfold wpX_content wpY_content
  dsimp only
  rcases rl_good ex v1 with ⟨j, hj, rfl⟩ | hb
  · have h24 := hj.1
    refine xg_t hj (br_f (by decide) ⟨pk_in j 24 h24, rb_z (by omega) (fun z => ?_) (fun z => ⟨pk_in j 24 h24, ?_⟩)⟩)
    · exact yg_t hj (br_t rfl ⟨pk_in j 24 h24, rb_z (by omega) (fun _ => ⟨rfl, RR⟩) (fun q => absurd z q)⟩)
    · exact yg_t hj (br_t rfl ⟨pk_in j 24 h24, rb_z (by omega) (fun q => absurd q z) (fun _ => ⟨pk_in j 24 h24, rfl, RR⟩)⟩)
  · exact xg_f hb (br_t rfl (yg_f hb (br_f (by decide) ⟨rfl, RR⟩)))
theorem i_vc_path {k : Nat} {u : SX} {v : SY} (I : i_Rel k u v) (hk : k + 4 ≤ 2048) (v1 : Int32) : wpX_path (fun r => wpY_path (fun r' => r' = r ∧ i_Rel (k + 4) u v) v v1) u v1 := by
  refine ir_el (P := fun u v => wpX_path (fun r => wpY_path (fun r' => r' = r ∧ i_Rel (k + 4) u v) v v1) u v1) ?_ I
  intro fc ec ex pa nm fi co no kn cn ch nx bk mk dr sn lf rt wh fd ym ps fs cs ct R
  have RR : i_Rel (k + 4) (fc, ec, ex, pa, nm, fi, co, no, kn, cn, ch, nx, bk, mk, dr, sn, lf, rt, wh, fd) (ex, fi, pa, nm, co, ym, ps, fs, cs, ct) := ir_mk R
  rcases rl_good ex v1 with ⟨j, hj, rfl⟩ | hb
  · refine xw_path R.1 hj ?_
    unfold wpY_path
    dsimp only
    exact yg_t hj (br_t rfl (yw_from0 R.1 hj ⟨rfl, RR⟩))
  · unfold wpX_path wpY_path
    dsimp only
    exact xg_f hb (br_t rfl (yg_f hb (br_f (by decide) ⟨rfl, RR⟩)))
theorem i_vc_entries {k : Nat} {u : SX} {v : SY} (I : i_Rel k u v) (hk : k + 4 ≤ 2048) : wpX_entries (fun r => wpY_entries (fun r' => r' = r ∧ i_Rel (k + 4) u v) v) u := by
  refine ir_el (P := fun u v => wpX_entries (fun r => wpY_entries (fun r' => r' = r ∧ i_Rel (k + 4) u v) v) u) ?_ I
  intro fc ec ex pa nm fi co no kn cn ch nx bk mk dr sn lf rt wh fd ym ps fs cs ct R
  have RR : i_Rel (k + 4) (fc, ec, ex, pa, nm, fi, co, no, kn, cn, ch, nx, bk, mk, dr, sn, lf, rt, wh, fd) (ex, fi, pa, nm, co, ym, ps, fs, cs, ct) := ir_mk R
  unfold wpX_entries
  dsimp only
  exact yw_entries ⟨R.2.1.symm, RR⟩
theorem i_vc_write {k : Nat} {u : SX} {v : SY} (I : i_Rel k u v) (hk : k + 4 ≤ 2048) (v1 : Int32) (v2 : Int32) : wpX_write (fun r u' => wpY_write (fun r' v' => r' = r ∧ i_Rel (k + 4) u' v') v v1 v2) u v1 v2 := by
  refine ir_el (P := fun u v => wpX_write (fun r u' => wpY_write (fun r' v' => r' = r ∧ i_Rel (k + 4) u' v') v v1 v2) u v1 v2) ?_ I
  intro fc ec ex pa nm fi co no kn cn ch nx bk mk dr sn lf rt wh fd ym ps fs cs ct R
  unfold wpX_write wpY_write
  dsimp only
  rcases rl_good ex v1 with ⟨j, hj, rfl⟩ | hb
  · have h24 := hj.1
    refine xg_t hj (br_f (by decide) ⟨pk_in j 24 h24, rb_z (by omega) (fun z => ?_) (fun z => ⟨pk_in j 24 h24, nm_r (e' := upd co j v2) (by rw [nI_clamp (by omega)]) ?_⟩)⟩)
    · exact yg_t hj (br_t rfl ⟨pk_in j 24 h24, rb_z (by omega) (fun _ => ⟨rfl, ir_mk R⟩) (fun q => absurd z q)⟩)
    · refine xw_touch R.1 hj ?_
      refine yg_t hj (br_t rfl ⟨pk_in j 24 h24, rb_z (by omega) (fun q => absurd q z) (fun _ => ⟨pk_in j 24 h24, nm_r (e' := upd co j v2) (by rw [nI_clamp (by omega)]) ⟨rfl, ir_mk ?_⟩⟩)⟩)
      obtain ⟨H, he, hI, hT⟩ := R
      refine ⟨H, he, ⟨hI.1, hI.2.1, ?_, hI.2.2.2.1, fun e q => to_no hI.2.2.2.2.1 q, hI.2.2.2.2.2⟩, hT⟩
      exact la_write H.1 hI.2.2.1 hj (fun e q => pk_un q) (fun e _ => to_N)
  · exact xg_f hb (br_t rfl (yg_f hb (br_f (by decide) ⟨rfl, ir_mk R⟩)))
end
section
/-! directory and file -/
def mk_G (ex pa nm fi : Nat → Int32) (b m0 e0 : Nat) : Prop :=
  rl_E ex b ∧ fi b = 0 ∧ m0 < 8 ∧ (∀ e, rl_E ex e → e ≠ 0 → rl_N pa e = b → rl_N nm e ≠ m0) ∧ ea_d (rl_N pa) b ≠ 5 ∧ 1 ≤ e0 ∧ e0 < 24 ∧ ex e0 = 0 ∧ (∀ j, 1 ≤ j → j < e0 → ex j ≠ 0)
section
variable {fc ec : Int32} {ex pa nm fi co no kn cn ch nx bk mk dr sn lf rt wh fd : Nat → Int32}
variable {ym ps fs cs ct : Nat → Int32}
theorem yw_make_ok (H : rl_W ex pa nm fi) {b m0 e0 : Nat} (G : mk_G ex pa nm fi b m0 e0) {f c : Int32} {post : Int32 → SY → Prop}
    (hp : post (nI e0) ((upd ex e0 (vp_nar .boolean 1)), (upd fi e0 (vp_nar .boolean f)), (upd pa e0 (nI b)), (upd nm e0 (nI m0)), (upd co e0 c), ym, ps, fs, cs, ct)) : wpY_make post (ex, fi, pa, nm, co, ym, ps, fs, cs, ct) (nI b) (nI m0) f c := by
  obtain ⟨hb, hf, hm, hno, hd, g1, g2, g3, g4⟩ := G
  have h24 := hb.1
  have d5 := ea_d5 H.1 hb
  unfold wpY_make
  dsimp only
  refine yg_t hb (br_t rfl ⟨pk_in b 24 h24, rb_z (by omega) (fun _ => ?_) (fun q => absurd hf q)⟩)
  refine pk_lt m0 0 (fun q => absurd q (by omega)) (fun _ => pk_le m0 7 (fun _ => ?_) (fun q => absurd q (by omega)))
  refine yw_child H h24 (by omega) (fun e h1 h2 h3 h4 => absurd h4 (hno e h1 h2 h3)) (fun _ => br_t rb_m1' ?_)
  refine yw_depth H hb (pk_eq (ea_d (rl_N pa) b) 5 (fun q => absurd q hd) (fun _ => ?_))
  refine yw_least (fun e h1 h2 h3 h4 => ?_) (fun hh => absurd g3 (hh e0 g1 g2))
  have e1 : e = e0 := by
    rcases Nat.lt_trichotomy e e0 with w | w | w
    · exact absurd h3 (g4 e h1 w)
    · exact w
    · exact absurd g3 (h4 e0 g1 w)
  subst e1
  refine br_t (nI_pos' (by omega)) ?_
  rw [nI_clamp (show e < 2 ^ 31 by omega)]
  exact ⟨pk_in e 24 g2, nm_e ⟨pk_in e 24 g2, nm_e ⟨pk_in e 24 g2, nm_e ⟨pk_in e 24 g2, nm_e ⟨pk_in e 24 g2, nm_e hp⟩⟩⟩⟩⟩
theorem mk_or (H : rl_W ex pa nm fi) (hec : ec = nI (ct_n ex 24)) (v1 v2 f c : Int32) :
    (∃ r : Int32, ¬ 0 ≤ r ∧ (∀ post : Int32 → Prop, post r → wpX_refused post (fc, ec, ex, pa, nm, fi, co, no, kn, cn, ch, nx, bk, mk, dr, sn, lf, rt, wh, fd) v1 v2) ∧ (∀ post : Int32 → SY → Prop, post r (ex, fi, pa, nm, co, ym, ps, fs, cs, ct) → wpY_make post (ex, fi, pa, nm, co, ym, ps, fs, cs, ct) v1 v2 f c)) ∨
    (∃ b m0 e0, v1 = nI b ∧ v2 = nI m0 ∧ mk_G ex pa nm fi b m0 e0 ∧ (∀ post : Int32 → Prop, post 0 → wpX_refused post (fc, ec, ex, pa, nm, fi, co, no, kn, cn, ch, nx, bk, mk, dr, sn, lf, rt, wh, fd) v1 v2)) := by
  unfold wpX_refused wpY_make
  dsimp only
  rcases rl_good ex v1 with ⟨b, hb, rfl⟩ | hbad
  · have h24 := hb.1
    have d5 := ea_d5 H.1 hb
    by_cases hf : fi b = 0
    · rcases rl_name v2 with ⟨m, hm, rfl⟩ | hnm
      · by_cases hx : ∃ e, rl_E ex e ∧ e ≠ 0 ∧ rl_N pa e = b ∧ rl_N nm e = m
        · refine Or.inl ⟨-4, by decide, fun post p => ?_, fun post p => ?_⟩
          · refine xg_t hb (br_f (by decide) ⟨pk_in b 24 h24, rb_z (by omega) (fun _ => ?_) (fun q => absurd hf q)⟩)
            refine xn_t hm (br_f (by decide) ?_)
            refine xw_child H h24 (by omega) (fun e h1 _ _ _ => br_f (nI_pos (by have := h1.1; omega)) p) (fun hh => ?_)
            obtain ⟨e, h1, h2, h3, h4⟩ := hx
            exact absurd h4 (hh e h1 h2 h3)
          · refine yg_t hb (br_t rfl ⟨pk_in b 24 h24, rb_z (by omega) (fun _ => ?_) (fun q => absurd hf q)⟩)
            refine pk_lt m 0 (fun q => absurd q (by omega)) (fun _ => pk_le m 7 (fun _ => ?_) (fun q => absurd q (by omega)))
            refine yw_child H h24 (by omega) (fun e h1 _ _ _ => br_f (nI_pos (by have := h1.1; omega)) p) (fun hh => ?_)
            obtain ⟨e, h1, h2, h3, h4⟩ := hx
            exact absurd h4 (hh e h1 h2 h3)
        · have hno : ∀ e, rl_E ex e → e ≠ 0 → rl_N pa e = b → rl_N nm e ≠ m := fun e h1 h2 h3 h4 => hx ⟨e, h1, h2, h3, h4⟩
          have X1 : ∀ post : Int32 → Prop, wpX_depthOf (fun r_49 => ((r_49 = 5 → post (-5)) ∧ (¬ r_49 = 5 → ((ec = 24 → post (-6)) ∧ (¬ ec = 24 → post 0))))) (fc, ec, ex, pa, nm, fi, co, no, kn, cn, ch, nx, bk, mk, dr, sn, lf, rt, wh, fd) (nI b) → wpX_isGood (fun r_1 => (((r_1 = 0 → (post (-1))) ∧ (¬ r_1 = 0 → (vp_in (nI b) 24 ∧ ((((fi (nI b).toNatClampNeg) = 0 → (wpX_isName (fun r_25 => (((r_25 = 0 → (post (-3))) ∧ (¬ r_25 = 0 → (wpX_childNamed (fun r_27 => (((r_27 < 0 → (wpX_depthOf (fun r_49 => (((r_49 = 5 → (post (-5))) ∧ (¬ r_49 = 5 → (((ec = 24 → (post (-6))) ∧ (¬ ec = 24 → (post 0)))))))) (fc, ec, ex, pa, nm, fi, co, no, kn, cn, ch, nx, bk, mk, dr, sn, lf, rt, wh, fd) (nI b))) ∧ (¬ r_27 < 0 → (post (-4)))))) (fc, ec, ex, pa, nm, fi, co, no, kn, cn, ch, nx, bk, mk, dr, sn, lf, rt, wh, fd) (nI b) (nI m)))))) (nI m))) ∧ (¬ (fi (nI b).toNatClampNeg) = 0 → (post (-2)))))))))) (fc, ec, ex, pa, nm, fi, co, no, kn, cn, ch, nx, bk, mk, dr, sn, lf, rt, wh, fd) (nI b) := by
            intro post p
            refine xg_t hb (br_f (by decide) ⟨pk_in b 24 h24, rb_z (by omega) (fun _ => ?_) (fun q => absurd hf q)⟩)
            refine xn_t hm (br_f (by decide) ?_)
            exact xw_child H h24 (by omega) (fun e h1 h2 h3 h4 => absurd h4 (hno e h1 h2 h3)) (fun _ => br_t rb_m1' p)
          by_cases hd : ea_d (rl_N pa) b = 5
          · refine Or.inl ⟨-5, by decide, fun post p => X1 post (xw_depth H hb (br_t (by rw [hd]; rfl) p)), fun post p => ?_⟩
            refine yg_t hb (br_t rfl ⟨pk_in b 24 h24, rb_z (by omega) (fun _ => ?_) (fun q => absurd hf q)⟩)
            refine pk_lt m 0 (fun q => absurd q (by omega)) (fun _ => pk_le m 7 (fun _ => ?_) (fun q => absurd q (by omega)))
            refine yw_child H h24 (by omega) (fun e h1 h2 h3 h4 => absurd h4 (hno e h1 h2 h3)) (fun _ => br_t rb_m1' ?_)
            exact yw_depth H hb (br_t (by rw [hd]; rfl) p)
          · have ctl := ct_le ex 24
            by_cases hfree : ∃ e, 1 ≤ e ∧ e < 24 ∧ ex e = 0
            · obtain ⟨e0, ⟨g1, g2, g3⟩, g4⟩ := pk_least _ hfree
              have g4' : ∀ j, 1 ≤ j → j < e0 → ex j ≠ 0 := fun j h1 h2 h3 => g4 j h2 ⟨h1, by omega, h3⟩
              have hct : ct_n ex 24 ≠ 24 := fun q => ct_full 24 q e0 g2 g3
              refine Or.inr ⟨b, m, e0, rfl, rfl, ⟨hb, hf, hm, hno, hd, g1, g2, g3, g4'⟩, fun post p => X1 post (xw_depth H hb ?_)⟩
              exact pk_eq (ea_d (rl_N pa) b) 5 (fun q => absurd q hd) (fun _ => pk_eq (ct_n ex 24) 24 (fun q => absurd q hct) (fun _ => p) hec)
            · have hall : ∀ e, 1 ≤ e → e < 24 → ex e ≠ 0 := fun e h1 h2 h3 => hfree ⟨e, h1, h2, h3⟩
              have hct : ct_n ex 24 = 24 := ct_all 24 (fun j hj => by
                by_cases q : j = 0
                · rw [q]; exact H.1.1.2
                · exact hall j (by omega) hj)
              refine Or.inl ⟨-6, by decide, fun post p => X1 post (xw_depth H hb ?_), fun post p => ?_⟩
              · exact pk_eq (ea_d (rl_N pa) b) 5 (fun q => absurd q hd) (fun _ => pk_eq (ct_n ex 24) 24 (fun _ => p) (fun q => absurd hct q) hec)
              · refine yg_t hb (br_t rfl ⟨pk_in b 24 h24, rb_z (by omega) (fun _ => ?_) (fun q => absurd hf q)⟩)
                refine pk_lt m 0 (fun q => absurd q (by omega)) (fun _ => pk_le m 7 (fun _ => ?_) (fun q => absurd q (by omega)))
                refine yw_child H h24 (by omega) (fun e h1 h2 h3 h4 => absurd h4 (hno e h1 h2 h3)) (fun _ => br_t rb_m1' ?_)
                refine yw_depth H hb (pk_eq (ea_d (rl_N pa) b) 5 (fun q => absurd q hd) (fun _ => ?_))
                exact yw_least (fun e h1 h2 h3 _ => absurd h3 (hall e h1 h2)) (fun _ => br_f rb_m1 p)
      · refine Or.inl ⟨-3, by decide, fun post p => ?_, fun post p => ?_⟩
        · refine xg_t hb (br_f (by decide) ⟨pk_in b 24 h24, rb_z (by omega) (fun _ => ?_) (fun q => absurd hf q)⟩)
          exact xn_f hnm (br_t rfl p)
        · refine yg_t hb (br_t rfl ⟨pk_in b 24 h24, rb_z (by omega) (fun _ => ?_) (fun q => absurd hf q)⟩)
          rcases hnm with a | ⟨a, a'⟩
          · exact br_t a p
          · exact br_f a (br_f (Int32.not_le.mpr (Int32.lt_of_lt_of_le (show (7 : Int32) < 8 by decide) a')) p)
    · refine Or.inl ⟨-2, by decide, fun post p => ?_, fun post p => ?_⟩
      · exact xg_t hb (br_f (by decide) ⟨pk_in b 24 h24, rb_z (by omega) (fun q => absurd q hf) (fun _ => p)⟩)
      · exact yg_t hb (br_t rfl ⟨pk_in b 24 h24, rb_z (by omega) (fun q => absurd q hf) (fun _ => p)⟩)
  · refine Or.inl ⟨-1, by decide, fun post p => ?_, fun post p => ?_⟩
    · exact xg_f hbad (br_t rfl p)
    · exact yg_f hbad (br_f (by decide) p)
/-- the tree with the new entry -/
theorem mk_W (H : rl_W ex pa nm fi) {b m0 e0 : Nat} (G : mk_G ex pa nm fi b m0 e0) {f : Int32} (hf01 : f = 0 ∨ f = 1) :
    rl_W (upd ex e0 (vp_nar .boolean 1)) (upd pa e0 (nI b)) (upd nm e0 (nI m0)) (upd fi e0 (vp_nar .boolean f)) ∧
    (∀ e, rl_E (upd ex e0 (vp_nar .boolean 1)) e ↔ (rl_E ex e ∨ e = e0)) := by
  obtain ⟨hb, hf, hm, hno, hd, g1, g2, g3, g4⟩ := G
  have d5 := ea_d5 H.1 hb
  have h24 := hb.1
  have hE : ∀ e, rl_E (upd ex e0 (vp_nar .boolean 1)) e ↔ (rl_E ex e ∨ e = e0) := by
    intro e
    unfold rl_E
    by_cases q : e = e0
    · rw [q, pk_us]; exact ⟨fun _ => Or.inr rfl, fun _ => ⟨g2, by decide⟩⟩
    · rw [pk_un q]; exact ⟨Or.inl, fun w => w.resolve_right q⟩
  have hnE : ¬ rl_E ex e0 := fun q => q.2 g3
  refine ⟨⟨?_, ?_, ?_⟩, hE⟩
  · refine eb_make H.1 hnE g2 hb hf hm hno (by omega) hE (fun e => rb_Nu (by omega) e) (fun e => rb_Nu (by omega) e) ?_
    intro e q w
    show upd fi e0 (vp_nar .boolean f) e = 0
    rw [pk_un q]; exact w
  · intro e he h0
    rw [rb_Nu (by omega), rb_Nu (by omega)]
    by_cases q : e = e0
    · rw [if_pos q, if_pos q, q, pk_us, pk_us]; exact ⟨rfl, rfl⟩
    · rw [if_neg q, if_neg q, pk_un q, pk_un q]
      exact H.2.1 e (((hE e).mp he).resolve_right q) h0
  · intro e he
    by_cases q : e = e0
    · rw [q, pk_us]
      rcases hf01 with w | w
      · rw [w]; exact Or.inl rb_b0
      · rw [w]; exact Or.inr rb_b1
    · rw [pk_un q]; exact H.2.2 e he
theorem mk_R {b m0 e0 : Nat} {f c : Int32} (hf01 : f = 0 ∨ f = 1) (R : ir_R ec ex pa nm fi co no kn cn ch nx bk sn ps fs cs ct) (G : mk_G ex pa nm fi b m0 e0) :
    ir_R (ec + 1) (upd ex e0 (vp_nar .boolean 1)) (upd pa e0 (nI b)) (upd nm e0 (nI m0)) (upd fi e0 (vp_nar .boolean f)) (upd co e0 c) (to_t (upd pa e0 (nI b)) (upd nm e0 (nI m0)) no e0) kn cn ch nx bk sn ps fs cs ct := by
  obtain ⟨H, he, hI, hT⟩ := R
  obtain ⟨W', hE⟩ := mk_W H G hf01
  obtain ⟨hb, hf, hm, hno, hd, g1, g2, g3, g4⟩ := G
  have hnE : ¬ rl_E ex e0 := fun q => q.2 g3
  have h24 := hb.1
  refine ⟨W', ?_, ⟨hI.1, hI.2.1, ?_, hI.2.2.2.1, ?_, hI.2.2.2.2.2⟩, hT⟩
  · rw [he, nI_1, ct_add g3 (by decide) 24 g2]
  · refine la_make H.1 W'.1 hI.2.2.1 hnE hE ?_ ?_ (fun e q => pk_un q) (fun e q => pk_un q) (fun e _ => to_N)
    · intro e q; rw [rb_Nu (by omega), if_neg q]
    · intro e q; rw [rb_Nu (by omega), if_neg q]
  · intro e q
    by_cases w : e = e0
    · rw [w]
      unfold rl_N to_t
      rw [if_pos ea_U_x]; decide
    · unfold rl_N to_t
      by_cases z : (ea_r (rl_N (upd pa e0 (nI b))) (rl_N (upd nm e0 (nI m0))) e e0).isSome = true
      · rw [if_pos z]; decide
      · rw [if_neg z]; exact hI.2.2.2.2.1 e (((hE e).mp q).resolve_right w)
theorem xw_make {post : Int32 → SX → Prop} {b m0 e0 : Nat} {f c : Int32} (hf01 : f = 0 ∨ f = 1) (H : rl_W ex pa nm fi) (G : mk_G ex pa nm fi b m0 e0)
    (hp : post (nI e0) (fc, (ec + 1), (upd ex e0 (vp_nar .boolean 1)), (upd pa e0 (nI b)), (upd nm e0 (nI m0)), (upd fi e0 (vp_nar .boolean f)), (upd co e0 c), (to_t (upd pa e0 (nI b)) (upd nm e0 (nI m0)) no e0), kn, cn, ch, nx, bk, mk, dr, sn, lf, rt, wh, fd)) :
    wpX_make post (fc, ec, ex, pa, nm, fi, co, no, kn, cn, ch, nx, bk, mk, dr, sn, lf, rt, wh, fd) (nI b) (nI m0) f c := by
  obtain ⟨W', hE⟩ := mk_W H G hf01
  obtain ⟨hb, hf, hm, hno, hd, g1, g2, g3, g4⟩ := G
  have fin : wX_make_26 post (nI b) (nI m0) f c (nI e0) fc ec ex pa nm fi co no kn cn ch nx bk mk dr sn lf rt wh fd := by
    unfold wX_make_26
    rw [nI_clamp (show e0 < 2 ^ 31 by omega)]
    refine ⟨pk_in e0 24 g2, nm_e ⟨pk_in e0 24 g2, nm_e ⟨pk_in e0 24 g2, nm_e ⟨pk_in e0 24 g2, nm_e ⟨pk_in e0 24 g2, nm_e (nm_e ?_)⟩⟩⟩⟩⟩
    exact xw_touch W' ((hE e0).mpr (Or.inr rfl)) hp
  have key : ∀ n i, 1 ≤ i → i ≤ e0 → e0 < n + i → wX_make_3 post (nI b) (nI m0) f c fc ec ex pa nm fi co no kn cn ch nx bk mk dr sn lf rt wh fd n (nI i) := by
    intro n
    induction n with
    | zero => intro i _ h1 h2; omega
    | succ n ih =>
      intro i h0 h1 h2
      refine pk_le 23 i (fun h => ?_) (fun h => ?_)
      · have z : i = e0 := by omega
        rw [z]; exact fin
      · refine ⟨pk_in i 24 (by omega), rb_z (by omega) (fun z => ?_) (fun z => nm_r (nI_1 i) ?_)⟩
        · have w : i = e0 := by
            rcases Nat.lt_or_ge i e0 with q | q
            · exact absurd z (g4 i h0 q)
            · omega
          rw [w]; exact fin
        · refine ih (i + 1) (by omega) ?_ (by omega)
          rcases Nat.lt_or_ge i e0 with q | q
          · omega
          · have w : i = e0 := by omega
            rw [w] at z; exact absurd g3 z
  exact ⟨e0 + 1, key (e0 + 1) 1 (by omega) g1 (by omega)⟩
end
theorem i_vc_directory {k : Nat} {u : SX} {v : SY} (I : i_Rel k u v) (hk : k + 4 ≤ 2048) (v1 : Int32) (v2 : Int32) : wpX_directory (fun r u' => wpY_directory (fun r' v' => r' = r ∧ i_Rel (k + 4) u' v') v v1 v2) u v1 v2 := by
  refine ir_el (P := fun u v => wpX_directory (fun r u' => wpY_directory (fun r' v' => r' = r ∧ i_Rel (k + 4) u' v') v v1 v2) u v1 v2) ?_ I
  intro fc ec ex pa nm fi co no kn cn ch nx bk mk dr sn lf rt wh fd ym ps fs cs ct R
  unfold wpX_directory wpY_directory
  dsimp only
  rcases mk_or (fc := fc) (co := co) (no := no) (kn := kn) (cn := cn) (ch := ch) (nx := nx) (bk := bk) (mk := mk) (dr := dr) (sn := sn) (lf := lf) (rt := rt) (wh := wh) (fd := fd) (ym := ym) (ps := ps) (fs := fs) (cs := cs) (ct := ct) R.1 R.2.1 v1 v2 0 0 with ⟨r, hr, hX, hY⟩ | ⟨b, m0, e0, rfl, rfl, G, hX⟩
  · exact hX _ (br_f hr (hY _ ⟨rfl, ir_mk R⟩))
  · refine hX _ (br_t (by decide) (xw_make (Or.inl rfl) R.1 G ?_))
    exact yw_make_ok R.1 G ⟨rfl, ir_mk (mk_R (Or.inl rfl) R G)⟩
theorem i_vc_file {k : Nat} {u : SX} {v : SY} (I : i_Rel k u v) (hk : k + 4 ≤ 2048) (v1 : Int32) (v2 : Int32) (v3 : Int32) : wpX_file (fun r u' => wpY_file (fun r' v' => r' = r ∧ i_Rel (k + 4) u' v') v v1 v2 v3) u v1 v2 v3 := by
  refine ir_el (P := fun u v => wpX_file (fun r u' => wpY_file (fun r' v' => r' = r ∧ i_Rel (k + 4) u' v') v v1 v2 v3) u v1 v2 v3) ?_ I
  intro fc ec ex pa nm fi co no kn cn ch nx bk mk dr sn lf rt wh fd ym ps fs cs ct R
  unfold wpX_file wpY_file
  dsimp only
  rcases mk_or (fc := fc) (co := co) (no := no) (kn := kn) (cn := cn) (ch := ch) (nx := nx) (bk := bk) (mk := mk) (dr := dr) (sn := sn) (lf := lf) (rt := rt) (wh := wh) (fd := fd) (ym := ym) (ps := ps) (fs := fs) (cs := cs) (ct := ct) R.1 R.2.1 v1 v2 1 v3 with ⟨r, hr, hX, hY⟩ | ⟨b, m0, e0, rfl, rfl, G, hX⟩
  · exact hX _ (br_f hr (hY _ ⟨rfl, ir_mk R⟩))
  · refine hX _ (br_t (by decide) (xw_make (Or.inr rfl) R.1 G ?_))
    exact yw_make_ok R.1 G ⟨rfl, ir_mk (mk_R (Or.inr rfl) R G)⟩
end
section
/-! remove -/
def re_m (ex pa nm : Nat → Int32) (a : Nat) : Nat → Int32 := fun e => if e < 24 ∧ ex e ≠ 0 ∧ (ea_r (rl_N pa) (rl_N nm) a e).isSome = true then 1 else 0
def re_f (mm ex : Nat → Int32) (i : Nat) : Nat → Int32 := fun e => if e < i ∧ mm e ≠ 0 then 0 else ex e
theorem re_m1 {ex pa nm : Nat → Int32} {a e : Nat} (h : rl_E ex e) (u : ea_U (rl_N pa) (rl_N nm) a e) : re_m ex pa nm a e = 1 := by
  unfold re_m; rw [if_pos ⟨h.1, h.2, u⟩]
theorem re_m0 {ex pa nm : Nat → Int32} {a e : Nat} (h : ¬ (rl_E ex e ∧ ea_U (rl_N pa) (rl_N nm) a e)) : re_m ex pa nm a e = 0 := by
  unfold re_m; rw [if_neg (fun q => h ⟨⟨q.1, q.2.1⟩, q.2.2⟩)]
theorem re_mi {ex pa nm : Nat → Int32} {a e : Nat} : re_m ex pa nm a e ≠ 0 ↔ (rl_E ex e ∧ ea_U (rl_N pa) (rl_N nm) a e) := by
  by_cases h : rl_E ex e ∧ ea_U (rl_N pa) (rl_N nm) a e
  · rw [re_m1 h.1 h.2]; exact ⟨fun _ => h, fun _ => by decide⟩
  · rw [re_m0 h]; exact ⟨fun q => absurd rfl q, fun q => absurd q h⟩
theorem re_fs {mm ex : Nat → Int32} {i : Nat} (h : mm i ≠ 0) : upd (re_f mm ex i) i (vp_nar .boolean 0) = re_f mm ex (i + 1) := by
  funext e
  by_cases q : e = i
  · rw [q, pk_us, rb_b0]; unfold re_f; rw [if_pos ⟨by omega, h⟩]
  · rw [pk_un q]; unfold re_f
    by_cases w : e < i ∧ mm e ≠ 0
    · rw [if_pos w, if_pos ⟨by omega, w.2⟩]
    · rw [if_neg w, if_neg (fun z => w ⟨by omega, z.2⟩)]
theorem re_fz {mm ex : Nat → Int32} {i : Nat} (h : mm i = 0) : re_f mm ex i = re_f mm ex (i + 1) := by
  funext e
  unfold re_f
  by_cases q : e = i
  · subst q; rw [if_neg (fun z => z.2 h), if_neg (fun z => z.2 h)]
  · by_cases w : e < i ∧ mm e ≠ 0
    · rw [if_pos w, if_pos ⟨by omega, w.2⟩]
    · rw [if_neg w, if_neg (fun z => w ⟨by omega, z.2⟩)]
theorem re_f0 {mm ex : Nat → Int32} : re_f mm ex 0 = ex := by
  funext e; unfold re_f; rw [if_neg (fun z => absurd z.1 (by omega))]
theorem re_ct {mm ex : Nat → Int32} : ∀ i, (∀ e, e < i → mm e ≠ 0 → ex e ≠ 0) → ct_n (re_f mm ex 24) i + ct_n (fun e => if e < 24 then mm e else 0) i = ct_n ex i := by
  intro i
  induction i with
  | zero => intro _; rfl
  | succ i ih =>
    intro h
    have a := ih (fun e he => h e (by omega))
    have hr : re_f mm ex 24 i = if i < 24 ∧ mm i ≠ 0 then 0 else ex i := rfl
    have hg : (fun e => if e < 24 then mm e else 0) i = if i < 24 then mm i else 0 := rfl
    by_cases w : i < 24 ∧ mm i ≠ 0
    · have z := h i (by omega) w.2
      rw [if_pos w] at hr
      rw [if_pos w.1] at hg
      rw [ct_z hr, ct_s (f := fun e => if e < 24 then mm e else 0) (by rw [if_pos w.1]; exact w.2), ct_s z]; omega
    · rw [if_neg w] at hr
      have hg0 : (fun e => if e < 24 then mm e else 0) i = 0 := by
        rw [hg]
        by_cases q : i < 24
        · rw [if_pos q]
          exact Classical.not_not.mp (fun r => w ⟨q, r⟩)
        · rw [if_neg q]
      rw [ct_z (f := fun e => if e < 24 then mm e else 0) hg0]
      by_cases z : ex i = 0
      · rw [ct_z (hr.trans z), ct_z z]; exact a
      · rw [ct_s (f := re_f mm ex 24) (by rw [hr]; exact z), ct_s z]; omega
theorem re_c24 {mm : Nat → Int32} : ct_n (fun e => if e < 24 then mm e else 0) 24 = ct_n mm 24 :=
  ct_eq 24 (fun j hj => by show (if j < 24 then mm j else 0) = 0 ↔ _; rw [if_pos hj])
section
variable {fc ec : Int32} {ex pa nm fi co no kn cn ch nx bk mk dr sn lf rt wh fd : Nat → Int32}
theorem xw_rm69 {post : Int32 → SX → Prop} {mm : Nat → Int32} {ex0 : Nat → Int32} (hm : ∀ e, 1 ≤ e → e < 24 → (mk e = 0 ↔ mm e = 0)) : ∀ n i, 1 ≤ i → i ≤ 24 → 24 < n + i →
    post (nI (ct_n mm 24)) (fc, (ec - nI (ct_n mm 24)), (re_f mm ex0 24), pa, nm, fi, co, no, kn, cn, ch, nx, bk, mk, dr, sn, lf, rt, wh, fd) → wX_remove_69 post fc ec n (nI (ct_n mm i)) (nI i) (re_f mm ex0 i) pa nm fi co no kn cn ch nx bk mk dr sn lf rt wh fd := by
  intro n
  induction n with
  | zero => intro i _ h1 h2; omega
  | succ n ih =>
    intro i h0 h1 h2 hp
    refine pk_le 24 i (fun h => ?_) (fun h => ?_)
    · have z : i = 24 := by omega
      subst z
      exact nm_e hp
    · refine ⟨pk_in i 128 (by omega), rb_z (by omega) (fun z => ?_) (fun z => ?_)⟩
      · have z' := (hm i h0 h).mp z
        have := ih (i + 1) (by omega) (by omega) (by omega) hp
        rw [ct_z z', ← re_fz z'] at this
        exact nm_r (nI_1 i) this
      · have z' : mm i ≠ 0 := fun q => z ((hm i h0 h).mpr q)
        have := ih (i + 1) (by omega) (by omega) (by omega) hp
        rw [ct_s z', ← re_fs z'] at this
        exact ⟨pk_in i 24 h, nm_r (e' := upd (re_f mm ex0 i) i (vp_nar .boolean 0)) (by rw [nI_clamp (by omega)]) (nm_r (nI_1 _) (nm_r (nI_1 i) this))⟩
theorem xw_rm26 (H : rl_W ex pa nm fi) {post : Int32 → SX → Prop} {a : Nat} (ha : rl_E ex a) (ha0 : a ≠ 0) : ∀ n i mk, 1 ≤ i → i ≤ 24 → 24 < n + i → (∀ e, 1 ≤ e → e < i → (mk e = 0 ↔ re_m ex pa nm a e = 0)) →
    (∀ mk', post (nI (ct_n (re_m ex pa nm a) 24)) (fc, (ec - nI (ct_n (re_m ex pa nm a) 24)), (re_f (re_m ex pa nm a) ex 24), pa, nm, fi, co, no, kn, cn, ch, nx, bk, mk', dr, sn, lf, rt, wh, fd)) → wX_remove_26 post (nI a) 0 fc ec n (nI i) ex pa nm fi co no kn cn ch nx bk mk dr sn lf rt wh fd := by
  have m0 : re_m ex pa nm a 0 = 0 := re_m0 (fun q => by
    rcases ea_U_inv H.1 H.1.1 q.2 with z | ⟨_, z, _⟩
    · exact ha0 z.symm
    · exact z rfl)
  intro n
  induction n with
  | zero => intro i mk _ h1 h2; omega
  | succ n ih =>
    intro i mk h0 h1 h2 hm hp
    refine pk_le 24 i (fun h => ?_) (fun h => ?_)
    · have := xw_rm69 (fc := fc) (ec := ec) (pa := pa) (nm := nm) (fi := fi) (co := co) (no := no) (kn := kn) (cn := cn) (ch := ch) (nx := nx) (bk := bk) (dr := dr) (sn := sn) (lf := lf) (rt := rt) (wh := wh) (fd := fd) (mm := re_m ex pa nm a) (ex0 := ex) (mk := mk) (post := post) (fun e q1 q2 => hm e q1 (by omega)) 24 1 (by omega) (by omega) (by omega) (hp mk)
      rw [ct_z m0, ← re_fz m0, re_f0] at this
      exact ⟨24, this⟩
    · have step : ∀ v : Int32, (v = 0 ↔ re_m ex pa nm a i = 0) → wX_remove_26 post (nI a) 0 fc ec n (nI (i + 1)) ex pa nm fi co no kn cn ch nx bk (upd mk i v) dr sn lf rt wh fd := by
        intro v hv
        refine ih (i + 1) _ (by omega) (by omega) (by omega) ?_ hp
        intro e q1 q2
        by_cases w : e = i
        · rw [w, pk_us]; exact hv
        · rw [pk_un w]; exact hm e q1 (by omega)
      refine ⟨pk_in i 24 h, rb_z (by omega) (fun z => ?_) (fun z => ?_)⟩
      · refine ⟨pk_in i 128 (by omega), nm_r (e' := upd mk i (vp_nar .boolean 0)) (by rw [nI_clamp (by omega)]) (nm_r (nI_1 i) (step _ ?_))⟩
        rw [rb_b0, re_m0 (fun q => q.1.2 z)]
      · have hi : rl_E ex i := ⟨h, z⟩
        refine xw_under H ha.1 hi (fun u => br_f (by decide) ?_) (fun u => br_t rfl ?_)
        · refine ⟨pk_in i 128 (by omega), nm_r (e' := upd mk i (vp_nar .boolean 1)) (by rw [nI_clamp (by omega)]) (nm_r (nI_1 i) (step _ ?_))⟩
          rw [rb_b1, re_m1 hi u]
        · refine ⟨pk_in i 128 (by omega), nm_r (e' := upd mk i (vp_nar .boolean 0)) (by rw [nI_clamp (by omega)]) (nm_r (nI_1 i) (step _ ?_))⟩
          rw [rb_b0, re_m0 (fun q => u q.2)]
end
section
variable {ex fi pa nm co ym ps fs cs ct : Nat → Int32}
theorem yw_rm76 {post : Int32 → SY → Prop} {mm ex0 : Nat → Int32} {g : Int32} (hm : ∀ e, e < 24 → (ym e = 0 ↔ mm e = 0)) : ∀ n i, i ≤ 24 → 24 < n + i →
    post g ((re_f mm ex0 24), fi, pa, nm, co, ym, ps, fs, cs, ct) → wY_remove_76 post g n (nI i) (re_f mm ex0 i) fi pa nm co ym ps fs cs ct := by
  intro n
  induction n with
  | zero => intro i h1 h2; omega
  | succ n ih =>
    intro i h1 h2 hp
    refine pk_le 24 i (fun h => ?_) (fun h => ?_)
    · have z : i = 24 := by omega
      subst z
      exact hp
    · refine ⟨pk_in i 24 h, rb_z (by omega) (fun z => ?_) (fun z => ?_)⟩
      · have z' := (hm i h).mp z
        have := ih (i + 1) (by omega) (by omega) hp
        rw [← re_fz z'] at this
        exact nm_r (nI_1 i) this
      · have z' : mm i ≠ 0 := fun q => z ((hm i h).mpr q)
        have := ih (i + 1) (by omega) (by omega) hp
        rw [← re_fs z'] at this
        exact ⟨pk_in i 24 h, nm_r (e' := upd (re_f mm ex0 i) i (vp_nar .boolean 0)) (by rw [nI_clamp (by omega)]) (nm_r (nI_1 i) this)⟩
theorem yw_rm21 (H : rl_W ex pa nm fi) {post : Int32 → SY → Prop} {a : Nat} (ha : rl_E ex a) : ∀ n i ym, i ≤ 24 → 24 < n + i → (∀ e, e < i → (ym e = 0 ↔ re_m ex pa nm a e = 0)) →
    (∀ ym', post (nI (ct_n (re_m ex pa nm a) 24)) ((re_f (re_m ex pa nm a) ex 24), fi, pa, nm, co, ym', ps, fs, cs, ct)) → wY_remove_21 post (nI a) n (nI (ct_n (re_m ex pa nm a) i)) (nI i) ex fi pa nm co ym ps fs cs ct := by
  intro n
  induction n with
  | zero => intro i ym h1 h2; omega
  | succ n ih =>
    intro i ym h1 h2 hm hp
    refine pk_le 24 i (fun h => ?_) (fun h => ?_)
    · have z : i = 24 := by omega
      subst z
      have := yw_rm76 (fi := fi) (pa := pa) (nm := nm) (co := co) (ps := ps) (fs := fs) (cs := cs) (ct := ct) (mm := re_m ex pa nm a) (ex0 := ex) (ym := ym) (post := post) (g := nI (ct_n (re_m ex pa nm a) 24)) hm 25 0 (by omega) (by omega) (hp ym)
      rw [re_f0] at this
      exact ⟨25, this⟩
    · have step : ∀ v : Int32, (vp_nar .boolean v = 0 ↔ re_m ex pa nm a i = 0) → wY_remove_55 post (wY_remove_21 post (nI a) n) (nI a) (nI (ct_n (re_m ex pa nm a) i)) (nI i) v (nI i) ex fi pa nm co ym ps fs cs ct := by
        intro v hv
        unfold wY_remove_55
        rw [nI_clamp (show i < 2 ^ 31 by omega)]
        have nx := ih (i + 1) (upd ym i (vp_nar .boolean v)) (by omega) (by omega) (by
          intro e q2
          by_cases w : e = i
          · rw [w, pk_us]; exact hv
          · rw [pk_un w]; exact hm e (by omega)) hp
        refine ⟨pk_in i 24 h, nm_e ⟨pk_in i 24 h, br_c (fun z => nm_r (nI_1 i) ?_) (fun z => nm_r (nI_1 _) (nm_r (nI_1 i) ?_))⟩⟩
        · rw [pk_us] at z
          rw [ct_z (hv.mp z)] at nx
          exact nx
        · rw [pk_us] at z
          rw [ct_s (fun q => z (hv.mpr q))] at nx
          exact nx
      refine ⟨pk_in i 24 h, rb_z (by omega) (fun z => ?_) (fun z => ?_)⟩
      · exact step 0 (by rw [rb_b0, re_m0 (fun q => q.1.2 z)])
      · have hi : rl_E ex i := ⟨h, z⟩
        refine yw_from H ha.1 hi (fun p hp' => br_f (nI_pos (by have := ea_bd5 H.1 hi hp'; omega)) ?_) (fun hp' => br_t rb_m1' ?_)
        · exact step 1 (by rw [rb_b1, re_m1 hi (ea_U_some hp')])
        · refine step 0 ?_
          rw [rb_b0, re_m0 (fun q => by
            have w := q.2
            unfold ea_U at w
            rw [hp'] at w
            exact absurd w (by simp))]
end
theorem i_vc_remove {k : Nat} {u : SX} {v : SY} (I : i_Rel k u v) (hk : k + 4 ≤ 2048) (v1 : Int32) : wpX_remove (fun r u' => wpY_remove (fun r' v' => r' = r ∧ i_Rel (k + 4) u' v') v v1) u v1 := by
  refine ir_el (P := fun u v => wpX_remove (fun r u' => wpY_remove (fun r' v' => r' = r ∧ i_Rel (k + 4) u' v') v v1) u v1) ?_ I
  intro fc ec ex pa nm fi co no kn cn ch nx bk mk dr sn lf rt wh fd ym ps fs cs ct R
  unfold wpX_remove wpY_remove
  dsimp only
  rcases rl_good ex v1 with ⟨a, ha, rfl⟩ | hb
  · have h24 := ha.1
    refine xg_t ha (br_f (by decide) (pk_eq a 0 (fun z => ?_) (fun z => ?_)))
    · exact yg_t ha (br_t rfl (pk_eq a 0 (fun _ => ⟨rfl, ir_mk R⟩) (fun q => absurd z q)))
    · refine xw_touch R.1 ha ?_
      refine ⟨24, xw_rm26 R.1 ha z 24 1 mk (by omega) (by omega) (by omega) (fun e q1 q2 => absurd q2 (by omega)) ?_⟩
      intro mk'
      refine yg_t ha (br_t rfl (pk_eq a 0 (fun q => absurd q z) (fun _ => ⟨25, yw_rm21 R.1 ha 25 0 ym (by omega) (by omega) (fun e q2 => absurd q2 (by omega)) ?_⟩)))
      intro ym'
      refine ⟨rfl, ir_mk ?_⟩
      obtain ⟨H, he, hI, hT⟩ := R
      have kE : ∀ e, rl_E (re_f (re_m ex pa nm a) ex 24) e ↔ (rl_E ex e ∧ ¬ ea_U (rl_N pa) (rl_N nm) a e) := by
        intro e
        unfold rl_E re_f
        constructor
        · intro ⟨q1, q2⟩
          by_cases w : e < 24 ∧ re_m ex pa nm a e ≠ 0
          · rw [if_pos w] at q2; exact absurd rfl q2
          · rw [if_neg w] at q2
            exact ⟨⟨q1, q2⟩, fun r => w ⟨q1, re_mi.mpr ⟨⟨q1, q2⟩, r⟩⟩⟩
        · intro ⟨q1, q2⟩
          rw [if_neg (fun w => q2 (re_mi.mp w.2).2)]
          exact q1
      refine ⟨⟨eb_remove H.1 z kE, fun e q h0 => H.2.1 e ((kE e).mp q).1 h0, H.2.2⟩, ?_, ⟨hI.1, hI.2.1, ?_, hI.2.2.2.1, fun e q => to_no hI.2.2.2.2.1 ((kE e).mp q).1, hI.2.2.2.2.2⟩, hT⟩
      · have c1 := re_ct (mm := re_m ex pa nm a) (ex := ex) 24 (fun e _ q => (re_mi.mp q).1.2)
        rw [re_c24] at c1
        rw [he, pk_sub (by omega), ← c1, Nat.add_sub_cancel]
      · exact la_remove H.1 hI.2.2.1 ha kE (fun e _ => to_N)
  · exact xg_f hb (br_t rfl (yg_f hb (br_f (by decide) ⟨rfl, ir_mk R⟩)))
end
section
/-! move -/
def mv_h (ex pa nm : Nat → Int32) (a : Nat) : Nat → Nat
  | 0 => 0
  | i + 1 => if (i < 24 ∧ ex i ≠ 0 ∧ (ea_r (rl_N pa) (rl_N nm) a i).isSome = true) ∧ mv_h ex pa nm a i < ea_d (rl_N pa) i - ea_d (rl_N pa) a then ea_d (rl_N pa) i - ea_d (rl_N pa) a else mv_h ex pa nm a i
theorem mv_hs {ex pa nm : Nat → Int32} {a i : Nat} (h : rl_E ex i) (u : ea_U (rl_N pa) (rl_N nm) a i) (l : mv_h ex pa nm a i < ea_d (rl_N pa) i - ea_d (rl_N pa) a) : mv_h ex pa nm a (i + 1) = ea_d (rl_N pa) i - ea_d (rl_N pa) a := by
  rw [mv_h, if_pos ⟨⟨h.1, h.2, u⟩, l⟩]
theorem mv_hz {ex pa nm : Nat → Int32} {a i : Nat} (h : rl_E ex i → ea_U (rl_N pa) (rl_N nm) a i → ¬ mv_h ex pa nm a i < ea_d (rl_N pa) i - ea_d (rl_N pa) a) : mv_h ex pa nm a (i + 1) = mv_h ex pa nm a i := by
  rw [mv_h, if_neg (fun q => h ⟨q.1.1, q.1.2.1⟩ q.1.2.2 q.2)]
theorem mv_hle {ex pa nm fi : Nat → Int32} (H : rl_W ex pa nm fi) (a : Nat) : ∀ i, mv_h ex pa nm a i ≤ 5 := by
  intro i
  induction i with
  | zero => exact Nat.zero_le _
  | succ i ih =>
    by_cases q : rl_E ex i ∧ ea_U (rl_N pa) (rl_N nm) a i ∧ mv_h ex pa nm a i < ea_d (rl_N pa) i - ea_d (rl_N pa) a
    · rw [mv_hs q.1 q.2.1 q.2.2]; have := ea_d5 H.1 q.1; omega
    · rw [mv_hz (fun h1 h2 h3 => q ⟨h1, h2, h3⟩)]; exact ih
theorem mv_hge {ex pa nm : Nat → Int32} {a : Nat} : ∀ i e, e < i → rl_E ex e → ea_U (rl_N pa) (rl_N nm) a e → ea_d (rl_N pa) e - ea_d (rl_N pa) a ≤ mv_h ex pa nm a i := by
  intro i
  induction i with
  | zero => intro e h; omega
  | succ i ih =>
    intro e h he hu
    by_cases q : rl_E ex i ∧ ea_U (rl_N pa) (rl_N nm) a i ∧ mv_h ex pa nm a i < ea_d (rl_N pa) i - ea_d (rl_N pa) a
    · rw [mv_hs q.1 q.2.1 q.2.2]
      by_cases w : e = i
      · rw [w]; exact Nat.le_refl _
      · have := ih e (by omega) he hu; omega
    · rw [mv_hz (fun h1 h2 h3 => q ⟨h1, h2, h3⟩)]
      by_cases w : e = i
      · subst w
        have : ¬ mv_h ex pa nm a e < ea_d (rl_N pa) e - ea_d (rl_N pa) a := fun r => q ⟨he, hu, r⟩
        omega
      · exact ih e (by omega) he hu
section
variable {fc ec : Int32} {ex pa nm fi co no kn cn ch nx bk mk dr sn lf rt wh fd : Nat → Int32}
variable {ym ps fs cs ct : Nat → Int32}
theorem xw_height_l (H : rl_W ex pa nm fi) {post : Int32 → Prop} {a : Nat} (ha : rl_E ex a) : ∀ n i, 1 ≤ i → i ≤ 24 → 24 < n + i → post (nI (mv_h ex pa nm a 24)) → wX_heightOf_11 post (nI a) (nI (ea_d (rl_N pa) a)) fc ec ex pa nm fi co no kn cn ch nx bk mk dr sn lf rt wh fd n (nI (mv_h ex pa nm a i)) (nI i) := by
  intro n
  induction n with
  | zero => intro i _ h1 h2; omega
  | succ n ih =>
    intro i h0 h1 h2 hp
    have hle := mv_hle H a i
    refine pk_le 24 i (fun h => ?_) (fun h => ?_)
    · have z : i = 24 := by omega
      subst z; exact hp
    · have nx := ih (i + 1) (by omega) (by omega) (by omega) hp
      refine ⟨pk_in i 24 h, rb_z (by omega) (fun z => nm_r (nI_1 i) ?_) (fun z => ?_)⟩
      · rw [mv_hz (fun q => absurd z q.2)] at nx; exact nx
      · have hi : rl_E ex i := ⟨h, z⟩
        refine xw_under H ha.1 hi (fun u => br_f (by decide) ?_) (fun u => br_t rfl (nm_r (nI_1 i) ?_))
        · have d1 := ea_U_d H.1 hi u
          have d5 := ea_d5 H.1 hi
          refine xw_depth H hi (nm_r (pk_sub d1) (pk_le _ _ (fun q => nm_r (nI_1 i) ?_) (fun q => nm_r (nI_1 i) ?_)))
          · rw [mv_hz (fun _ _ => by omega)] at nx; exact nx
          · rw [mv_hs hi u q] at nx; exact nx
        · rw [mv_hz (fun _ q => absurd q u)] at nx; exact nx
theorem xw_height (H : rl_W ex pa nm fi) {post : Int32 → Prop} {a : Nat} (ha : rl_E ex a) (ha0 : a ≠ 0) (hp : post (nI (mv_h ex pa nm a 24))) : wpX_heightOf post (fc, ec, ex, pa, nm, fi, co, no, kn, cn, ch, nx, bk, mk, dr, sn, lf, rt, wh, fd) (nI a) := by
  unfold wpX_heightOf
  dsimp only
  refine xw_depth H ha ⟨24, ?_⟩
  have := xw_height_l (fc := fc) (ec := ec) (co := co) (no := no) (kn := kn) (cn := cn) (ch := ch) (nx := nx) (bk := bk) (mk := mk) (dr := dr) (sn := sn) (lf := lf) (rt := rt) (wh := wh) (fd := fd) H ha 24 1 (by omega) (by omega) (by omega) hp
  rw [mv_hz (fun _ u => by
    rcases ea_U_inv H.1 H.1.1 u with z | ⟨_, z, _⟩
    · exact absurd z.symm ha0
    · exact absurd rfl z)] at this
  exact this
theorem yw_height_l (H : rl_W ex pa nm fi) {post : Int32 → Prop} {a : Nat} (ha : rl_E ex a) : ∀ n i, i ≤ 24 → 24 < n + i → post (nI (mv_h ex pa nm a 24)) → wY_height_11 post (nI a) (nI (ea_d (rl_N pa) a)) ex fi pa nm co ym ps fs cs ct n (nI (mv_h ex pa nm a i)) (nI i) := by
  intro n
  induction n with
  | zero => intro i h1 h2; omega
  | succ n ih =>
    intro i h1 h2 hp
    have hle := mv_hle H a i
    refine pk_le 24 i (fun h => ?_) (fun h => ?_)
    · have z : i = 24 := by omega
      subst z; exact hp
    · have nx := ih (i + 1) (by omega) (by omega) hp
      refine ⟨pk_in i 24 h, rb_z (by omega) (fun z => nm_r (nI_1 i) ?_) (fun z => ?_)⟩
      · rw [mv_hz (fun q => absurd z q.2)] at nx; exact nx
      · have hi : rl_E ex i := ⟨h, z⟩
        refine yw_from H ha.1 hi (fun p hp' => br_f (nI_pos (by have := ea_bd5 H.1 hi hp'; omega)) ?_) (fun hp' => br_t rb_m1' (nm_r (nI_1 i) ?_))
        · have u := ea_U_some hp'
          have d1 := ea_U_d H.1 hi u
          have d5 := ea_d5 H.1 hi
          refine yw_depth H hi (pk_le _ _ (fun q => nm_r (nI_1 i) ?_) (fun q => ?_) (pk_sub d1))
          · rw [mv_hz (fun _ _ => by omega)] at nx; exact nx
          · refine yw_depth H hi (nm_r (pk_sub d1) (nm_r (nI_1 i) ?_))
            rw [mv_hs hi u q] at nx; exact nx
        · rw [mv_hz (fun _ q => by
            unfold ea_U at q
            rw [hp'] at q
            exact absurd q (by simp))] at nx
          exact nx
theorem yw_height (H : rl_W ex pa nm fi) {post : Int32 → Prop} {a : Nat} (ha : rl_E ex a) (hp : post (nI (mv_h ex pa nm a 24))) : wpY_height post (ex, fi, pa, nm, co, ym, ps, fs, cs, ct) (nI a) := by
  unfold wpY_height
  dsimp only
  exact yw_depth H ha ⟨25, yw_height_l H ha 25 0 (by omega) (by omega) hp⟩
/-- what a move that is not refused asks -/
def mv_G (ex pa nm fi : Nat → Int32) (a b m0 : Nat) : Prop :=
  rl_E ex a ∧ a ≠ 0 ∧ rl_E ex b ∧ fi b = 0 ∧ m0 < 8 ∧ ¬ ea_U (rl_N pa) (rl_N nm) a b ∧ (∀ e, rl_E ex e → e ≠ 0 → e ≠ a → rl_N pa e = b → rl_N nm e ≠ m0)
theorem mv_W (H : rl_W ex pa nm fi) {a b m0 : Nat} (G : mv_G ex pa nm fi a b m0) (hd : ea_d (rl_N pa) b + 1 + mv_h ex pa nm a 24 ≤ 5) : rl_W ex (upd pa a (nI b)) (upd nm a (nI m0)) fi := by
  obtain ⟨ha, ha0, hb, hf, hm, hU, hno⟩ := G
  have h24 := hb.1
  refine ⟨?_, ?_, H.2.2⟩
  · refine eb_move H.1 (H := mv_h ex pa nm a 24) ha ha0 hb hf hm hU hno ?_ hd (fun e => rb_Nu (by omega) e) (fun e => rb_Nu (by omega) e)
    intro e he u
    have := mv_hge 24 e he.1 he u
    omega
  · intro e he h0
    rw [rb_Nu (by omega), rb_Nu (by omega)]
    by_cases q : e = a
    · rw [if_pos q, if_pos q, q, pk_us, pk_us]; exact ⟨rfl, rfl⟩
    · rw [if_neg q, if_neg q, pk_un q, pk_un q]
      exact H.2.1 e he h0
theorem mv_R {a b m0 : Nat} (R : ir_R ec ex pa nm fi co no kn cn ch nx bk sn ps fs cs ct) (G : mv_G ex pa nm fi a b m0) (hd : ea_d (rl_N pa) b + 1 + mv_h ex pa nm a 24 ≤ 5) :
    ir_R ec ex (upd pa a (nI b)) (upd nm a (nI m0)) fi co (to_t (upd pa a (nI b)) (upd nm a (nI m0)) (to_t pa nm no a) a) kn cn ch nx bk sn ps fs cs ct := by
  obtain ⟨H, he, hI, hT⟩ := R
  have W' := mv_W H G hd
  obtain ⟨ha, ha0, hb, hf, hm, hU, hno⟩ := G
  have h24 := hb.1
  refine ⟨W', he, ⟨hI.1, hI.2.1, ?_, hI.2.2.2.1, ?_, hI.2.2.2.2.2⟩, hT⟩
  · refine la_move H.1 W'.1 hI.2.2.1 ha ha0 ?_ ?_ ?_
    · intro e q; rw [rb_Nu (by omega), if_neg q]
    · intro e q; rw [rb_Nu (by omega), if_neg q]
    · intro e _
      rw [to_N]
      unfold la_t
      rw [to_N]
      rfl
  · intro e q
    exact to_no (fun e he => to_no hI.2.2.2.2.1 he) q
theorem xw_move78 {post : Int32 → SX → Prop} {a b m0 : Nat} (H : rl_W ex pa nm fi) (G : mv_G ex pa nm fi a b m0)
    (h1 : ea_d (rl_N pa) b + 1 + mv_h ex pa nm a 24 ≤ 5 → post 0 (fc, ec, ex, (upd pa a (nI b)), (upd nm a (nI m0)), fi, co, (to_t (upd pa a (nI b)) (upd nm a (nI m0)) (to_t pa nm no a) a), kn, cn, ch, nx, bk, mk, dr, sn, lf, rt, wh, fd))
    (h2 : ¬ ea_d (rl_N pa) b + 1 + mv_h ex pa nm a 24 ≤ 5 → post (-6) (fc, ec, ex, pa, nm, fi, co, no, kn, cn, ch, nx, bk, mk, dr, sn, lf, rt, wh, fd)) : wX_move_78 post (nI a) (nI b) (nI m0) fc ec ex pa nm fi co no kn cn ch nx bk mk dr sn lf rt wh fd := by
  have ha := G.1
  have hb := G.2.2.1
  have h24 := ha.1
  have d5 := ea_d5 H.1 hb
  have hle := mv_hle H a 24
  unfold wX_move_78
  refine xw_depth H hb (xw_height H ha G.2.1 (pk_le (ea_d (rl_N pa) b + 1 + mv_h ex pa nm a 24) 5 (fun q => ?_) (fun q => h2 (by omega)) (by rw [nI_1, nI_add])))
  refine xw_touch H ha ?_
  rw [nI_clamp (show a < 2 ^ 31 by omega)]
  refine ⟨pk_in a 24 h24, nm_e ⟨pk_in a 24 h24, nm_e ?_⟩⟩
  exact xw_touch (mv_W H G q) ha (h1 q)
theorem yw_move84 {post : Int32 → SY → Prop} {a b m0 : Nat} (H : rl_W ex pa nm fi) (G : mv_G ex pa nm fi a b m0)
    (h1 : ea_d (rl_N pa) b + 1 + mv_h ex pa nm a 24 ≤ 5 → post 0 (ex, fi, (upd pa a (nI b)), (upd nm a (nI m0)), co, ym, ps, fs, cs, ct))
    (h2 : ¬ ea_d (rl_N pa) b + 1 + mv_h ex pa nm a 24 ≤ 5 → post (-6) (ex, fi, pa, nm, co, ym, ps, fs, cs, ct)) : wY_move_84 post (nI a) (nI b) (nI m0) ex fi pa nm co ym ps fs cs ct := by
  have ha := G.1
  have hb := G.2.2.1
  have h24 := ha.1
  have d5 := ea_d5 H.1 hb
  have hle := mv_hle H a 24
  unfold wY_move_84
  refine yw_depth H hb (yw_height H ha (pk_le (ea_d (rl_N pa) b + 1 + mv_h ex pa nm a 24) 5 (fun q => ?_) (fun q => h2 (by omega)) (by rw [nI_1, nI_add])))
  rw [nI_clamp (show a < 2 ^ 31 by omega)]
  exact ⟨pk_in a 24 h24, nm_e ⟨pk_in a 24 h24, nm_e (h1 q)⟩⟩
end
theorem i_vc_move {k : Nat} {u : SX} {v : SY} (I : i_Rel k u v) (hk : k + 4 ≤ 2048) (v1 : Int32) (v2 : Int32) (v3 : Int32) : wpX_move (fun r u' => wpY_move (fun r' v' => r' = r ∧ i_Rel (k + 4) u' v') v v1 v2 v3) u v1 v2 v3 := by
  refine ir_el (P := fun u v => wpX_move (fun r u' => wpY_move (fun r' v' => r' = r ∧ i_Rel (k + 4) u' v') v v1 v2 v3) u v1 v2 v3) ?_ I
  intro fc ec ex pa nm fi co no kn cn ch nx bk mk dr sn lf rt wh fd ym ps fs cs ct R
  have H := R.1
  unfold wpX_move
  dsimp only
  rcases rl_good ex v1 with ⟨a, ha, rfl⟩ | hbad
  · have a24 := ha.1
    refine xg_t ha (br_f (by decide) (pk_eq a 0 (fun z => ?_) (fun z => ?_)))
    · unfold wpY_move; dsimp only; exact yg_t ha (br_t rfl (pk_eq a 0 (fun _ => ⟨rfl, ir_mk R⟩) (fun q => absurd z q)))
    · rcases rl_good ex v2 with ⟨b, hb, rfl⟩ | hbad
      · have b24 := hb.1
        refine xg_t hb (br_f (by decide) ⟨pk_in b 24 b24, rb_z (by omega) (fun hf => ?_) (fun hf => ?_)⟩)
        · rcases rl_name v3 with ⟨m, hm, rfl⟩ | hnm
          · refine xn_t hm (br_f (by decide) ?_)
            refine xw_under H a24 hb (fun hU => br_f (by decide) ?_) (fun hU => br_t rfl ?_)
            · unfold wpY_move
              dsimp only
              refine yg_t ha (br_t rfl (pk_eq a 0 (fun q => absurd q z) (fun _ => yg_t hb (br_t rfl ⟨pk_in b 24 b24, rb_z (by omega) (fun _ => ?_) (fun q => absurd hf q)⟩))))
              refine pk_lt m 0 (fun q => absurd q (by omega)) (fun _ => pk_le m 7 (fun _ => ?_) (fun q => absurd q (by omega)))
              refine yw_from H a24 hb (fun p hp => br_f (nI_pos (by have := ea_bd5 H.1 hb hp; omega)) ⟨rfl, ir_mk R⟩) (fun hp => ?_)
              unfold ea_U at hU
              rw [hp] at hU
              exact absurd hU (by simp)
            · have Y1 : ∀ {post : Int32 → SY → Prop}, wpY_child (fun r_42 => (((r_42 < 0 → (wY_move_84 post (nI a) (nI b) (nI m) ex fi pa nm co ym ps fs cs ct)) ∧ (¬ r_42 < 0 → (((r_42 = nI a → (wY_move_84 post (nI a) (nI b) (nI m) ex fi pa nm co ym ps fs cs ct)) ∧ (¬ r_42 = nI a → (post (-5) (ex, fi, pa, nm, co, ym, ps, fs, cs, ct))))))))) (ex, fi, pa, nm, co, ym, ps, fs, cs, ct) (nI b) (nI m) →
                  wpY_move post (ex, fi, pa, nm, co, ym, ps, fs, cs, ct) (nI a) (nI b) (nI m) := by
                intro post p
                unfold wpY_move
                dsimp only
                refine yg_t ha (br_t rfl (pk_eq a 0 (fun q => absurd q z) (fun _ => yg_t hb (br_t rfl ⟨pk_in b 24 b24, rb_z (by omega) (fun _ => ?_) (fun q => absurd hf q)⟩))))
                refine pk_lt m 0 (fun q => absurd q (by omega)) (fun _ => pk_le m 7 (fun _ => ?_) (fun q => absurd q (by omega)))
                refine yw_from H a24 hb (fun q hq => absurd (ea_U_some hq) hU) (fun _ => br_t rb_m1' p)
              have G : (∀ e, rl_E ex e → e ≠ 0 → e ≠ a → rl_N pa e = b → rl_N nm e ≠ m) → mv_G ex pa nm fi a b m := fun hno => ⟨ha, z, hb, hf, hm, hU, hno⟩
              have go : ∀ {postX : Int32 → SX → Prop}, (∀ e, rl_E ex e → e ≠ 0 → e ≠ a → rl_N pa e = b → rl_N nm e ≠ m) →
                  ((∀ postY : Int32 → SY → Prop, (postY 0 (ex, fi, (upd pa a (nI b)), (upd nm a (nI m)), co, ym, ps, fs, cs, ct) → wY_move_84 postY (nI a) (nI b) (nI m) ex fi pa nm co ym ps fs cs ct)) → ea_d (rl_N pa) b + 1 + mv_h ex pa nm a 24 ≤ 5 → postX 0 (fc, ec, ex, (upd pa a (nI b)), (upd nm a (nI m)), fi, co, (to_t (upd pa a (nI b)) (upd nm a (nI m)) (to_t pa nm no a) a), kn, cn, ch, nx, bk, mk, dr, sn, lf, rt, wh, fd)) →
                  ((∀ postY : Int32 → SY → Prop, (postY (-6) (ex, fi, pa, nm, co, ym, ps, fs, cs, ct) → wY_move_84 postY (nI a) (nI b) (nI m) ex fi pa nm co ym ps fs cs ct)) → postX (-6) (fc, ec, ex, pa, nm, fi, co, no, kn, cn, ch, nx, bk, mk, dr, sn, lf, rt, wh, fd)) → wX_move_78 postX (nI a) (nI b) (nI m) fc ec ex pa nm fi co no kn cn ch nx bk mk dr sn lf rt wh fd := by
                intro postX hno k1 k2
                refine xw_move78 H (G hno) (fun q => k1 (fun postY p => yw_move84 H (G hno) (fun _ => p) (fun w => absurd q w)) q) (fun q => k2 (fun postY p => yw_move84 H (G hno) (fun w => absurd w q) (fun _ => p)))
              refine xw_child H b24 (by omega) (fun e h1 h2 h3 h4 => br_f (nI_pos (by have := h1.1; omega)) (pk_eq e a (fun w => ?_) (fun w => ?_) (ha := by have := h1.1; omega))) (fun hno => br_t rb_m1' ?_)
              · subst w
                have hno : ∀ e', rl_E ex e' → e' ≠ 0 → e' ≠ e → rl_N pa e' = b → rl_N nm e' ≠ m := fun e' q1 q2 q3 q4 q5 => q3 (ea_u H.1 q1 h1 q2 h2 (q4.trans h3.symm) (q5.trans h4.symm))
                have Y2 : ∀ {post : Int32 → SY → Prop}, wY_move_84 post (nI e) (nI b) (nI m) ex fi pa nm co ym ps fs cs ct → wpY_move post (ex, fi, pa, nm, co, ym, ps, fs, cs, ct) (nI e) (nI b) (nI m) := by
                  intro post p
                  refine Y1 (yw_child H b24 (by omega) (fun e' q1 q2 q3 q4 => ?_) (fun q => absurd h4 (q e h1 h2 h3)))
                  have e1 : e' = e := ea_u H.1 q1 h1 q2 h2 (q3.trans h3.symm) (q4.trans h4.symm)
                  subst e1
                  exact br_f (nI_pos (by have := h1.1; omega)) (br_t rfl p)
                refine go hno (fun kY hd => Y2 (kY _ ⟨rfl, ir_mk (mv_R R (G hno) hd)⟩)) (fun kY => Y2 (kY _ ⟨rfl, ir_mk R⟩))
              · refine Y1 (yw_child H b24 (by omega) (fun e' q1 q2 q3 q4 => ?_) (fun q => absurd h4 (q e h1 h2 h3)))
                have e1 : e' = e := ea_u H.1 q1 h1 q2 h2 (q3.trans h3.symm) (q4.trans h4.symm)
                subst e1
                exact br_f (nI_pos (by have := h1.1; omega)) (br_f (fun q => w ((nI_eq (by have := h1.1; omega) (by omega)).mp q)) ⟨rfl, ir_mk R⟩)
              · have hno' : ∀ e', rl_E ex e' → e' ≠ 0 → e' ≠ a → rl_N pa e' = b → rl_N nm e' ≠ m := fun e' q1 q2 _ q4 => hno e' q1 q2 q4
                have Y2 : ∀ {post : Int32 → SY → Prop}, wY_move_84 post (nI a) (nI b) (nI m) ex fi pa nm co ym ps fs cs ct → wpY_move post (ex, fi, pa, nm, co, ym, ps, fs, cs, ct) (nI a) (nI b) (nI m) := by
                  intro post p
                  exact Y1 (yw_child H b24 (by omega) (fun e' q1 q2 q3 q4 => absurd q4 (hno e' q1 q2 q3)) (fun q => br_t rb_m1' p))
                refine go hno' (fun kY hd => Y2 (kY _ ⟨rfl, ir_mk (mv_R R (G hno') hd)⟩)) (fun kY => Y2 (kY _ ⟨rfl, ir_mk R⟩))
          · refine xn_f hnm (br_t rfl ?_)
            unfold wpY_move
            dsimp only
            refine yg_t ha (br_t rfl (pk_eq a 0 (fun q => absurd q z) (fun _ => yg_t hb (br_t rfl ⟨pk_in b 24 b24, rb_z (by omega) (fun _ => ?_) (fun q => absurd hf q)⟩))))
            rcases hnm with w | ⟨w, w'⟩
            · exact br_t w ⟨rfl, ir_mk R⟩
            · exact br_f w (br_f (Int32.not_le.mpr (Int32.lt_of_lt_of_le (show (7 : Int32) < 8 by decide) w')) ⟨rfl, ir_mk R⟩)
        · unfold wpY_move; dsimp only; exact yg_t ha (br_t rfl (pk_eq a 0 (fun q => absurd q z) (fun _ => yg_t hb (br_t rfl ⟨pk_in b 24 b24, rb_z (by omega) (fun q => absurd q hf) (fun _ => ⟨rfl, ir_mk R⟩)⟩))))
      · refine xg_f hbad (br_t rfl ?_)
        unfold wpY_move; dsimp only; exact yg_t ha (br_t rfl (pk_eq a 0 (fun q => absurd q z) (fun _ => yg_f hbad (br_f (by decide) ⟨rfl, ir_mk R⟩))))
  · refine xg_f hbad (br_t rfl ?_)
    unfold wpY_move; dsimp only; exact yg_f hbad (br_f (by decide) ⟨rfl, ir_mk R⟩)
end
section
/-! lookup -/
theorem lk_up {E : Nat → Prop} {P M : Nat → Nat} {D : Nat → Prop} (W : ea_W E P M D) : ∀ j e, E e → ∃ e', E e' ∧ ea_c P M e' = ea_c P M e / 9 ^ j := by
  intro j
  induction j with
  | zero => intro e he; exact ⟨e, he, by simp⟩
  | succ j ih =>
    intro e he
    obtain ⟨e', h1, h2⟩ := ih e he
    rw [Nat.pow_succ, ← Nat.div_div_eq_div_mul, ← h2]
    by_cases z : e' = 0
    · refine ⟨0, W.1, ?_⟩
      rw [z, ea_c_0]
    · refine ⟨P e', ea_P W h1 z, ?_⟩
      have := ea_c_s W h1 z
      have := ea_M W h1 z
      omega
section
variable {fc ec : Int32} {ex pa nm fi co no kn cn ch nx bk mk dr sn lf rt wh fd : Nat → Int32}
variable {ym ps fs cs ct : Nat → Int32}
theorem xw_lookup_l (H : rl_W ex pa nm fi) {post : Int32 → Prop} {p : Nat} (hp : p < 59049) (hs : ∀ e, rl_E ex e → ea_c (rl_N pa) (rl_N nm) e = p → post (nI e)) (hn : (∀ e, rl_E ex e → ea_c (rl_N pa) (rl_N nm) e ≠ p) → post (-1)) :
    ∀ n k e st, k ≤ 5 → 5 < n + k → rl_E ex e → ea_c (rl_N pa) (rl_N nm) e = p / 9 ^ (5 - k) → ((st = 0 ∧ ea_c (rl_N pa) (rl_N nm) e = 0) ∨ (st = 1 ∧ ea_c (rl_N pa) (rl_N nm) e ≠ 0)) →
    wX_lookup_24 post (nI p) fc ec ex pa nm fi co no kn cn ch nx bk mk dr sn lf rt wh fd n (nI (9 ^ (4 - k))) (nI e) st (nI k) := by
  intro n
  induction n with
  | zero => intro k e st h1 h2; omega
  | succ n ih =>
    intro k e st h1 h2 he hc hst
    have h24 := he.1
    refine pk_le 5 k (fun h => ?_) (fun h => ?_)
    · have z : 5 - k = 0 := by omega
      rw [z, Nat.pow_zero, Nat.div_one] at hc
      exact hs e he hc
    · have hw1 : 0 < 9 ^ (4 - k) := Nat.pow_pos (by omega)
      have hw2 : 9 ^ (4 - k) ≤ 9 ^ 4 := Nat.pow_le_pow_right (by omega) (by omega)
      have hw3 : (9 : Nat) ^ 4 = 6561 := by decide
      have hw5 : 9 ^ (5 - k) = 9 ^ (4 - k) * 9 := by rw [show 5 - k = (4 - k) + 1 by omega, Nat.pow_succ]
      have hnw : (9 ^ (4 - k) ≤ 1 ∧ 9 ^ (4 - (k + 1)) = 1) ∨ (1 < 9 ^ (4 - k) ∧ 9 ^ (4 - (k + 1)) = 9 ^ (4 - k) / 9) := by
        by_cases q : k = 4
        · subst q; exact Or.inl ⟨by decide, by decide⟩
        · right
          have e1 : 9 ^ (4 - k) = 9 ^ (4 - (k + 1)) * 9 := by rw [show 4 - k = (4 - (k + 1)) + 1 by omega, Nat.pow_succ]
          have : 0 < 9 ^ (4 - (k + 1)) := Nat.pow_pos (by omega)
          omega
      have nxt := fun e st => ih (k + 1) e st (by omega) (by omega)
      rw [show 5 - (k + 1) = 4 - k by omega] at nxt
      have up : (∀ e', rl_E ex e' → ea_c (rl_N pa) (rl_N nm) e' ≠ p / 9 ^ (4 - k)) → post (-1) := by
        intro hh
        refine hn ?_
        intro e' q1 q2
        obtain ⟨e2, r1, r2⟩ := lk_up H.1 (4 - k) e' q1
        rw [q2] at r2
        exact hh e2 r1 r2
      rw [hw5, ← Nat.div_div_eq_div_mul] at hc
      generalize 9 ^ (4 - (k + 1)) = w2 at *
      generalize 9 ^ (4 - k) = w at *
      have hdiv : nI p / nI w = nI (p / w) := pk_div (by omega) hw1 (by omega)
      have hpw : p / w ≤ p := Nat.div_le_self _ _
      have hrem : nI (p / w) - nI (p / w) / 9 * 9 = nI (p / w % 9) := pk_rem (d := 9) (by omega) (by omega) (by omega)
      generalize hq : p / w = q at *
      have key : wX_lookup_51 post (wX_lookup_24 post (nI p) fc ec ex pa nm fi co no kn cn ch nx bk mk dr sn lf rt wh fd n) (nI p) (nI e) st (nI k) (nI (q % 9)) (nI w2) fc ec ex pa nm fi co no kn cn ch nx bk mk dr sn lf rt wh fd := by
        have k62 : q ≠ 0 → wX_lookup_67 post (wX_lookup_24 post (nI p) fc ec ex pa nm fi co no kn cn ch nx bk mk dr sn lf rt wh fd n) (nI p) (nI w2) (nI e) (nI k) (nI (q % 9)) 1 fc ec ex pa nm fi co no kn cn ch nx bk mk dr sn lf rt wh fd := by
          intro hq0
          unfold wX_lookup_67
          refine br_f (by decide) (pk_eq (q % 9) 0 (fun z => ?_) (fun z => ?_))
          · unfold wX_lookup_92
            refine br_f rb_m1 (up ?_)
            intro e' q1 q2
            by_cases w0 : e' = 0
            · rw [w0, ea_c_0] at q2; omega
            · have := ea_c_s H.1 q1 w0
              have := ea_M H.1 q1 w0
              omega
          · have e1 : nI (q % 9) - 1 = nI (q % 9 - 1) := pk_sub (b := 1) (by omega)
            rw [e1]
            refine xw_child H h24 (by omega) (fun e' q1 q2 q3 q4 => ?_) (fun hh => ?_)
            · unfold wX_lookup_92
              have e24 := q1.1
              have hcs := ea_c_s H.1 q1 q2
              rw [q3, q4] at hcs
              refine br_t (nI_pos' (by omega)) (nm_r (nI_1 k) (nxt e' 1 q1 ?_ ?_))
              · omega
              · exact Or.inr ⟨rfl, by omega⟩
            · unfold wX_lookup_92
              refine br_f rb_m1 (up ?_)
              intro e' q1 q2
              by_cases w0 : e' = 0
              · rw [w0, ea_c_0] at q2; omega
              · have hcs := ea_c_s H.1 q1 w0
                have hM := ea_M H.1 q1 w0
                have e2 : rl_N pa e' = e := ea_c_inj H.1 (ea_P H.1 q1 w0) he (by omega)
                exact hh e' q1 w0 e2 (by omega)
        have k67 : q = 0 → wX_lookup_67 post (wX_lookup_24 post (nI p) fc ec ex pa nm fi co no kn cn ch nx bk mk dr sn lf rt wh fd n) (nI p) (nI w2) (nI e) (nI k) (nI (q % 9)) 0 fc ec ex pa nm fi co no kn cn ch nx bk mk dr sn lf rt wh fd := by
          intro hq0
          unfold wX_lookup_67
          refine br_t rfl (nm_r (nI_1 k) (nxt e 0 he (by omega) (Or.inl ⟨rfl, by omega⟩)))
        unfold wX_lookup_51
        rcases hst with ⟨z1, z2⟩ | ⟨z1, z2⟩
        · refine br_t z1 (pk_le (q % 9) 0 (fun z => k67 (by omega)) (fun z => k62 (by omega)))
        · exact br_f (by rw [z1]; decide) (k62 (by omega))
      rw [hdiv]
      refine ⟨nI_ne0 hw1 (by omega), by decide, nm_r hrem ?_⟩
      rcases hnw with ⟨z1, z2⟩ | ⟨z1, z2⟩
      · refine pk_le w 1 (fun _ => ?_) (fun z => absurd z (by omega))
        rw [z2] at key; exact key
      · refine pk_le w 1 (fun z => absurd z (by omega)) (fun _ => ⟨by decide, ?_⟩)
        have e9 : nI w / 9 = nI (w / 9) := pk_div (d := 9) (by omega) (by omega) (by omega)
        rw [e9, ← z2]; exact key
end
theorem i_vc_lookup {k : Nat} {u : SX} {v : SY} (I : i_Rel k u v) (hk : k + 4 ≤ 2048) (v1 : Int32) : wpX_lookup (fun r => wpY_lookup (fun r' => r' = r ∧ i_Rel (k + 4) u v) v v1) u v1 := by
  refine ir_el (P := fun u v => wpX_lookup (fun r => wpY_lookup (fun r' => r' = r ∧ i_Rel (k + 4) u v) v v1) u v1) ?_ I
  intro fc ec ex pa nm fi co no kn cn ch nx bk mk dr sn lf rt wh fd ym ps fs cs ct R
  have RR : i_Rel (k + 4) (fc, ec, ex, pa, nm, fi, co, no, kn, cn, ch, nx, bk, mk, dr, sn, lf, rt, wh, fd) (ex, fi, pa, nm, co, ym, ps, fs, cs, ct) := ir_mk R
  have H := R.1
  unfold wpX_lookup wpY_lookup
  dsimp only
  rcases pk_ix v1 (n := 59049) (by decide) with a | a | ⟨p, hp, rfl⟩
  · refine br_t a (yw_find H (fun e he q => ?_) (fun _ => ⟨rfl, RR⟩))
    have := ea_cbd H.1 he
    rw [← q] at a
    exact absurd a (nI_pos (by omega))
  · refine br_f (Int32.not_lt.mpr (Int32.le_trans (show (0 : Int32) ≤ nI 59049 by decide) a)) (br_f (Int32.not_lt.mpr a) (yw_find H (fun e he q => ?_) (fun _ => ⟨rfl, RR⟩)))
    have := ea_cbd H.1 he
    rw [← q] at a
    exact absurd a (nI_ge this (by decide))
  · refine pk_lt p 0 (fun q => absurd q (by omega)) (fun _ => pk_lt p 59049 (fun _ => ⟨6, ?_⟩) (fun q => absurd q (by omega)))
    refine xw_lookup_l H hp (fun e he q => ?_) (fun hh => ?_) 6 0 0 0 (by omega) (by omega) H.1.1 (by rw [ea_c_0]; omega) (Or.inl ⟨rfl, ea_c_0⟩)
    · refine yw_find H (fun e' he' q' => ?_) (fun hh => ?_)
      · have b1 := ea_cbd H.1 he'
        have e1 : e' = e := ea_c_inj H.1 he' he (by rw [q]; exact (nI_eq (by omega) (by omega)).mp q')
        rw [e1]; exact ⟨rfl, RR⟩
      · exact absurd (by rw [q]) (hh e he)
    · refine yw_find H (fun e' he' q' => ?_) (fun _ => ⟨rfl, RR⟩)
      have b1 := ea_cbd H.1 he'
      exact absurd ((nI_eq (by omega) (by omega)).mp q') (hh e' he')
end
section
/-! the tree written out; save -/
theorem rb_24 (t j : Nat) : (24 : Int32) * nI t + nI j = nI (24 * t + j) := by
  rw [show (24 : Int32) = nI 24 from rfl, pk_mul, nI_add]
theorem rb_nb {f : Int32} (h : f = 0 ∨ f = 1) : vp_nar .boolean f = f := by
  rcases h with z | z
  · rw [z]; exact rb_b0
  · rw [z]; exact rb_b1
def wo_I (ex pa nm fi co ps fs cs : Nat → Int32) (t i n : Nat) : Prop :=
  ∃ g : Nat → Nat, (∀ j, j < n → rl_E ex (g j) ∧ g j ≠ 0 ∧ g j < i ∧ ps (24 * t + j) = nI (ea_c (rl_N pa) (rl_N nm) (g j)) ∧ fs (24 * t + j) = fi (g j) ∧ cs (24 * t + j) = (if fi (g j) = 0 then 0 else co (g j))) ∧
    (∀ e, rl_E ex e → e ≠ 0 → e < i → ∃ j, j < n ∧ g j = e) ∧ (∀ j j', j < n → j' < n → g j = g j' → j = j')
def wo_A (ps fs cs ps' fs' cs' : Nat → Int32) (t : Nat) : Prop := ∀ j, (j < 24 * t ∨ 24 * t + 24 ≤ j) → ps' j = ps j ∧ fs' j = fs j ∧ cs' j = cs j
section
variable {ex fi pa nm co ym ps fs cs ct : Nat → Int32}
theorem wo_s {t i n : Nat} (H : rl_W ex pa nm fi) (hi : rl_E ex i) (hi0 : i ≠ 0) (h : wo_I ex pa nm fi co ps fs cs t i n) {v : Int32} (hv : v = if fi i = 0 then 0 else co i) :
    wo_I ex pa nm fi co (upd ps (24 * t + n) (nI (ea_c (rl_N pa) (rl_N nm) i))) (upd fs (24 * t + n) (vp_nar .boolean (fi i))) (upd cs (24 * t + n) v) t (i + 1) (n + 1) := by
  obtain ⟨g, h1, h2, h3⟩ := h
  refine ⟨fun j => if j = n then i else g j, ?_, ?_, ?_⟩
  · intro j hj
    by_cases q : j = n
    · subst q
      show rl_E ex (if j = j then i else g j) ∧ (if j = j then i else g j) ≠ 0 ∧ (if j = j then i else g j) < i + 1 ∧ _ = nI (ea_c (rl_N pa) (rl_N nm) (if j = j then i else g j)) ∧ _ = fi (if j = j then i else g j) ∧ _ = (if fi (if j = j then i else g j) = 0 then 0 else co (if j = j then i else g j))
      rw [if_pos rfl, pk_us, pk_us, pk_us]
      exact ⟨hi, hi0, by omega, rfl, rb_nb (H.2.2 i hi.1), hv⟩
    · show rl_E ex (if j = n then i else g j) ∧ (if j = n then i else g j) ≠ 0 ∧ (if j = n then i else g j) < i + 1 ∧ _ = nI (ea_c (rl_N pa) (rl_N nm) (if j = n then i else g j)) ∧ _ = fi (if j = n then i else g j) ∧ _ = (if fi (if j = n then i else g j) = 0 then 0 else co (if j = n then i else g j))
      rw [if_neg q, pk_un (by omega), pk_un (by omega), pk_un (by omega)]
      obtain ⟨a1, a2, a3, a4⟩ := h1 j (by omega)
      exact ⟨a1, a2, by omega, a4⟩
  · intro e he h0 hle
    by_cases q : e = i
    · refine ⟨n, by omega, ?_⟩
      show (if n = n then i else g n) = e
      rw [if_pos rfl, q]
    · obtain ⟨j, hj, ej⟩ := h2 e he h0 (by omega)
      refine ⟨j, by omega, ?_⟩
      show (if j = n then i else g j) = e
      rw [if_neg (by omega), ej]
  · intro j j' hj hj' hg
    have hg' : (if j = n then i else g j) = (if j' = n then i else g j') := hg
    by_cases q : j = n <;> by_cases q' : j' = n
    · omega
    · rw [if_pos q, if_neg q'] at hg'
      have := (h1 j' (by omega)).2.2.1
      omega
    · rw [if_neg q, if_pos q'] at hg'
      have := (h1 j (by omega)).2.2.1
      omega
    · rw [if_neg q, if_neg q'] at hg'
      exact h3 j j' (by omega) (by omega) hg'
theorem wo_z {t i n : Nat} (hi : ex i = 0) (h : wo_I ex pa nm fi co ps fs cs t i n) : wo_I ex pa nm fi co ps fs cs t (i + 1) n := by
  obtain ⟨g, h1, h2, h3⟩ := h
  refine ⟨g, fun j hj => ?_, fun e he h0 hle => ?_, h3⟩
  · obtain ⟨a1, a2, a3, a4⟩ := h1 j hj
    exact ⟨a1, a2, by omega, a4⟩
  · by_cases q : e = i
    · rw [q] at he; exact absurd hi he.2
    · exact h2 e he h0 (by omega)
theorem yw_wo4 (H : rl_W ex pa nm fi) {post : Int32 → SY → Prop} {t : Nat} (ht : t < 4) {ps0 fs0 cs0 : Nat → Int32} : ∀ n i m ps fs cs, 1 ≤ i → i ≤ 24 → 24 < n + i → m + 1 = ct_n ex i → wo_I ex pa nm fi co ps fs cs t i m → wo_A ps0 fs0 cs0 ps fs cs t →
    (∀ m' ps' fs' cs', m' + 1 = ct_n ex 24 → wo_I ex pa nm fi co ps' fs' cs' t 24 m' → wo_A ps0 fs0 cs0 ps' fs' cs' t → post (nI m') (ex, fi, pa, nm, co, ym, ps', fs', cs', (upd ct t (nI m')))) →
    wY_writeOut_4 post (nI t) n (nI m) (nI i) ex fi pa nm co ym ps fs cs ct := by
  intro n
  induction n with
  | zero => intro i m ps fs cs _ h1 h2; omega
  | succ n ih =>
    intro i m ps fs cs h0 h1 h2 hm hI hA hp
    have hle := ct_le ex i
    refine pk_le 24 i (fun h => ?_) (fun h => ?_)
    · have z : i = 24 := by omega
      subst z
      exact ⟨pk_in t 4 ht, nm_r (e' := upd ct t (nI m)) (by rw [nI_clamp (by omega)]) (hp m ps fs cs hm hI hA)⟩
    · refine ⟨pk_in i 24 h, rb_z (by omega) (fun z => nm_r (nI_1 i) ?_) (fun z => ?_)⟩
      · exact ih (i + 1) m ps fs cs (by omega) (by omega) (by omega) (by rw [ct_z z]; exact hm) (wo_z z hI) hA hp
      · have hi : rl_E ex i := ⟨h, z⟩
        refine yw_from0 H hi ?_
        have hx : 24 * t + m < 96 := by omega
        rw [rb_24, nI_clamp (show 24 * t + m < 2 ^ 31 by omega), nI_clamp (show i < 2 ^ 31 by omega)]
        have nxt : ∀ v, v = (if fi i = 0 then 0 else co i) → wY_writeOut_4 post (nI t) n (nI (m + 1)) (nI (i + 1)) ex fi pa nm co ym (upd ps (24 * t + m) (nI (ea_c (rl_N pa) (rl_N nm) i))) (upd fs (24 * t + m) (vp_nar .boolean (fi i))) (upd cs (24 * t + m) v) ct := by
          intro v hv
          refine ih (i + 1) (m + 1) _ _ _ (by omega) (by omega) (by omega) (by rw [ct_s z, hm]) (wo_s H hi (by omega) hI hv) ?_ hp
          intro j hj
          rw [pk_un (by omega), pk_un (by omega), pk_un (by omega)]
          exact hA j hj
        refine ⟨pk_in (24 * t + m) 96 hx, nm_e ⟨pk_in i 24 h, pk_in (24 * t + m) 96 hx, nm_e ⟨pk_in i 24 h, br_c (fun w => ?_) (fun w => ?_)⟩⟩⟩
        · exact ⟨pk_in (24 * t + m) 96 hx, nm_e (nm_r (nI_1 m) (nm_r (nI_1 i) (nxt 0 (by rw [if_pos w]))))⟩
        · exact ⟨pk_in i 24 h, pk_in (24 * t + m) 96 hx, nm_e (nm_r (nI_1 m) (nm_r (nI_1 i) (nxt _ (by rw [if_neg w]))))⟩
theorem yw_wo (H : rl_W ex pa nm fi) {post : Int32 → SY → Prop} {t : Nat} (ht : t < 4)
    (hp : ∀ m' ps' fs' cs', m' + 1 = ct_n ex 24 → wo_I ex pa nm fi co ps' fs' cs' t 24 m' → wo_A ps fs cs ps' fs' cs' t → post (nI m') (ex, fi, pa, nm, co, ym, ps', fs', cs', (upd ct t (nI m')))) :
    wpY_writeOut post (ex, fi, pa, nm, co, ym, ps, fs, cs, ct) (nI t) := by
  refine ⟨24, yw_wo4 H ht 24 1 0 ps fs cs (by omega) (by omega) (by omega) ?_ ?_ (fun _ _ => ⟨rfl, rfl, rfl⟩) hp⟩
  · rw [ct_s H.1.1.2]; rfl
  · exact ⟨fun _ => 0, fun j hj => absurd hj (by omega), fun e _ h0 hle => absurd hle (by omega), fun j _ hj => absurd hj (by omega)⟩
/-- what is written out is the tree at the root's node -/
theorem wo_T {t m : Nat} {no kn cn ch : Nat → Int32} (H : rl_W ex pa nm fi) (S : sa_S kn cn (rs_c ch)) (L : la_L (rl_E ex) (rl_N pa) (rl_N nm) fi co kn cn (rs_c ch) (rl_N no)) (F : ∀ e, rl_E ex e → rl_N no e ≠ 0)
    (hm : m + 1 = ct_n ex 24) (h : wo_I ex pa nm fi co ps fs cs t 24 m) : sn_T kn cn (rs_c ch) (rl_N no 0) m ps fs cs (24 * t) := by
  have l0 := L 0 H.1.1 (F 0 H.1.1)
  have hle := ct_le ex 24
  obtain ⟨g, h1, h2, h3⟩ := h
  refine ⟨l0.1, ?_, by omega, ?_, ?_, ?_⟩
  · rw [l0.2.1, if_pos (show fi 0 = 0 from H.1.2.1)]
  · intro i hi
    obtain ⟨a1, a2, a3, a4, a5, a6⟩ := h1 i hi
    have w1 := la_w1 H.1 L F 0 (g i) a1 _ (ea_c_r H.1 _ a1)
    have l := L (g i) a1 (F _ a1)
    refine ⟨ea_c (rl_N pa) (rl_N nm) (g i), ?_, a4, ?_, ?_, ?_⟩
    · rw [ea_c_s H.1 a1 a2]; omega
    · rw [w1]; exact F _ a1
    · rw [w1, l.2.1, a5]
      rcases H.2.2 (g i) a1.1 with z | z
      · rw [z, if_pos rfl, if_neg (by decide)]
      · rw [z, if_neg (show ¬ (1 : Int32) = 0 by decide), if_pos rfl]
    · rw [w1, l.2.2.1, a6]
  · intro p h0 hp
    obtain ⟨e, he, hr, _⟩ := la_w2 H.1 L F S.2.1 H.1.1 p hp
    have hc : ea_c (rl_N pa) (rl_N nm) e = p := Option.some.inj ((ea_c_r H.1 e he).symm.trans hr)
    have he0 : e ≠ 0 := by
      intro z; rw [z, ea_c_0] at hc; exact h0 hc.symm
    obtain ⟨j, hj, ej⟩ := h2 e he he0 he.1
    refine ⟨j, hj, ?_⟩
    rw [(h1 j hj).2.2.2.1, ej, hc]
  · intro i j hi hj hij
    obtain ⟨a1, a2, a3, a4, a5, a6⟩ := h1 i hi
    obtain ⟨b1, b2, b3, b4, b5, b6⟩ := h1 j hj
    rw [a4, b4] at hij
    have c1 := ea_cbd H.1 a1
    have c2 := ea_cbd H.1 b1
    exact h3 i j hi hj (ea_c_inj H.1 a1 b1 ((nI_eq (by omega) (by omega)).mp hij))
theorem sn_ag {K C : Nat → Int32} {c : Nat → Nat → Nat} {r n o : Nat} {ps' fs' cs' : Nat → Int32} (T : sn_T K C c r n ps fs cs o) (h : ∀ i, i < 24 → ps' (o + i) = ps (o + i) ∧ fs' (o + i) = fs (o + i) ∧ cs' (o + i) = cs (o + i)) : sn_T K C c r n ps' fs' cs' o := by
  obtain ⟨h1, h2, h3, h4, h5, h6⟩ := T
  refine ⟨h1, h2, h3, ?_, ?_, ?_⟩
  · intro i hi
    obtain ⟨a, b, d⟩ := h i (by omega)
    rw [a, b, d]; exact h4 i hi
  · intro p h0 hp
    obtain ⟨i, hi, e⟩ := h5 p h0 hp
    exact ⟨i, hi, by rw [(h i (by omega)).1]; exact e⟩
  · intro i j hi hj e
    rw [(h i (by omega)).1, (h j (by omega)).1] at e
    exact h6 i j hi hj e
end
/-- the snapshots' roots, out of their listings -/
theorem sp_of {kn cn ch sn ps fs cs ct : Nat → Int32} (S : sa_S kn cn (rs_c ch)) (T : ∀ t, t < 3 → ∃ n, ct t = nI n ∧ sn_T kn cn (rs_c ch) (rl_N sn t) n ps fs cs (24 * t)) : sp_B kn (rs_c ch) (rl_N sn) := by
  intro t ht
  obtain ⟨n, _, h⟩ := T t ht
  exact ⟨Or.inr (sn_B h S).1, (sn_B h S).2⟩
theorem i_vc_save {k : Nat} {u : SX} {v : SY} (I : i_Rel k u v) (hk : k + 4 ≤ 2048) (v1 : Int32) : wpX_save (fun r u' => wpY_save (fun r' v' => r' = r ∧ i_Rel (k + 4) u' v') v v1) u v1 := by
  refine ir_el (P := fun u v => wpX_save (fun r u' => wpY_save (fun r' v' => r' = r ∧ i_Rel (k + 4) u' v') v v1) u v1) ?_ I
  intro fc ec ex pa nm fi co no kn cn ch nx bk mk dr sn lf rt wh fd ym ps fs cs ct R
  unfold wpX_save wpY_save
  dsimp only
  rcases rl_shot v1 with ⟨t, ht, rfl⟩ | hb
  · refine xs_t ht (br_f (by decide) (xw_refresh R.1 R.2.2.1 ?_))
    intro no' kn' cn' ch' nx' bk' mk' dr' I' hK F
    refine ⟨pk_in t 3 ht, nm_r (e' := upd sn t (no' 0)) (by rw [nI_clamp (by omega)]) ?_⟩
    refine ys_t ht (br_t rfl (yw_wo R.1 (by omega) ?_))
    intro m ps' fs' cs' hm hW hA
    obtain ⟨H, he, hI, hT⟩ := R
    refine ⟨?_, ir_mk ?_⟩
    · rw [he, ← hm]; exact (nI_pred m).symm
    · have n0 : no' 0 = nI (rl_N no' 0) := I'.2.2.2.2.1 0 H.1.1
      have v0 : rl_N no' 0 < 128 := rf_no128 I' H.1.1
      have hN : ∀ t', rl_N (upd sn t (no' 0)) t' = if t' = t then rl_N no' 0 else rl_N sn t' := by
        rw [n0]; exact fun t' => rb_Nu (by omega) t'
      have T' : ∀ t', t' < 3 → ∃ n, (upd ct t (nI m)) t' = nI n ∧ sn_T kn' cn' (rs_c ch') (rl_N (upd sn t (no' 0)) t') n ps' fs' cs' (24 * t') := by
        intro t' ht'
        rw [hN t']
        by_cases q : t' = t
        · subst q
          rw [if_pos rfl, pk_us]
          exact ⟨m, rfl, wo_T H I'.1.1 I'.2.2.1 F hm hW⟩
        · rw [if_neg q, pk_un q]
          obtain ⟨n, e1, e2⟩ := hT t' ht'
          refine ⟨n, e1, sn_ag (sn_K ht' e2 hK) (fun i hi => hA _ (by omega))⟩
      refine ⟨H, he, ⟨I'.1, I'.2.1, I'.2.2.1, sp_of I'.1.1 T', I'.2.2.2.2.1, ?_⟩, T'⟩
      intro t' ht'
      rw [hN t']
      by_cases q : t' = t
      · rw [if_pos q, q, pk_us]; exact n0
      · rw [if_neg q, pk_un q]; exact I'.2.2.2.2.2 t' ht'
  · exact xs_f hb (br_t rfl (ys_f hb (br_f (by decide) ⟨rfl, ir_mk R⟩)))
end
section
/-! within, alike, twins -/
def wi_S (ex fi co : Nat → Int32) (u v : Nat) : Prop := rl_E ex v ∧ fi u = fi v ∧ (fi u = 0 ∨ co u = co v)
def wi_Q (ex pa nm fi co : Nat → Int32) (x y u : Nat) : Prop := ∀ p, ea_r (rl_N pa) (rl_N nm) x u = some p → ∃ v, wi_S ex fi co u v ∧ ea_r (rl_N pa) (rl_N nm) y v = some p
def wi_W (ex pa nm fi co : Nat → Int32) (x y : Nat) : Prop := ∀ u, rl_E ex u → wi_Q ex pa nm fi co x y u
section
variable {ex fi pa nm co ym ps fs cs ct : Nat → Int32}
theorem yw_wi44a (H : rl_W ex pa nm fi) {post : Int32 → Prop} {J2 : Int32 → Prop} {x1 z : Int32} {y u : Nat} (hy : y < 24) (hu : u < 24) (hJ : J2 (nI (u + 1))) :
    ∀ n i, i ≤ 24 → 24 < n + i → wY_within_44 post J2 x1 (nI y) (nI u) z ex fi pa nm co ym ps fs cs ct n 1 (nI i) := by
  intro n
  induction n with
  | zero => intro i h1 h2; omega
  | succ n ih =>
    intro i h1 h2
    refine pk_le 24 i (fun h => ?_) (fun h => ?_)
    · exact br_f (by decide) (nm_r (nI_1 u) hJ)
    · have nxt := ih (i + 1) (by omega) (by omega)
      have k0 : wY_within_106 post J2 (wY_within_44 post J2 x1 (nI y) (nI u) z ex fi pa nm co ym ps fs cs ct n) x1 (nI y) (nI u) z 1 (nI i) ex fi pa nm co ym ps fs cs ct := by
        unfold wY_within_106 wY_within_107
        exact br_t rfl (nm_r (nI_1 i) nxt)
      have k1 : rl_E ex i → wY_within_102 post J2 (wY_within_44 post J2 x1 (nI y) (nI u) z ex fi pa nm co ym ps fs cs ct n) x1 (nI y) (nI u) z 1 (nI i) ex fi pa nm co ym ps fs cs ct := by
        intro hi
        unfold wY_within_102 wY_within_107
        refine br_f (by decide) (yw_from H hy hi (fun p _ => ?_) (fun _ => ?_))
        · exact br_c (fun _ => nm_r (nI_1 i) nxt) (fun _ => nm_r (nI_1 i) nxt)
        · exact br_c (fun _ => nm_r (nI_1 i) nxt) (fun _ => nm_r (nI_1 i) nxt)
      refine ⟨pk_in i 24 h, rb_z (by omega) (fun _ => k0) (fun w => ?_)⟩
      refine ⟨pk_in u 24 hu, pk_in i 24 h, br_c (fun _ => ?_) (fun _ => k0)⟩
      refine ⟨pk_in u 24 hu, rb_z (by omega) (fun _ => k1 ⟨h, w⟩) (fun _ => ⟨pk_in u 24 hu, pk_in i 24 h, br_c (fun _ => k1 ⟨h, w⟩) (fun _ => k0)⟩)⟩
theorem yw_wi44b (H : rl_W ex pa nm fi) {post : Int32 → Prop} {J2 : Int32 → Prop} {x1 : Int32} {y u p : Nat} (hy : y < 24) (hu : u < 24) (hp59 : p < 59049) :
    ∀ n i, i ≤ 24 → 24 < n + i → (∀ v, i ≤ v → wi_S ex fi co u v → ea_r (rl_N pa) (rl_N nm) y v = some p → J2 (nI (u + 1))) → ((∀ v, i ≤ v → wi_S ex fi co u v → ea_r (rl_N pa) (rl_N nm) y v ≠ some p) → post 0) →
    wY_within_44 post J2 x1 (nI y) (nI u) (nI p) ex fi pa nm co ym ps fs cs ct n 0 (nI i) := by
  intro n
  induction n with
  | zero => intro i h1 h2; omega
  | succ n ih =>
    intro i h1 h2 hs hn
    refine pk_le 24 i (fun h => ?_) (fun h => ?_)
    · exact br_t rfl (hn (fun v hv q => absurd q.1.1 (by omega)))
    · have nxt : ¬ (wi_S ex fi co u i ∧ ea_r (rl_N pa) (rl_N nm) y i = some p) → wY_within_44 post J2 x1 (nI y) (nI u) (nI p) ex fi pa nm co ym ps fs cs ct n 0 (nI (i + 1)) := by
        intro hno
        refine ih (i + 1) (by omega) (by omega) (fun v hv => hs v (by omega)) (fun hh => hn ?_)
        intro v hv q1 q2
        by_cases w : v = i
        · subst w; exact hno ⟨q1, q2⟩
        · exact hh v (by omega) q1 q2
      have k0 : ¬ wi_S ex fi co u i → wY_within_106 post J2 (wY_within_44 post J2 x1 (nI y) (nI u) (nI p) ex fi pa nm co ym ps fs cs ct n) x1 (nI y) (nI u) (nI p) 0 (nI i) ex fi pa nm co ym ps fs cs ct := by
        intro q
        unfold wY_within_106 wY_within_107
        exact br_t rfl (nm_r (nI_1 i) (nxt (fun w => q w.1)))
      have k1 : wi_S ex fi co u i → wY_within_102 post J2 (wY_within_44 post J2 x1 (nI y) (nI u) (nI p) ex fi pa nm co ym ps fs cs ct n) x1 (nI y) (nI u) (nI p) 0 (nI i) ex fi pa nm co ym ps fs cs ct := by
        intro q
        unfold wY_within_102 wY_within_107
        refine br_f (by decide) (yw_from H hy q.1 (fun p' hp' => ?_) (fun hp' => ?_))
        · have b := ea_bd5 H.1 q.1 hp'
          refine pk_eq p' p (fun w => nm_r (nI_1 i) ?_) (fun w => nm_r (nI_1 i) (nxt (fun r => ?_)))
          · rw [w] at hp'
            exact yw_wi44a H hy hu (hs i (Nat.le_refl _) q hp') n (i + 1) (by omega) (by omega)
          · rw [hp'] at r
            exact w (Option.some.inj r.2)
        · refine br_f ?_ (nm_r (nI_1 i) (nxt (fun r => ?_)))
          · intro w
            have : ¬ nI p < 0 := nI_pos (by omega)
            rw [← w] at this
            exact this rb_m1'
          · rw [hp'] at r
            exact absurd r.2 (by simp)
      refine ⟨pk_in i 24 h, rb_z (by omega) (fun z => k0 (fun q => q.1.2 z)) (fun z => ?_)⟩
      rw [nI_clamp (show u < 2 ^ 31 by omega), nI_clamp (show i < 2 ^ 31 by omega)]
      refine ⟨pk_in u 24 hu, pk_in i 24 h, br_c (fun w => ?_) (fun w => k0 (fun q => w q.2.1))⟩
      refine ⟨pk_in u 24 hu, br_c (fun r => k1 ⟨⟨h, z⟩, w, Or.inl r⟩) (fun r => ⟨pk_in u 24 hu, pk_in i 24 h, br_c (fun s => k1 ⟨⟨h, z⟩, w, Or.inr s⟩) (fun s => k0 (fun q => ?_))⟩)⟩
      rcases q.2.2 with t | t
      · exact r t
      · exact s t
theorem yw_wi2 (H : rl_W ex pa nm fi) {post : Int32 → Prop} {x y : Nat} (hx : x < 24) (hy : y < 24) (hs : wi_W ex pa nm fi co x y → post 1) (hn : ¬ wi_W ex pa nm fi co x y → post 0) :
    ∀ n i, i ≤ 24 → 24 < n + i → (∀ u, rl_E ex u → u < i → wi_Q ex pa nm fi co x y u) → wY_within_2 post (nI x) (nI y) ex fi pa nm co ym ps fs cs ct n (nI i) := by
  intro n
  induction n with
  | zero => intro i h1 h2; omega
  | succ n ih =>
    intro i h1 h2 hI
    refine pk_le 24 i (fun h => ?_) (fun h => ?_)
    · exact hs (fun u hu => hI u hu (by have := hu.1; omega))
    · have nxt : (rl_E ex i → wi_Q ex pa nm fi co x y i) → wY_within_2 post (nI x) (nI y) ex fi pa nm co ym ps fs cs ct n (nI (i + 1)) := by
        intro hq
        refine ih (i + 1) (by omega) (by omega) ?_
        intro u hu hle
        by_cases w : u = i
        · rw [w]; rw [w] at hu; exact hq hu
        · exact hI u hu (by omega)
      refine ⟨pk_in i 24 h, rb_z (by omega) (fun z => ?_) (fun z => ?_)⟩
      · unfold wY_within_27
        refine br_f rb_m1 ⟨25, yw_wi44a H hy h (nxt (fun q => absurd z q.2)) 25 0 (by omega) (by omega)⟩
      · have hi : rl_E ex i := ⟨h, z⟩
        refine yw_from H hx hi (fun p hp => ?_) (fun hp => ?_)
        · have b := ea_bd5 H.1 hi hp
          unfold wY_within_27
          refine br_t (nI_pos' (by omega)) ⟨25, yw_wi44b H hy h b 25 0 (by omega) (by omega) ?_ ?_⟩
          · intro v _ q1 q2
            refine nxt (fun _ p' hp' => ?_)
            rw [hp] at hp'
            rw [← Option.some.inj hp']
            exact ⟨v, q1, q2⟩
          · intro hh
            refine hn (fun hw => ?_)
            obtain ⟨v, q1, q2⟩ := hw i hi p hp
            exact hh v (Nat.zero_le _) q1 q2
        · unfold wY_within_27
          refine br_f rb_m1 ⟨25, yw_wi44a H hy h (nxt (fun _ p' hp' => ?_)) 25 0 (by omega) (by omega)⟩
          rw [hp] at hp'
          exact absurd hp' (by simp)
theorem yw_within (H : rl_W ex pa nm fi) {post : Int32 → Prop} {x y : Nat} (hx : x < 24) (hy : y < 24) (hs : wi_W ex pa nm fi co x y → post 1) (hn : ¬ wi_W ex pa nm fi co x y → post 0) : wpY_within post (ex, fi, pa, nm, co, ym, ps, fs, cs, ct) (nI x) (nI y) :=
  ⟨25, yw_wi2 H hx hy hs hn 25 0 (by omega) (by omega) (fun u _ q => absurd q (by omega))⟩
theorem wi_1 {no kn cn ch : Nat → Int32} (H : rl_W ex pa nm fi) (S : sa_S kn cn (rs_c ch)) (L : la_L (rl_E ex) (rl_N pa) (rl_N nm) fi co kn cn (rs_c ch) (rl_N no)) (F : ∀ e, rl_E ex e → rl_N no e ≠ 0)
    {x y : Nat} (hy : rl_E ex y) (h : rl_N no x = rl_N no y) : wi_W ex pa nm fi co x y := by
  intro u hu p hp
  have w1 := la_w1 H.1 L F x u hu p hp
  obtain ⟨v, hv, r1, r2⟩ := la_w2 H.1 L F S.2.1 hy p (by rw [← h, w1]; exact F u hu)
  rw [← h, w1] at r2
  have lu := L u hu (F u hu)
  have lv := L v hv (F v hv)
  rw [← r2] at lv
  have k1 := lu.2.1.symm.trans lv.2.1
  have c1 := lu.2.2.1.symm.trans lv.2.2.1
  refine ⟨v, ⟨hv, ?_, ?_⟩, r1⟩
  · rcases H.2.2 u hu.1 with z | z <;> rcases H.2.2 v hv.1 with q | q
    · rw [z, q]
    · rw [z, q, if_pos rfl, if_neg (by decide)] at k1; exact absurd k1 (by decide)
    · rw [z, q, if_pos rfl, if_neg (by decide)] at k1; exact absurd k1 (by decide)
    · rw [z, q]
  · by_cases z : fi u = 0
    · exact Or.inl z
    · right
      have q : fi v ≠ 0 := by
        intro q
        rw [if_neg z, if_pos q] at k1
        exact absurd k1 (by decide)
      rw [if_neg z, if_neg q] at c1
      exact c1
theorem wi_2 {no kn cn ch : Nat → Int32} (H : rl_W ex pa nm fi) (S : sa_S kn cn (rs_c ch)) (L : la_L (rl_E ex) (rl_N pa) (rl_N nm) fi co kn cn (rs_c ch) (rl_N no)) (F : ∀ e, rl_E ex e → rl_N no e ≠ 0)
    {x y : Nat} (hx : rl_E ex x) (hy : rl_E ex y) (h1 : wi_W ex pa nm fi co x y) (h2 : wi_W ex pa nm fi co y x) : rl_N no x = rl_N no y := by
  have half : ∀ x y, rl_E ex x → rl_E ex y → wi_W ex pa nm fi co x y → ∀ p, sa_w (rs_c ch) (rl_N no x) p ≠ 0 → kn (sa_w (rs_c ch) (rl_N no x) p) = kn (sa_w (rs_c ch) (rl_N no y) p) ∧ cn (sa_w (rs_c ch) (rl_N no x) p) = cn (sa_w (rs_c ch) (rl_N no y) p) := by
    intro x y hx hy hw p hp
    obtain ⟨u, hu, r1, r2⟩ := la_w2 H.1 L F S.2.1 hx p hp
    obtain ⟨v, ⟨hv, e1, e2⟩, r3⟩ := hw u hu p r1
    have r4 := la_w1 H.1 L F y v hv p r3
    have lu := L u hu (F u hu)
    have lv := L v hv (F v hv)
    rw [r2, r4, lu.2.1, lv.2.1, lu.2.2.1, lv.2.2.1, ← e1]
    refine ⟨rfl, ?_⟩
    by_cases z : fi u = 0
    · rw [if_pos z, if_pos z]
    · rw [if_neg z, if_neg z]; exact e2.resolve_left z
  have vx := (L x hx (F x hx)).1
  have vy := (L y hy (F y hy)).1
  refine sa_canon S (Or.inr vx) (Or.inr vy) ?_
  intro p
  by_cases z : sa_w (rs_c ch) (rl_N no x) p = 0
  · by_cases z' : sa_w (rs_c ch) (rl_N no y) p = 0
    · rw [z, z']; exact ⟨rfl, rfl⟩
    · have := half y x hy hx h2 p z'
      exact ⟨this.1.symm, this.2.symm⟩
  · exact half x y hx hy h1 p z
end
theorem i_vc_alike {k : Nat} {u : SX} {v : SY} (I : i_Rel k u v) (hk : k + 4 ≤ 2048) (v1 : Int32) (v2 : Int32) : wpX_alike (fun r u' => wpY_alike (fun r' => r' = r ∧ i_Rel (k + 4) u' v) v v1 v2) u v1 v2 := by
  refine ir_el (P := fun u v => wpX_alike (fun r u' => wpY_alike (fun r' => r' = r ∧ i_Rel (k + 4) u' v) v v1 v2) u v1 v2) ?_ I
  intro fc ec ex pa nm fi co no kn cn ch nx bk mk dr sn lf rt wh fd ym ps fs cs ct R
  have H := R.1
  unfold wpX_alike wpY_alike
  dsimp only
  rcases rl_good ex v1 with ⟨x, hx, rfl⟩ | hb
  · rcases rl_good ex v2 with ⟨y, hy, rfl⟩ | hb
    · refine xg_t hx (br_f (by decide) (xg_t hy (br_f (by decide) (xw_refresh H R.2.2.1 ?_))))
      intro no' kn' cn' ch' nx' bk' mk' dr' I' hK F
      have RR : i_Rel (k + 4) (fc, ec, ex, pa, nm, fi, co, no', kn', cn', ch', nx', bk', mk', dr', sn, lf, rt, wh, fd) (ex, fi, pa, nm, co, ym, ps, fs, cs, ct) := ir_mk ⟨H, R.2.1, I', fun t ht => by
        obtain ⟨n, e1, e2⟩ := R.2.2.2 t ht
        exact ⟨n, e1, sn_K ht e2 hK⟩⟩
      have x24 := hx.1
      have y24 := hy.1
      refine ⟨pk_in x 24 x24, pk_in y 24 y24, ?_⟩
      dsimp only
      rw [nI_clamp (show x < 2 ^ 31 by omega), nI_clamp (show y < 2 ^ 31 by omega), I'.2.2.2.2.1 x hx, I'.2.2.2.2.1 y hy]
      have bx := rf_no128 I' hx
      have by' := rf_no128 I' hy
      refine pk_eq _ _ (fun z => ?_) (fun z => ?_)
      · refine yg_t hx (br_t rfl (yg_t hy (br_t rfl ?_)))
        refine yw_within H x24 y24 (fun _ => br_f (by decide) ?_) (fun q => absurd (wi_1 H I'.1.1 I'.2.2.1 F hy z) q)
        exact yw_within H y24 x24 (fun _ => br_f (by decide) ⟨rfl, RR⟩) (fun q => absurd (wi_1 H I'.1.1 I'.2.2.1 F hx z.symm) q)
      · refine yg_t hx (br_t rfl (yg_t hy (br_t rfl ?_)))
        refine yw_within H x24 y24 (fun w1 => br_f (by decide) ?_) (fun _ => br_t rfl ⟨rfl, RR⟩)
        exact yw_within H y24 x24 (fun w2 => absurd (wi_2 H I'.1.1 I'.2.2.1 F hx hy w1 w2) z) (fun _ => br_t rfl ⟨rfl, RR⟩)
    · exact xg_t hx (br_f (by decide) (xg_f hb (br_t rfl (yg_t hx (br_t rfl (yg_f hb (br_f (by decide) ⟨rfl, ir_mk R⟩)))))))
  · exact xg_f hb (br_t rfl (yg_f hb (br_f (by decide) ⟨rfl, ir_mk R⟩)))
/-! twins -/
def tw_m (ex no : Nat → Int32) (a : Nat) : Nat → Int32 := fun e => if e < 24 ∧ ex e ≠ 0 ∧ rl_N no e = rl_N no a then 1 else 0
theorem tw_1 {ex no : Nat → Int32} {a e : Nat} (h : rl_E ex e) (q : rl_N no e = rl_N no a) : tw_m ex no a e ≠ 0 := by
  unfold tw_m; rw [if_pos ⟨h.1, h.2, q⟩]; decide
theorem tw_0 {ex no : Nat → Int32} {a e : Nat} (h : ¬ (rl_E ex e ∧ rl_N no e = rl_N no a)) : tw_m ex no a e = 0 := by
  unfold tw_m; rw [if_neg (fun q => h ⟨⟨q.1, q.2.1⟩, q.2.2⟩)]
section
variable {fc ec : Int32} {ex pa nm fi co no kn cn ch nx bk mk dr sn lf rt wh fd : Nat → Int32}
variable {ym ps fs cs ct : Nat → Int32}
theorem xw_twins_l {post : Int32 → SX → Prop} {a : Nat} (ha : rl_E ex a) (hno : ∀ e, rl_E ex e → no e = nI (rl_N no e) ∧ rl_N no e < 128) : ∀ n i, i ≤ 24 → 24 < n + i →
    post (nI (ct_n (tw_m ex no a) 24)) (fc, ec, ex, pa, nm, fi, co, no, kn, cn, ch, nx, bk, mk, dr, sn, lf, rt, wh, fd) → wX_twins_18 post (nI a) fc ec ex pa nm fi co no kn cn ch nx bk mk dr sn lf rt wh fd n (nI (ct_n (tw_m ex no a) i)) (nI i) := by
  have a24 := ha.1
  intro n
  induction n with
  | zero => intro i h1 h2; omega
  | succ n ih =>
    intro i h1 h2 hp
    refine pk_le 24 i (fun h => ?_) (fun h => ?_)
    · have z : i = 24 := by omega
      subst z; exact hp
    · have nxt := ih (i + 1) (by omega) (by omega) hp
      refine ⟨pk_in i 24 h, rb_z (by omega) (fun z => nm_r (nI_1 i) ?_) (fun z => ?_)⟩
      · rw [ct_z (tw_0 (fun q => q.1.2 z))] at nxt; exact nxt
      · have hi : rl_E ex i := ⟨h, z⟩
        have e1 := hno i hi
        have e2 := hno a ha
        rw [nI_clamp (show i < 2 ^ 31 by omega), nI_clamp (show a < 2 ^ 31 by omega), e1.1, e2.1]
        refine ⟨pk_in i 24 h, pk_in a 24 a24, pk_eq _ _ (fun q => nm_r (nI_1 _) (nm_r (nI_1 i) ?_)) (fun q => nm_r (nI_1 i) ?_)⟩
        · rw [ct_s (tw_1 hi q)] at nxt; exact nxt
        · rw [ct_z (tw_0 (fun w => q w.2))] at nxt; exact nxt
theorem yw_twins_l (H : rl_W ex pa nm fi) {post : Int32 → Prop} {a : Nat} (ha : rl_E ex a) (hw : ∀ e, rl_E ex e → (rl_N no e = rl_N no a ↔ (wi_W ex pa nm fi co a e ∧ wi_W ex pa nm fi co e a))) : ∀ n i, i ≤ 24 → 24 < n + i →
    post (nI (ct_n (tw_m ex no a) 24)) → wY_twins_14 post (nI a) ex fi pa nm co ym ps fs cs ct n (nI (ct_n (tw_m ex no a) i)) (nI i) := by
  have a24 := ha.1
  intro n
  induction n with
  | zero => intro i h1 h2; omega
  | succ n ih =>
    intro i h1 h2 hp
    refine pk_le 24 i (fun h => ?_) (fun h => ?_)
    · have z : i = 24 := by omega
      subst z; exact hp
    · have nxt := ih (i + 1) (by omega) (by omega) hp
      refine ⟨pk_in i 24 h, rb_z (by omega) (fun z => nm_r (nI_1 i) ?_) (fun z => ?_)⟩
      · rw [ct_z (tw_0 (fun q => q.1.2 z))] at nxt; exact nxt
      · have hi : rl_E ex i := ⟨h, z⟩
        refine yw_within H a24 h (fun w1 => br_f (by decide) ?_) (fun w1 => br_t rfl (nm_r (nI_1 i) ?_))
        · refine yw_within H h a24 (fun w2 => br_f (by decide) (nm_r (nI_1 _) (nm_r (nI_1 i) ?_))) (fun w2 => br_t rfl (nm_r (nI_1 i) ?_))
          · rw [ct_s (tw_1 hi ((hw i hi).mpr ⟨w1, w2⟩))] at nxt; exact nxt
          · rw [ct_z (tw_0 (fun q => w2 ((hw i hi).mp q.2).2))] at nxt; exact nxt
        · rw [ct_z (tw_0 (fun q => w1 ((hw i hi).mp q.2).1))] at nxt; exact nxt
end
theorem i_vc_twins {k : Nat} {u : SX} {v : SY} (I : i_Rel k u v) (hk : k + 4 ≤ 2048) (v1 : Int32) : wpX_twins (fun r u' => wpY_twins (fun r' => r' = r ∧ i_Rel (k + 4) u' v) v v1) u v1 := by
  refine ir_el (P := fun u v => wpX_twins (fun r u' => wpY_twins (fun r' => r' = r ∧ i_Rel (k + 4) u' v) v v1) u v1) ?_ I
  intro fc ec ex pa nm fi co no kn cn ch nx bk mk dr sn lf rt wh fd ym ps fs cs ct R
  have H := R.1
  unfold wpX_twins wpY_twins
  dsimp only
  rcases rl_good ex v1 with ⟨x, hx, rfl⟩ | hb
  · refine xg_t hx (br_f (by decide) (xw_refresh H R.2.2.1 ?_))
    intro no' kn' cn' ch' nx' bk' mk' dr' I' hK F
    have RR : i_Rel (k + 4) (fc, ec, ex, pa, nm, fi, co, no', kn', cn', ch', nx', bk', mk', dr', sn, lf, rt, wh, fd) (ex, fi, pa, nm, co, ym, ps, fs, cs, ct) := ir_mk ⟨H, R.2.1, I', fun t ht => by
      obtain ⟨n, e1, e2⟩ := R.2.2.2 t ht
      exact ⟨n, e1, sn_K ht e2 hK⟩⟩
    refine ⟨25, xw_twins_l hx (fun e he => ⟨I'.2.2.2.2.1 e he, rf_no128 I' he⟩) 25 0 (by omega) (by omega) ?_⟩
    refine yg_t hx (br_t rfl ⟨25, yw_twins_l (no := no') H hx (fun e he => ?_) 25 0 (by omega) (by omega) ⟨rfl, RR⟩⟩)
    constructor
    · intro q; exact ⟨wi_1 H I'.1.1 I'.2.2.1 F he q.symm, wi_1 H I'.1.1 I'.2.2.1 F hx q⟩
    · intro q; exact (wi_2 H I'.1.1 I'.2.2.1 F hx he q.1 q.2).symm
  · exact xg_f hb (br_t rfl (yg_f hb (br_f (by decide) ⟨rfl, ir_mk R⟩)))
end
section
/-! compare: two trees level by level -/
theorem pg_i (z q : Nat → Nat) (m : Nat) : ∀ n, (∀ i, i < n → ∃ j, j < m ∧ z j = q i) → (∀ i j, i < n → j < n → q i = q j → i = j) → n ≤ m := by
  intro n h hq
  have key : ∀ k, k ≤ n → ∃ l : List Nat, l.length = k ∧ l.Nodup ∧ (∀ j, j ∈ l → j < m ∧ ∃ i, i < k ∧ z j = q i) := by
    intro k
    induction k with
    | zero => intro _; exact ⟨[], rfl, List.nodup_nil, (fun j hj => nomatch hj)⟩
    | succ k ih =>
      intro hk
      obtain ⟨l, h1, h2, h3⟩ := ih (by omega)
      obtain ⟨j, hj, ej⟩ := h k (by omega)
      refine ⟨j :: l, by simp [h1], List.nodup_cons.mpr ⟨fun w => ?_, h2⟩, ?_⟩
      · obtain ⟨_, i, hi, e⟩ := h3 j w
        have := hq i k (by omega) (by omega) (e.symm.trans ej)
        omega
      · intro i hi
        rcases List.mem_cons.mp hi with e | e
        · rw [e]; exact ⟨hj, k, by omega, ej⟩
        · obtain ⟨a1, i', a2, a3⟩ := h3 i e
          exact ⟨a1, i', by omega, a3⟩
  obtain ⟨l, h1, h2, h3⟩ := key n (Nat.le_refl _)
  have := pg_l m l h2 (fun a ha => (h3 a ha).1)
  omega
section
variable {fc ec : Int32} {ex pa nm fi co no kn cn ch nx bk mk dr sn lf rt wh fd : Nat → Int32}
theorem xw_childOf {post : Int32 → Prop} (S : rs_S kn cn ch) {n m : Nat} (hn : n = 0 ∨ sa_V kn n) (hm : m < 8) (hp : post (nI (rs_c ch n m))) : wpX_childOf post (fc, ec, ex, pa, nm, fi, co, no, kn, cn, ch, nx, bk, mk, dr, sn, lf, rt, wh, fd) (nI n) (nI m) := by
  rcases hn with z | z
  · subst z
    rw [S.1.2.1 m hm] at hp
    exact br_t rfl hp
  · have h128 := z.2.1
    have at1 := rs_at S h128 hm
    have st := S.1.2.2.1 n z
    refine pk_eq n 0 (fun q => absurd q z.1) (fun _ => ⟨pk_in n 128 h128, ?_⟩)
    rw [nI_clamp (show n < 2 ^ 31 by omega), rb_8, nI_clamp (show 8 * n + m < 2 ^ 31 by omega)]
    refine br_c (fun _ => ⟨pk_in (8 * n + m) 1024 (by omega), ?_⟩) (fun q => ?_)
    · rw [at1.1]; exact hp
    · rw [st.2.2.1 (st.1.resolve_right q) m hm] at hp
      exact hp
end
/-- the queue and what was found so far; A, B: the two trees, BD: both are directories -/
def cp_I (A B : Nat → Nat) (BD : Nat → Prop) (lf rt wh fd : Nat → Int32) (qn fn k m : Nat) (qs f : Nat → Nat) : Prop :=
  (∀ i, i < qn → lf i = nI (A (qs i)) ∧ rt i = nI (B (qs i)) ∧ wh i = nI (qs i) ∧ A (qs i) ≠ B (qs i)) ∧
  qs 0 = 0 ∧ (∀ i j, i < j → j < qn → qs i < qs j) ∧
  (k < qn → ∀ i, i < qn → qs i ≤ 9 * qs k + m) ∧
  (∀ j n, j < qn → n < 8 → (j < k ∨ (j = k ∧ n < m)) → A (9 * qs j + n + 1) ≠ B (9 * qs j + n + 1) → ∃ i, i < qn ∧ qs i = 9 * qs j + n + 1) ∧
  (∀ i, i < fn → fd i = nI (f i) ∧ f i ≠ 0 ∧ A (f i) ≠ B (f i) ∧ ¬ BD (f i) ∧ (k < qn → f i ≤ 9 * qs k + m)) ∧
  (∀ i j, i < j → j < fn → f i < f j) ∧
  (∀ j, 1 ≤ j → j < qn → ¬ BD (qs j) → ∃ i, i < fn ∧ f i = qs j)
section
variable {A B : Nat → Nat} {BD : Nat → Prop} {lf rt wh fd : Nat → Int32} {qn fn k m : Nat} {qs f : Nat → Nat}
theorem cp_skip (h : cp_I A B BD lf rt wh fd qn fn k m qs f) (hm : m < 8) (he : A (9 * qs k + m + 1) = B (9 * qs k + m + 1)) : cp_I A B BD lf rt wh fd qn fn k (m + 1) qs f := by
  obtain ⟨h1, h2, h3, h4, h5, h6, h7, h8⟩ := h
  refine ⟨h1, h2, h3, fun q i hi => by have := h4 q i hi; omega, ?_, ?_, h7, h8⟩
  · intro j n hj hn hc hne
    by_cases w : j = k ∧ n = m
    · rw [w.1, w.2] at hne; exact absurd he hne
    · exact h5 j n hj hn (by omega) hne
  · intro i hi
    obtain ⟨a1, a2, a3, a4, a5⟩ := h6 i hi
    exact ⟨a1, a2, a3, a4, fun q => by have := a5 q; omega⟩
theorem cp_next (h : cp_I A B BD lf rt wh fd qn fn k 8 qs f) (hk : k < qn) : cp_I A B BD lf rt wh fd qn fn (k + 1) 0 qs f := by
  obtain ⟨h1, h2, h3, h4, h5, h6, h7, h8⟩ := h
  refine ⟨h1, h2, h3, ?_, ?_, ?_, h7, h8⟩
  · intro q i hi
    have a := h4 hk i hi
    have b := h3 k (k + 1) (by omega) q
    omega
  · intro j n hj hn hc hne
    exact h5 j n hj hn (by omega) hne
  · intro i hi
    obtain ⟨a1, a2, a3, a4, a5⟩ := h6 i hi
    refine ⟨a1, a2, a3, a4, fun q => ?_⟩
    have a := a5 hk
    have b := h3 k (k + 1) (by omega) q
    omega
/-- a pair is queued; g: the place where it was found, if it was -/
theorem cp_push (h : cp_I A B BD lf rt wh fd qn fn k m qs f) (hk : k < qn) (hm : m < 8) (he : A (9 * qs k + m + 1) ≠ B (9 * qs k + m + 1)) (hb : BD (9 * qs k + m + 1)) :
    cp_I A B BD (upd lf qn (nI (A (9 * qs k + m + 1)))) (upd rt qn (nI (B (9 * qs k + m + 1)))) (upd wh qn (nI (9 * qs k + m + 1))) fd (qn + 1) fn k (m + 1) (fun i => if i = qn then 9 * qs k + m + 1 else qs i) f := by
  obtain ⟨h1, h2, h3, h4, h5, h6, h7, h8⟩ := h
  have h4' := h4 hk
  have e0 : ∀ i, i < qn → (if i = qn then 9 * qs k + m + 1 else qs i) = qs i := fun i hi => if_neg (by omega)
  have e1 : (if qn = qn then 9 * qs k + m + 1 else qs qn) = 9 * qs k + m + 1 := if_pos rfl
  refine ⟨?_, ?_, ?_, ?_, ?_, ?_, h7, ?_⟩
  · intro i hi
    by_cases q : i = qn
    · subst q
      dsimp only
      rw [e1, pk_us, pk_us, pk_us]; exact ⟨rfl, rfl, rfl, he⟩
    · dsimp only
      rw [e0 i (by omega), pk_un q, pk_un q, pk_un q]; exact h1 i (by omega)
  · dsimp only
    rw [e0 0 (by omega)]; exact h2
  · intro i j hij hj
    dsimp only
    by_cases q : j = qn
    · rw [e0 i (by omega), q, e1]; have := h4' i (by omega); omega
    · rw [e0 i (by omega), e0 j (by omega)]; exact h3 i j hij (by omega)
  · intro _ i hi
    dsimp only
    rw [e0 k hk]
    by_cases q : i = qn
    · rw [q, e1]; omega
    · rw [e0 i (by omega)]; have := h4' i (by omega); omega
  · intro j n hj hn hc hne
    dsimp only at hne ⊢
    have hj' : j < qn := by omega
    rw [e0 j hj'] at hne ⊢
    by_cases w : j = k ∧ n = m
    · refine ⟨qn, by omega, ?_⟩
      rw [e1, w.1, w.2]
    · obtain ⟨i, hi, e⟩ := h5 j n hj' hn (by omega) hne
      exact ⟨i, by omega, by rw [e0 i hi]; exact e⟩
  · intro i hi
    obtain ⟨a1, a2, a3, a4, a5⟩ := h6 i hi
    refine ⟨a1, a2, a3, a4, fun _ => ?_⟩
    dsimp only
    rw [e0 k hk]
    have := a5 hk
    omega
  · intro j hj1 hj hnb
    dsimp only at hnb ⊢
    by_cases q : j = qn
    · rw [q, e1] at hnb; exact absurd hb hnb
    · rw [e0 j (by omega)] at hnb ⊢
      exact h8 j hj1 (by omega) hnb
theorem cp_find (h : cp_I A B BD lf rt wh fd qn fn k m qs f) (hk : k < qn) (hm : m < 8) (he : A (9 * qs k + m + 1) ≠ B (9 * qs k + m + 1)) (hb : ¬ BD (9 * qs k + m + 1)) :
    cp_I A B BD (upd lf qn (nI (A (9 * qs k + m + 1)))) (upd rt qn (nI (B (9 * qs k + m + 1)))) (upd wh qn (nI (9 * qs k + m + 1))) (upd fd fn (nI (9 * qs k + m + 1))) (qn + 1) (fn + 1) k (m + 1) (fun i => if i = qn then 9 * qs k + m + 1 else qs i) (fun i => if i = fn then 9 * qs k + m + 1 else f i) := by
  obtain ⟨h1, h2, h3, h4, h5, h6, h7, h8⟩ := h
  have h4' := h4 hk
  have e0 : ∀ i, i < qn → (if i = qn then 9 * qs k + m + 1 else qs i) = qs i := fun i hi => if_neg (by omega)
  have e1 : (if qn = qn then 9 * qs k + m + 1 else qs qn) = 9 * qs k + m + 1 := if_pos rfl
  have g0 : ∀ i, i < fn → (if i = fn then 9 * qs k + m + 1 else f i) = f i := fun i hi => if_neg (by omega)
  have g1 : (if fn = fn then 9 * qs k + m + 1 else f fn) = 9 * qs k + m + 1 := if_pos rfl
  refine ⟨?_, ?_, ?_, ?_, ?_, ?_, ?_, ?_⟩
  · intro i hi
    by_cases q : i = qn
    · subst q
      dsimp only
      rw [e1, pk_us, pk_us, pk_us]; exact ⟨rfl, rfl, rfl, he⟩
    · dsimp only
      rw [e0 i (by omega), pk_un q, pk_un q, pk_un q]; exact h1 i (by omega)
  · dsimp only
    rw [e0 0 (by omega)]; exact h2
  · intro i j hij hj
    dsimp only
    by_cases q : j = qn
    · rw [e0 i (by omega), q, e1]; have := h4' i (by omega); omega
    · rw [e0 i (by omega), e0 j (by omega)]; exact h3 i j hij (by omega)
  · intro _ i hi
    dsimp only
    rw [e0 k hk]
    by_cases q : i = qn
    · rw [q, e1]; omega
    · rw [e0 i (by omega)]; have := h4' i (by omega); omega
  · intro j n hj hn hc hne
    dsimp only at hne ⊢
    have hj' : j < qn := by omega
    rw [e0 j hj'] at hne ⊢
    by_cases w : j = k ∧ n = m
    · refine ⟨qn, by omega, ?_⟩
      rw [e1, w.1, w.2]
    · obtain ⟨i, hi, e⟩ := h5 j n hj' hn (by omega) hne
      exact ⟨i, by omega, by rw [e0 i hi]; exact e⟩
  · intro i hi
    dsimp only
    rw [e0 k hk]
    by_cases q : i = fn
    · rw [q, g1, pk_us]; exact ⟨rfl, by omega, he, hb, fun _ => by omega⟩
    · rw [g0 i (by omega), pk_un q]
      obtain ⟨a1, a2, a3, a4, a5⟩ := h6 i (by omega)
      exact ⟨a1, a2, a3, a4, fun _ => by have := a5 hk; omega⟩
  · intro i j hij hj
    dsimp only
    by_cases q : j = fn
    · rw [g0 i (by omega), q, g1]; have := (h6 i (by omega)).2.2.2.2 hk; omega
    · rw [g0 i (by omega), g0 j (by omega)]; exact h7 i j hij (by omega)
  · intro j hj1 hj hnb
    dsimp only at hnb ⊢
    by_cases q : j = qn
    · rw [q, e1]; exact ⟨fn, by omega, g1⟩
    · rw [e0 j (by omega)] at hnb ⊢
      obtain ⟨i, hi, e⟩ := h8 j hj1 (by omega) hnb
      exact ⟨i, by omega, by rw [g0 i hi]; exact e⟩
/-- both sequences are short -/
def cp_B (A B : Nat → Nat) : Prop := ∀ (n : Nat) (q : Nat → Nat), (∀ i, i < n → q i ≠ 0 ∧ A (q i) ≠ B (q i)) → (∀ i j, i < n → j < n → q i = q j → i = j) → n ≤ 46
theorem cp_mi {n : Nat} {g : Nat → Nat} (h : ∀ i j, i < j → j < n → g i < g j) : ∀ i j, i < n → j < n → g i = g j → i = j := by
  intro i j hi hj e
  rcases Nat.lt_trichotomy i j with w | w | w
  · have := h i j w hj; omega
  · exact w
  · have := h j i w hi; omega
theorem cp_qn (h : cp_I A B BD lf rt wh fd qn fn k m qs f) (hB : cp_B A B) : qn ≤ 47 := by
  obtain ⟨h1, h2, h3, h4, h5, h6, h7, h8⟩ := h
  have := hB (qn - 1) (fun i => qs (i + 1)) (by
    intro i hi
    have a := h3 0 (i + 1) (by omega) (by omega)
    exact ⟨by show qs (i + 1) ≠ 0; omega, (h1 (i + 1) (by omega)).2.2.2⟩) (by
    intro i j hi hj e
    have := cp_mi h3 (i + 1) (j + 1) (by omega) (by omega) e
    omega)
  omega
theorem cp_fn (h : cp_I A B BD lf rt wh fd qn fn k m qs f) (hB : cp_B A B) : fn ≤ 46 := by
  obtain ⟨h1, h2, h3, h4, h5, h6, h7, h8⟩ := h
  exact hB fn f (fun i hi => ⟨(h6 i hi).2.1, (h6 i hi).2.2.1⟩) (cp_mi h7)
end
/-- what compare answers -/
def cp_R (D : Nat → Prop) (fd : Nat → Int32) (n : Nat) (f : Nat → Nat) : Prop :=
  n ≤ 46 ∧ (∀ i, i < n → fd i = nI (f i) ∧ f i ≠ 0 ∧ D (f i)) ∧ (∀ i j, i < j → j < n → f i < f j) ∧ (∀ p, p ≠ 0 → D p → ∃ i, i < n ∧ f i = p)
theorem cp_done {c : Nat → Nat → Nat} {a b : Nat} {BD : Nat → Prop} {lf rt wh fd : Nat → Int32} {qn fn : Nat} {qs f : Nat → Nat} (hB : cp_B (sa_w c a) (sa_w c b)) (hab : a ≠ b → 1 ≤ qn)
    (h : cp_I (sa_w c a) (sa_w c b) BD lf rt wh fd qn fn qn 0 qs f) : cp_R (fun p => sa_w c a p ≠ sa_w c b p ∧ ¬ BD p) fd fn f := by
  have hfn := cp_fn h hB
  obtain ⟨h1, h2, h3, h4, h5, h6, h7, h8⟩ := h
  have all : ∀ p, sa_w c a p ≠ sa_w c b p → ∃ i, i < qn ∧ qs i = p := by
    refine sa_ind ?_ ?_ ?_
    · intro hne
      rw [sa_w_0, sa_w_0] at hne
      exact ⟨0, hab hne, h2⟩
    · intro p hp h9 hne
      rw [sa_w_9 hp h9, sa_w_9 hp h9] at hne
      exact absurd rfl hne
    · intro q m hm ih hne
      have hq : sa_w c a q ≠ sa_w c b q := by
        intro e
        rw [sa_w_s hm, sa_w_s hm, e] at hne
        exact hne rfl
      obtain ⟨j, hj, ej⟩ := ih hq
      rw [← ej] at hne ⊢
      exact h5 j m hj hm (Or.inl hj) hne
  refine ⟨hfn, fun i hi => ⟨(h6 i hi).1, (h6 i hi).2.1, (h6 i hi).2.2.1, (h6 i hi).2.2.2.1⟩, h7, ?_⟩
  intro p h0 ⟨hne, hnb⟩
  obtain ⟨j, hj, ej⟩ := all p hne
  have hj1 : 1 ≤ j := by
    rcases Nat.eq_zero_or_pos j with z | z
    · rw [z, h2] at ej; exact absurd ej.symm h0
    · exact z
  obtain ⟨i, hi, e⟩ := h8 j hj1 hj (by rw [ej]; exact hnb)
  exact ⟨i, hi, e.trans ej⟩
section
variable {fc ec : Int32} {ex pa nm fi co no kn cn ch nx bk mk dr sn lf rt wh fd : Nat → Int32}
theorem xw_cp56 (S : rs_S kn cn ch) {post : SX → Prop} {J : Int32 → Int32 → Int32 → (Nat → Int32) → (Nat → Int32) → (Nat → Int32) → (Nat → Int32) → (Nat → Int32) → (Nat → Int32) → (Nat → Int32) → (Nat → Int32) → (Nat → Int32) → (Nat → Int32) → (Nat → Int32) → (Nat → Int32) → (Nat → Int32) → (Nat → Int32) → (Nat → Int32) → (Nat → Int32) → (Nat → Int32) → (Nat → Int32) → Prop}
    {a b k : Nat} (ha : sa_V kn a) (hb : sa_V kn b) (hB : cp_B (sa_w (rs_c ch) a) (sa_w (rs_c ch) b)) :
    ∀ n m qn fn lf rt wh fd qs f, m ≤ 8 → 8 < n + m → k < qn → cp_I (sa_w (rs_c ch) a) (sa_w (rs_c ch) b) (fun p => kn (sa_w (rs_c ch) a p) = 2 ∧ kn (sa_w (rs_c ch) b p) = 2) lf rt wh fd qn fn k m qs f →
    (∀ qn' fn' lf' rt' wh' fd' qs' f', k < qn' → cp_I (sa_w (rs_c ch) a) (sa_w (rs_c ch) b) (fun p => kn (sa_w (rs_c ch) a p) = 2 ∧ kn (sa_w (rs_c ch) b p) = 2) lf' rt' wh' fd' qn' fn' (k + 1) 0 qs' f' →
      J (nI qn') (nI (k + 1)) (nI fn') ex pa nm fi co no kn cn ch nx bk mk dr sn lf' rt' wh' fd') → wX_compare_56 post J (nI k) ec n (nI qn) (nI m) (nI fn) ex pa nm fi co no kn cn ch nx bk mk dr sn lf rt wh fd := by
  intro n
  induction n with
  | zero => intro m qn fn lf rt wh fd qs f h1 h2; omega
  | succ n ih =>
    intro m qn fn lf rt wh fd qs f h1 h2 hk hI hp
    have hqn := cp_qn hI hB
    have hfn := cp_fn hI hB
    refine pk_le 8 m (fun h => ?_) (fun h => ?_)
    · have z : m = 8 := by omega
      rw [z] at hI
      exact nm_r (nI_1 k) (hp qn fn lf rt wh fd qs f hk (cp_next hI hk))
    · obtain ⟨i1, i2, i3, i4⟩ := hI.1 k hk
      have vA := sa_wV S.1 (Or.inr ha) (qs k)
      have vB := sa_wV S.1 (Or.inr hb) (qs k)
      have vA' := sa_wV S.1 (Or.inr ha) (9 * qs k + m + 1)
      have vB' := sa_wV S.1 (Or.inr hb) (9 * qs k + m + 1)
      have eA : rs_c ch (sa_w (rs_c ch) a (qs k)) m = sa_w (rs_c ch) a (9 * qs k + m + 1) := (sa_w_s h).symm
      have eB : rs_c ch (sa_w (rs_c ch) b (qs k)) m = sa_w (rs_c ch) b (9 * qs k + m + 1) := (sa_w_s h).symm
      have lA : sa_w (rs_c ch) a (9 * qs k + m + 1) < 128 := by
        rcases vA' with z | z
        · omega
        · exact z.2.1
      have lB : sa_w (rs_c ch) b (9 * qs k + m + 1) < 128 := by
        rcases vB' with z | z
        · omega
        · exact z.2.1
      have fin : sa_w (rs_c ch) a (9 * qs k + m + 1) ≠ sa_w (rs_c ch) b (9 * qs k + m + 1) → ∀ z0 : Int32, (z0 = 0 ↔ ¬ (kn (sa_w (rs_c ch) a (9 * qs k + m + 1)) = 2 ∧ kn (sa_w (rs_c ch) b (9 * qs k + m + 1)) = 2)) →
          wX_compare_127 post J (wX_compare_56 post J (nI k) ec n) (nI qn) (nI k) (nI m) (nI (sa_w (rs_c ch) a (9 * qs k + m + 1))) (nI (sa_w (rs_c ch) b (9 * qs k + m + 1))) z0 (nI fn) ec ex pa nm fi co no kn cn ch nx bk mk dr sn lf rt wh fd := by
        intro hne z0 hz
        unfold wX_compare_127
        have e9 : (9 * wh (nI k).toNatClampNeg + nI m) + 1 = nI (9 * qs k + m + 1) := by
          rw [nI_clamp (by omega), i3, show (9 : Int32) = nI 9 from rfl, pk_mul, nI_add, nI_1]
        refine ⟨pk_in k 64 (by omega), nm_r e9 ?_⟩
        unfold wX_compare_172
        rw [nI_clamp (show qn < 2 ^ 31 by omega), nI_clamp (show fn < 2 ^ 31 by omega)]
        refine br_c (fun w => ⟨pk_in fn 64 (by omega), nm_e (nm_r (nI_1 fn) ?_)⟩) (fun w => ?_)
        · refine ⟨pk_in qn 64 (by omega), nm_e ⟨pk_in qn 64 (by omega), nm_e ⟨pk_in qn 64 (by omega), nm_e (nm_r (nI_1 qn) (nm_r (nI_1 m) ?_))⟩⟩⟩
          exact ih (m + 1) (qn + 1) (fn + 1) _ _ _ _ _ _ (by omega) (by omega) (by omega) (cp_find hI hk h hne (hz.mp w)) hp
        · refine ⟨pk_in qn 64 (by omega), nm_e ⟨pk_in qn 64 (by omega), nm_e ⟨pk_in qn 64 (by omega), nm_e (nm_r (nI_1 qn) (nm_r (nI_1 m) ?_))⟩⟩⟩
          exact ih (m + 1) (qn + 1) fn _ _ _ _ _ _ (by omega) (by omega) (by omega) (cp_push hI hk h hne (Classical.not_not.mp (fun q => w (hz.mpr q)))) hp
      refine ⟨pk_in k 64 (by omega), ?_⟩
      rw [nI_clamp (show k < 2 ^ 31 by omega), i1, i2]
      refine xw_childOf S vA h ⟨pk_in k 64 (by omega), xw_childOf S vB h ?_⟩
      rw [eA, eB]
      refine pk_eq _ _ (fun w => nm_r (nI_1 m) ?_) (fun w => ?_)
      · exact ih (m + 1) qn fn lf rt wh fd qs f (by omega) (by omega) hk (cp_skip hI h w) hp
      · rw [nI_clamp (show sa_w (rs_c ch) a (9 * qs k + m + 1) < 2 ^ 31 by omega), nI_clamp (show sa_w (rs_c ch) b (9 * qs k + m + 1) < 2 ^ 31 by omega)]
        refine ⟨pk_in _ 128 lA, br_c (fun q => ⟨pk_in _ 128 lB, br_c (fun r => ?_) (fun r => ?_)⟩) (fun q => ?_)⟩
        · exact fin w 1 ⟨fun s => absurd s (by decide), fun s => absurd ⟨q, r⟩ s⟩
        · unfold wX_compare_126
          exact fin w 0 ⟨fun _ s => r s.2, fun _ => rfl⟩
        · unfold wX_compare_126
          exact fin w 0 ⟨fun _ s => q s.1, fun _ => rfl⟩
theorem xw_cp40 (S : rs_S kn cn ch) {post : SX → Prop} {a b : Nat} (ha : sa_V kn a) (hb : sa_V kn b) (hB : cp_B (sa_w (rs_c ch) a) (sa_w (rs_c ch) b)) :
    ∀ n k qn fn lf rt wh fd qs f, k ≤ qn → 64 < n + k → (a ≠ b → 1 ≤ qn) → cp_I (sa_w (rs_c ch) a) (sa_w (rs_c ch) b) (fun p => kn (sa_w (rs_c ch) a p) = 2 ∧ kn (sa_w (rs_c ch) b p) = 2) lf rt wh fd qn fn k 0 qs f →
    (∀ fn' lf' rt' wh' fd' f', cp_R (fun p => sa_w (rs_c ch) a p ≠ sa_w (rs_c ch) b p ∧ ¬ (kn (sa_w (rs_c ch) a p) = 2 ∧ kn (sa_w (rs_c ch) b p) = 2)) fd' fn' f' →
      post ((nI fn'), ec, ex, pa, nm, fi, co, no, kn, cn, ch, nx, bk, mk, dr, sn, lf', rt', wh', fd')) → wX_compare_40 post ec n (nI qn) (nI k) (nI fn) ex pa nm fi co no kn cn ch nx bk mk dr sn lf rt wh fd := by
  intro n
  induction n with
  | zero => intro k qn fn lf rt wh fd qs f h1 h2 _ hI; have := cp_qn hI hB; omega
  | succ n ih =>
    intro k qn fn lf rt wh fd qs f h1 h2 hab hI hp
    have hqn := cp_qn hI hB
    refine pk_le 64 k (fun h => absurd h (by omega)) (fun h => pk_le qn k (fun h' => ?_) (fun h' => ⟨9, ?_⟩))
    · have z : k = qn := by omega
      subst z
      exact hp fn lf rt wh fd f (cp_done hB hab hI)
    · refine xw_cp56 S ha hb hB 9 0 qn fn lf rt wh fd qs f (by omega) (by omega) h' hI ?_
      intro qn' fn' lf' rt' wh' fd' qs' f' hk hI'
      exact ih (k + 1) qn' fn' lf' rt' wh' fd' qs' f' hk (by omega) (fun _ => by omega) hI' hp
theorem xw_compare (S : rs_S kn cn ch) {post : SX → Prop} {a b : Nat} (ha : sa_V kn a) (hb : sa_V kn b) (hB : cp_B (sa_w (rs_c ch) a) (sa_w (rs_c ch) b))
    (hp : ∀ fn' lf' rt' wh' fd' f', cp_R (fun p => sa_w (rs_c ch) a p ≠ sa_w (rs_c ch) b p ∧ ¬ (kn (sa_w (rs_c ch) a p) = 2 ∧ kn (sa_w (rs_c ch) b p) = 2)) fd' fn' f' →
      post ((nI fn'), ec, ex, pa, nm, fi, co, no, kn, cn, ch, nx, bk, mk, dr, sn, lf', rt', wh', fd')) : wpX_compare post (fc, ec, ex, pa, nm, fi, co, no, kn, cn, ch, nx, bk, mk, dr, sn, lf, rt, wh, fd) (nI a) (nI b) := by
  have a128 := ha.2.1
  have b128 := hb.2.1
  unfold wpX_compare
  dsimp only
  refine nm_e (nm_e (nm_e (pk_eq a b (fun z => ⟨65, ?_⟩) (fun z => ⟨65, ?_⟩))))
  · refine xw_cp40 S ha hb hB 65 0 0 0 _ _ _ fd (fun _ => 0) (fun _ => 0) (by omega) (by omega) (fun q => absurd z q) ?_ hp
    exact ⟨fun i hi => absurd hi (by omega), rfl, fun i j _ hj => absurd hj (by omega), fun q => absurd q (by omega), fun j n hj => absurd hj (by omega), fun i hi => absurd hi (by omega), fun i j _ hj => absurd hj (by omega), fun j _ hj => absurd hj (by omega)⟩
  · refine xw_cp40 S ha hb hB 65 0 1 0 _ _ _ fd (fun _ => 0) (fun _ => 0) (by omega) (by omega) (fun _ => by omega) ?_ hp
    refine ⟨fun i hi => ?_, rfl, fun i j _ hj => absurd hj (by omega), fun _ i _ => Nat.zero_le _, fun j n hj hn hc => absurd hc (by omega), fun i hi => absurd hi (by omega), fun i j _ hj => absurd hj (by omega), fun j h1 hj => absurd hj (by omega)⟩
    have e : i = 0 := by omega
    subst e
    rw [pk_us, pk_us, pk_us, sa_w_0, sa_w_0]
    exact ⟨rfl, rfl, rfl, z⟩
end
end
section
/-! the reference's differences -/
def hs_H (ps fs cs : Nat → Int32) (t s i j : Nat) : Prop := ps (24 * t + j) = ps (24 * s + i) ∧ fs (24 * t + j) = fs (24 * s + i) ∧ cs (24 * t + j) = cs (24 * s + i)
def nd_D (kn : Nat → Int32) (c : Nat → Nat → Nat) (a b p : Nat) : Prop := sa_w c a p ≠ sa_w c b p ∧ ¬ (kn (sa_w c a p) = 2 ∧ kn (sa_w c b p) = 2)
theorem nd_sym {kn : Nat → Int32} {c : Nat → Nat → Nat} {a b p : Nat} (h : nd_D kn c a b p) : nd_D kn c b a p := ⟨fun e => h.1 e.symm, fun q => h.2 ⟨q.2, q.1⟩⟩
def nd_V (D : Nat → Prop) (last : Nat) (Sn : Nat → Prop) (b : Nat) : Prop := (b = 0 ∨ (D b ∧ last < b ∧ b < 59049)) ∧ ∀ p, Sn p → D p → last < p → b ≠ 0 ∧ b ≤ p
theorem nd_lt {D Sn : Nat → Prop} {last b : Nat} (h : nd_V D last Sn b) : b < 59049 := by
  rcases h.1 with z | z
  · omega
  · exact z.2.2
theorem nd_k {D Sn : Nat → Prop} {last b q : Nat} {X : Prop} (h : nd_V D last Sn b) (hq : X → ∀ p, p = q → D p → last < p → b ≠ 0 ∧ b ≤ p) : nd_V D last (fun p => Sn p ∨ (X ∧ p = q)) b :=
  ⟨h.1, fun p hs hd hl => hs.elim (fun w => h.2 p w hd hl) (fun w => hq w.1 p w.2 hd hl)⟩
theorem nd_n {D Sn : Nat → Prop} {last b q : Nat} {X : Prop} (h : nd_V D last Sn b) (hd : D q) (hl : last < q) (h59 : q < 59049) (hb : b = 0 ∨ q < b) : nd_V D last (fun p => Sn p ∨ (X ∧ p = q)) q := by
  refine ⟨Or.inr ⟨hd, hl, h59⟩, ?_⟩
  intro p hs hd' hl'
  refine ⟨by omega, ?_⟩
  rcases hs with w | w
  · have := h.2 p w hd' hl'
    omega
  · rw [w.2]; exact Nat.le_refl _
section
variable {ex fi pa nm co ym ps fs cs ct : Nat → Int32}
theorem yw_has_l {post : Int32 → Prop} {t s i nt : Nat} (ht : t < 4) (hs4 : s < 4) (hi : i < 24) (hct : ct t = nI nt) (hnt : nt ≤ 23) : ∀ n j, j ≤ nt → nt < n + j →
    (∀ j', j ≤ j' → j' < nt → hs_H ps fs cs t s i j' → post 1) → ((∀ j', j ≤ j' → j' < nt → ¬ hs_H ps fs cs t s i j') → post 0) → wY_has_3 post (nI t) (nI s) (nI i) ex fi pa nm co ym ps fs cs ct n (nI j) := by
  intro n
  induction n with
  | zero => intro j h1 h2; omega
  | succ n ih =>
    intro j h1 h2 hs hn
    refine ⟨pk_in t 4 ht, pk_le nt j (fun h => ?_) (fun h => ?_) (by rw [nI_clamp (by omega)]; exact hct)⟩
    · exact hn (fun j' q1 q2 => absurd q2 (by omega))
    · refine pk_le 24 j (fun q => absurd q (by omega)) (fun _ => ?_)
      have nxt : ¬ hs_H ps fs cs t s i j → wY_has_3 post (nI t) (nI s) (nI i) ex fi pa nm co ym ps fs cs ct n (nI (j + 1)) := by
        intro hno
        refine ih (j + 1) (by omega) (by omega) (fun j' q1 => hs j' (by omega)) (fun hh => hn ?_)
        intro j' q1 q2 q3
        by_cases w : j' = j
        · rw [w] at q3; exact hno q3
        · exact hh j' (by omega) q2 q3
      have k0 : ¬ hs_H ps fs cs t s i j → wY_has_77 post (wY_has_3 post (nI t) (nI s) (nI i) ex fi pa nm co ym ps fs cs ct n) (nI t) (nI s) (nI i) (nI j) ex fi pa nm co ym ps fs cs ct := by
        intro q
        unfold wY_has_77 wY_has_78
        exact br_t rfl (nm_r (nI_1 j) (nxt q))
      have v1 := pk_in (x := nI (24 * t + j)) (24 * t + j) 96 (by omega)
      have v2 := pk_in (x := nI (24 * s + i)) (24 * s + i) 96 (by omega)
      rw [rb_24, rb_24, nI_clamp (show 24 * t + j < 2 ^ 31 by omega), nI_clamp (show 24 * s + i < 2 ^ 31 by omega)]
      refine ⟨v1, v2, br_c (fun z1 => ⟨v1, v2, br_c (fun z2 => ?_) (fun z2 => k0 (fun q => z2 q.2.1))⟩) (fun z1 => k0 (fun q => z1 q.1))⟩
      unfold wY_has_78
      rw [rb_24, rb_24, nI_clamp (show 24 * t + j < 2 ^ 31 by omega), nI_clamp (show 24 * s + i < 2 ^ 31 by omega)]
      exact br_f (by decide) ⟨v1, v2, br_c (fun z3 => hs j (Nat.le_refl _) h ⟨z1, z2, z3⟩) (fun z3 => nm_r (nI_1 j) (nxt (fun q => z3 q.2.2)))⟩
theorem yw_has {post : Int32 → Prop} {t s i nt : Nat} (ht : t < 4) (hs4 : s < 4) (hi : i < 24) (hct : ct t = nI nt) (hnt : nt ≤ 23)
    (hs : (∃ j, j < nt ∧ hs_H ps fs cs t s i j) → post 1) (hn : (¬ ∃ j, j < nt ∧ hs_H ps fs cs t s i j) → post 0) : wpY_has post (ex, fi, pa, nm, co, ym, ps, fs, cs, ct) (nI t) (nI s) (nI i) :=
  ⟨24, yw_has_l ht hs4 hi hct hnt 24 0 (by omega) (by omega) (fun j _ h1 h2 => hs ⟨j, h1, h2⟩) (fun hh => hn (fun ⟨j, h1, h2⟩ => hh j (Nat.zero_le _) h1 h2))⟩
theorem nd_has {kn cn : Nat → Int32} {c : Nat → Nat → Nat} (S : sa_S kn cn c) {a b na nb s t i p : Nat} (Ta : sn_T kn cn c a na ps fs cs (24 * s)) (Tb : sn_T kn cn c b nb ps fs cs (24 * t)) (hi : i < na) (hp : ps (24 * s + i) = nI p) (hp59 : p < 59049) :
    (∃ j, j < nb ∧ hs_H ps fs cs t s i j) ↔ ¬ nd_D kn c a b p := by
  obtain ⟨p1, a1, a2, a3, a4, a5⟩ := Ta.2.2.2.1 i hi
  have b1 := sa_wlt S Ta.1 a3
  have e1 : p1 = p := (nI_eq (by omega) (by omega)).mp (a2.symm.trans hp)
  subst e1
  have va := sa_wV S (Or.inr Ta.1) p1
  have vb := sa_wV S (Or.inr Tb.1) p1
  have df := sa_df S va vb
  have va' := va.resolve_left a3
  unfold nd_D
  rw [df]
  constructor
  · intro ⟨j, hj, q1, q2, q3⟩
    obtain ⟨p2, c1, c2, c3, c4, c5⟩ := Tb.2.2.2.1 j hj
    have b2 := sa_wlt S Tb.1 c3
    have e2 : p2 = p1 := by
      rw [c2, a2] at q1
      exact (nI_eq (by omega) (by omega)).mp q1
    subst e2
    have vb' := vb.resolve_left c3
    rw [c4, a4] at q2
    rw [c5, a5] at q3
    have hk : kn (sa_w c a p2) = kn (sa_w c b p2) := by
      rcases (S.2.2.1 _ va').1 with z | z <;> rcases (S.2.2.1 _ vb').1 with y | y
      · rw [z, y]
      · rw [z, y, if_pos rfl, if_neg (by decide)] at q2; exact absurd q2 (by decide)
      · rw [z, y, if_pos rfl, if_neg (by decide)] at q2; exact absurd q2 (by decide)
      · rw [z, y]
    intro h
    rcases h with h | h
    · exact h hk
    · exact h.2 q3.symm
  · intro h
    have hk : kn (sa_w c a p1) = kn (sa_w c b p1) := Classical.not_not.mp (fun q => h (Or.inl q))
    have hc : cn (sa_w c a p1) = cn (sa_w c b p1) := Classical.not_not.mp (fun q => h (Or.inr ⟨va'.2.2, q⟩))
    have hb0 : sa_w c b p1 ≠ 0 := by
      intro z
      rw [z, S.1] at hk
      exact va'.2.2 hk
    obtain ⟨j, hj, ej⟩ := Tb.2.2.2.2.1 p1 a1 hb0
    obtain ⟨p2, c1, c2, c3, c4, c5⟩ := Tb.2.2.2.1 j hj
    have b2 := sa_wlt S Tb.1 c3
    have e2 : p2 = p1 := (nI_eq (by omega) (by omega)).mp (c2.symm.trans ej)
    subst e2
    refine ⟨j, hj, ?_, ?_, ?_⟩
    · rw [ej, a2]
    · rw [c4, a4, hk]
    · rw [c5, a5, hc]
theorem nd_pth {kn cn : Nat → Int32} {c : Nat → Nat → Nat} (S : sa_S kn cn c) {a na o i : Nat} (Ta : sn_T kn cn c a na ps fs cs o) (hi : i < na) : ∃ p, ps (o + i) = nI p ∧ p < 59049 ∧ p ≠ 0 := by
  obtain ⟨p1, a1, a2, a3, a4, a5⟩ := Ta.2.2.2.1 i hi
  exact ⟨p1, a2, sa_wlt S Ta.1 a3, a1⟩
theorem yw_nd87 {kn cn : Nat → Int32} {c : Nat → Nat → Nat} (S : sa_S kn cn c) {a b na nb s t : Nat} (hs4 : s < 4) (ht4 : t < 4) (cs' : ct s = nI na) (ct' : ct t = nI nb) (Ta : sn_T kn cn c a na ps fs cs (24 * s)) (Tb : sn_T kn cn c b nb ps fs cs (24 * t))
    {post : Int32 → Prop} {J : Int32 → Int32 → Prop} {last v i : Nat} {Sn : Nat → Prop} (hl : last < 59049) (hi : i < 24) (hV : nd_V (nd_D kn c a b) last Sn v)
    (hJ : ∀ v', nd_V (nd_D kn c a b) last (fun p => Sn p ∨ (i < nb ∧ p = rl_N ps (24 * t + i))) v' → J (nI v') (nI (i + 1))) : wY_nextDifference_87 post J (nI s) (nI t) (nI last) (nI v) (nI i) ex fi pa nm co ym ps fs cs ct := by
  have hv := nd_lt hV
  have hna := Ta.2.2.1
  have hnb := Tb.2.2.1
  unfold wY_nextDifference_87 wY_nextDifference_147
  rw [rb_24, nI_clamp (show 24 * t + i < 2 ^ 31 by omega)]
  refine ⟨pk_in t 4 ht4, pk_le nb i (fun h => nm_r (nI_1 i) (hJ v (nd_k hV (fun q => absurd q (by omega))))) (fun h => ?_) (by rw [nI_clamp (by omega)]; exact ct')⟩
  obtain ⟨p, e1, e2, e3⟩ := nd_pth S Tb h
  have eN : rl_N ps (24 * t + i) = p := rb_N e1 (by omega)
  rw [eN] at hJ
  have vi := pk_in (x := nI (24 * t + i)) (24 * t + i) 96 (by omega)
  refine ⟨vi, ?_⟩
  rw [e1]
  refine pk_le p last (fun q => nm_r (nI_1 i) (hJ v (nd_k hV (fun _ p' w _ wl => absurd wl (by omega))))) (fun q => ?_)
  refine yw_has hs4 ht4 hi cs' hna (fun hh => br_f (by decide) (nm_r (nI_1 i) (hJ v (nd_k hV (fun _ p' w wd _ => ?_))))) (fun hh => br_t rfl ?_)
  · rw [w] at wd
    exact absurd (nd_sym wd) ((nd_has S Tb Ta h e1 e2).mp hh)
  · have hd : nd_D kn c a b p := nd_sym (Classical.not_not.mp (fun w => hh ((nd_has S Tb Ta h e1 e2).mpr w)))
    refine pk_eq v 0 (fun z => ?_) (fun z => ⟨vi, pk_le v p (fun w => nm_r (nI_1 i) (hJ v (nd_k hV (fun _ p' w' _ _ => by omega)))) (fun w => ?_)⟩)
    · exact ⟨vi, nm_e (nm_r (nI_1 i) (hJ p (nd_n hV hd q e2 (Or.inl z))))⟩
    · exact ⟨vi, nm_e (nm_r (nI_1 i) (hJ p (nd_n hV hd q e2 (Or.inr w))))⟩
theorem yw_nd6 {kn cn : Nat → Int32} {c : Nat → Nat → Nat} (S : sa_S kn cn c) {a b na nb s t : Nat} (hs4 : s < 4) (ht4 : t < 4) (cs' : ct s = nI na) (ct' : ct t = nI nb) (Ta : sn_T kn cn c a na ps fs cs (24 * s)) (Tb : sn_T kn cn c b nb ps fs cs (24 * t))
    {post : Int32 → Prop} {last : Nat} (hl : last < 59049) : ∀ n i v Sn, i ≤ 24 → 24 < n + i → nd_V (nd_D kn c a b) last Sn v → (∀ j, j < i → (j < na → Sn (rl_N ps (24 * s + j))) ∧ (j < nb → Sn (rl_N ps (24 * t + j)))) →
    (∀ v' Sn', nd_V (nd_D kn c a b) last Sn' v' → (∀ j, j < 24 → (j < na → Sn' (rl_N ps (24 * s + j))) ∧ (j < nb → Sn' (rl_N ps (24 * t + j)))) → post (nI v')) →
    wY_nextDifference_6 post (nI s) (nI t) (nI last) ex fi pa nm co ym ps fs cs ct n (nI v) (nI i) := by
  have hna := Ta.2.2.1
  have hnb := Tb.2.2.1
  intro n
  induction n with
  | zero => intro i v Sn h1 h2; omega
  | succ n ih =>
    intro i v Sn h1 h2 hV hSn hp
    refine pk_le 24 i (fun h => ?_) (fun h => ?_)
    · exact hp v Sn hV (fun j hj => hSn j (by omega))
    · have hv := nd_lt hV
      have key : ∀ v', nd_V (nd_D kn c a b) last (fun p => Sn p ∨ (i < na ∧ p = rl_N ps (24 * s + i))) v' → wY_nextDifference_87 post (wY_nextDifference_6 post (nI s) (nI t) (nI last) ex fi pa nm co ym ps fs cs ct n) (nI s) (nI t) (nI last) (nI v') (nI i) ex fi pa nm co ym ps fs cs ct := by
        intro v' hV'
        refine yw_nd87 S hs4 ht4 cs' ct' Ta Tb hl h hV' ?_
        intro v'' hV''
        refine ih (i + 1) v'' _ (by omega) (by omega) hV'' ?_ hp
        intro j hj
        by_cases w : j = i
        · subst w
          exact ⟨fun q => Or.inl (Or.inr ⟨q, rfl⟩), fun q => Or.inr ⟨q, rfl⟩⟩
        · have := hSn j (by omega)
          exact ⟨fun q => Or.inl (Or.inl (this.1 q)), fun q => Or.inl (Or.inl (this.2 q))⟩
      unfold wY_nextDifference_73
      rw [rb_24, nI_clamp (show 24 * s + i < 2 ^ 31 by omega)]
      refine ⟨pk_in s 4 hs4, pk_le na i (fun q => key v (nd_k hV (fun w => absurd w (by omega)))) (fun q => ?_) (by rw [nI_clamp (by omega)]; exact cs')⟩
      obtain ⟨p, e1, e2, e3⟩ := nd_pth S Ta q
      have eN : rl_N ps (24 * s + i) = p := rb_N e1 (by omega)
      rw [eN] at key
      have vi := pk_in (x := nI (24 * s + i)) (24 * s + i) 96 (by omega)
      refine ⟨vi, ?_⟩
      rw [e1]
      refine pk_le p last (fun w => key v (nd_k hV (fun _ p' w' _ wl => absurd wl (by omega)))) (fun w => ?_)
      refine yw_has ht4 hs4 h ct' hnb (fun hh => br_f (by decide) (key v (nd_k hV (fun _ p' w' wd _ => ?_)))) (fun hh => br_t rfl ?_)
      · rw [w'] at wd
        exact absurd wd ((nd_has S Ta Tb q e1 e2).mp hh)
      · have hd : nd_D kn c a b p := Classical.not_not.mp (fun r => hh ((nd_has S Ta Tb q e1 e2).mpr r))
        refine pk_eq v 0 (fun z => ?_) (fun z => ⟨vi, pk_le v p (fun r => key v (nd_k hV (fun _ p' w' _ _ => by omega))) (fun r => ?_)⟩)
        · exact ⟨vi, nm_e (key p (nd_n hV hd w e2 (Or.inl z)))⟩
        · exact ⟨vi, nm_e (key p (nd_n hV hd w e2 (Or.inr r)))⟩
theorem yw_next {kn cn : Nat → Int32} {c : Nat → Nat → Nat} (S : sa_S kn cn c) {a b na nb s t : Nat} (hs4 : s < 4) (ht4 : t < 4) (cs' : ct s = nI na) (ct' : ct t = nI nb) (Ta : sn_T kn cn c a na ps fs cs (24 * s)) (Tb : sn_T kn cn c b nb ps fs cs (24 * t))
    {post : Int32 → Prop} {last : Nat} (hl : last < 59049) (hp : ∀ v, nd_V (nd_D kn c a b) last (fun p => p ≠ 0) v → post (nI v)) : wpY_nextDifference post (ex, fi, pa, nm, co, ym, ps, fs, cs, ct) (nI s) (nI t) (nI last) := by
  have hna := Ta.2.2.1
  have hnb := Tb.2.2.1
  refine ⟨25, yw_nd6 S hs4 ht4 cs' ct' Ta Tb hl 25 0 0 (fun _ => False) (by omega) (by omega) ⟨Or.inl rfl, fun p q => q.elim⟩ (fun j hj => absurd hj (by omega)) ?_⟩
  intro v Sn hV hSn
  refine hp v ⟨hV.1, ?_⟩
  intro p h0 hd hlt
  refine hV.2 p ?_ hd hlt
  by_cases z : sa_w c a p = 0
  · have z' : sa_w c b p ≠ 0 := fun q => hd.1 (z.trans q.symm)
    obtain ⟨i, hi, e⟩ := Tb.2.2.2.2.1 p h0 z'
    have := sa_wlt S Tb.1 z'
    have := (hSn i (by omega)).2 hi
    rw [rb_N e (by omega)] at this
    exact this
  · obtain ⟨i, hi, e⟩ := Ta.2.2.2.2.1 p h0 z
    have := sa_wlt S Ta.1 z
    have := (hSn i (by omega)).1 hi
    rw [rb_N e (by omega)] at this
    exact this
end
/-- the reference's last place after j differences -/
def nd_l (f : Nat → Nat) (j : Nat) : Nat := if j = 0 then 0 else f (j - 1)
theorem nd_step {D : Nat → Prop} {fd : Nat → Int32} {n j v : Nat} {f : Nat → Nat} (R : cp_R D fd n f) (hj : j ≤ n) (h : nd_V D (nd_l f j) (fun p => p ≠ 0) v) : (j < n → v = f j) ∧ (j = n → v = 0) := by
  obtain ⟨r1, r2, r3, r4⟩ := R
  have up : ∀ i, i < n → nd_l f j < f i → j ≤ i := by
    intro i hi hlt
    unfold nd_l at hlt
    by_cases z : j = 0
    · omega
    · rw [if_neg z] at hlt
      rcases Nat.lt_or_ge i j with w | w
      · rcases Nat.lt_or_ge i (j - 1) with w' | w'
        · have := r3 i (j - 1) w' (by omega); omega
        · have e : i = j - 1 := by omega
          rw [e] at hlt; omega
      · exact w
  have dn : j < n → nd_l f j < f j := by
    intro hjn
    unfold nd_l
    by_cases z : j = 0
    · rw [if_pos z]
      have := (r2 j hjn).2.1
      omega
    · rw [if_neg z]; exact r3 (j - 1) j (by omega) hjn
  refine ⟨fun hjn => ?_, fun hjn => ?_⟩
  · have a := h.2 (f j) (r2 j hjn).2.1 (r2 j hjn).2.2 (dn hjn)
    rcases h.1 with z | ⟨d1, d2, _⟩
    · exact absurd z a.1
    · obtain ⟨i, hi, e⟩ := r4 v a.1 d1
      have := up i hi (by rw [e]; exact d2)
      rcases Nat.lt_or_ge j i with w | w
      · have := r3 j i w hi; omega
      · have e' : i = j := by omega
        rw [e'] at e; exact e.symm
  · rcases h.1 with z | ⟨d1, d2, _⟩
    · exact z
    · by_cases v0 : v = 0
      · exact v0
      · obtain ⟨i, hi, e⟩ := r4 v v0 d1
        have := up i hi (by rw [e]; exact d2)
        omega
section
variable {ex fi pa nm co ym ps fs cs ct : Nat → Int32}
variable {kn cn : Nat → Int32} {c : Nat → Nat → Nat} {a b na nb s t : Nat}
theorem nd_l59 {n j : Nat} {f : Nat → Nat} {fd : Nat → Int32} (S : sa_S kn cn c) (Ta : sn_T kn cn c a na ps fs cs (24 * s)) (Tb : sn_T kn cn c b nb ps fs cs (24 * t)) (R : cp_R (nd_D kn c a b) fd n f) (hj : j ≤ n) : nd_l f j < 59049 ∧ (j < n → f j < 59049) := by
  have key : ∀ i, i < n → f i < 59049 := by
    intro i hi
    have d := (R.2.1 i hi).2.2
    by_cases z : sa_w c a (f i) = 0
    · exact sa_wlt S Tb.1 (fun q => d.1 (z.trans q.symm))
    · exact sa_wlt S Ta.1 z
  refine ⟨?_, key j⟩
  unfold nd_l
  by_cases z : j = 0
  · rw [if_pos z]; omega
  · rw [if_neg z]; exact key _ (by omega)
theorem yw_diffs {n : Nat} {f : Nat → Nat} {fd : Nat → Int32} (S : sa_S kn cn c) (hs4 : s < 4) (ht4 : t < 4) (cs' : ct s = nI na) (ct' : ct t = nI nb) (Ta : sn_T kn cn c a na ps fs cs (24 * s)) (Tb : sn_T kn cn c b nb ps fs cs (24 * t)) (R : cp_R (nd_D kn c a b) fd n f)
    {post : Int32 → Prop} (hp : post (nI n)) : wpY_differences post (ex, fi, pa, nm, co, ym, ps, fs, cs, ct) (nI s) (nI t) := by
  have hn := R.1
  have key : ∀ m k j, k ≤ 48 → 48 < m + k → j ≤ n → (k = j ∨ (j = n ∧ n ≤ k)) → wY_differences_8 post (nI s) (nI t) ex fi pa nm co ym ps fs cs ct m (nI j) (nI (nd_l f j)) (nI k) := by
    intro m
    induction m with
    | zero => intro k j h1 h2; omega
    | succ m ih =>
      intro k j h1 h2 hj hk
      refine pk_le 48 k (fun h => ?_) (fun h => ?_)
      · have e : j = n := by omega
        rw [e]; exact hp
      · have l59 := nd_l59 S Ta Tb R hj
        refine yw_next S hs4 ht4 cs' ct' Ta Tb l59.1 ?_
        intro v hV
        have st := nd_step R hj hV
        have hv := nd_lt hV
        by_cases q : j < n
        · have e := st.1 q
          have := (R.2.1 j q).2.1
          refine pk_le v 0 (fun w => absurd w (by omega)) (fun _ => nm_r (nI_1 j) (nm_r (nI_1 k) ?_))
          have := ih (k + 1) (j + 1) (by omega) (by omega) (by omega) (by omega)
          rw [show nd_l f (j + 1) = v by unfold nd_l; rw [if_neg (by omega), e]; rfl] at this
          exact this
        · have e := st.2 (by omega)
          refine pk_le v 0 (fun _ => nm_r (nI_1 k) ?_) (fun w => absurd w (by omega))
          exact ih (k + 1) j (by omega) (by omega) hj (by omega)
  exact ⟨49, key 49 0 0 (by omega) (by omega) (by omega) (Or.inl rfl)⟩
theorem yw_diff24 {n : Nat} {f : Nat → Nat} {fd : Nat → Int32} (S : sa_S kn cn c) (hs4 : s < 4) (ht4 : t < 4) (cs' : ct s = nI na) (ct' : ct t = nI nb) (Ta : sn_T kn cn c a na ps fs cs (24 * s)) (Tb : sn_T kn cn c b nb ps fs cs (24 * t)) (R : cp_R (nd_D kn c a b) fd n f)
    {post : Int32 → Prop} {v3 : Int32} (h1 : ∀ j, j < n → v3 = nI j → post (nI (f j))) (h2 : (∀ j, j < n → v3 ≠ nI j) → post (-2)) : ∃ m, wY_difference_24 post (nI s) (nI t) v3 ex fi pa nm co ym ps fs cs ct m 0 0 := by
  have hn := R.1
  have key : ∀ m j, j ≤ n → n < m + j → (∀ i, i < j → v3 ≠ nI i) → wY_difference_24 post (nI s) (nI t) v3 ex fi pa nm co ym ps fs cs ct m (nI (nd_l f j)) (nI j) := by
    intro m
    induction m with
    | zero => intro j q1 q2; omega
    | succ m ih =>
      intro j hj q2 hv3
      refine pk_le 48 j (fun h => absurd h (by omega)) (fun h => ?_)
      have l59 := nd_l59 S Ta Tb R hj
      refine yw_next S hs4 ht4 cs' ct' Ta Tb l59.1 ?_
      intro v hV
      have st := nd_step R hj hV
      have hv := nd_lt hV
      by_cases q : j < n
      · have e := st.1 q
        have := (R.2.1 j q).2.1
        refine pk_eq v 0 (fun w => absurd w (by omega)) (fun _ => br_c (fun w => ?_) (fun w => nm_r (nI_1 j) ?_))
        · rw [e]; exact h1 j q w.symm
        · have := ih (j + 1) (by omega) (by omega) (by
            intro i hi
            by_cases r : i = j
            · rw [r]; exact fun z => w z.symm
            · exact hv3 i (by omega))
          rw [show nd_l f (j + 1) = v by unfold nd_l; rw [if_neg (by omega), e]; rfl] at this
          exact this
      · have e := st.2 (by omega)
        refine pk_eq v 0 (fun _ => h2 (fun i hi => hv3 i (by omega))) (fun w => absurd e w)
  exact ⟨n + 1, key (n + 1) 0 (by omega) (by omega) (fun i hi => absurd hi (by omega))⟩
theorem nd_B (S : sa_S kn cn c) (Ta : sn_T kn cn c a na ps fs cs (24 * s)) (Tb : sn_T kn cn c b nb ps fs cs (24 * t)) : cp_B (sa_w c a) (sa_w c b) := by
  intro n q h hq
  have hna := Ta.2.2.1
  have hnb := Tb.2.2.1
  refine pg_i (fun j => if j < 23 then rl_N ps (24 * s + j) else rl_N ps (24 * t + (j - 23))) q 46 n ?_ hq
  intro i hi
  obtain ⟨h0, hd⟩ := h i hi
  by_cases z : sa_w c a (q i) = 0
  · have z' : sa_w c b (q i) ≠ 0 := fun w => hd (z.trans w.symm)
    obtain ⟨j, hj, e⟩ := Tb.2.2.2.2.1 _ h0 z'
    have := sa_wlt S Tb.1 z'
    refine ⟨j + 23, by omega, ?_⟩
    show (if j + 23 < 23 then _ else rl_N ps (24 * t + (j + 23 - 23))) = q i
    rw [if_neg (by omega), Nat.add_sub_cancel]
    exact rb_N e (by omega)
  · obtain ⟨j, hj, e⟩ := Ta.2.2.2.2.1 _ h0 z
    have := sa_wlt S Ta.1 z
    refine ⟨j, by omega, ?_⟩
    show (if j < 23 then rl_N ps (24 * s + j) else _) = q i
    rw [if_pos (by omega)]
    exact rb_N e (by omega)
end
theorem i_vc_differing {k : Nat} {u : SX} {v : SY} (I : i_Rel k u v) (hk : k + 4 ≤ 2048) (v1 : Int32) (v2 : Int32) : wpX_differing (fun r u' => wpY_differing (fun r' => r' = r ∧ i_Rel (k + 4) u' v) v v1 v2) u v1 v2 := by
  refine ir_el (P := fun u v => wpX_differing (fun r u' => wpY_differing (fun r' => r' = r ∧ i_Rel (k + 4) u' v) v v1 v2) u v1 v2) ?_ I
  intro fc ec ex pa nm fi co no kn cn ch nx bk mk dr sn lf rt wh fd ym ps fs cs ct R
  unfold wpX_differing wpY_differing
  dsimp only
  rcases rl_shot v1 with ⟨s, hs, rfl⟩ | hb
  · rcases rl_shot v2 with ⟨t, ht, rfl⟩ | hb
    · obtain ⟨na, ca, Ta⟩ := R.2.2.2 s hs
      obtain ⟨nb, cb, Tb⟩ := R.2.2.2 t ht
      refine xs_t hs (br_f (by decide) (xs_t ht (br_f (by decide) ⟨pk_in s 3 hs, pk_in t 3 ht, ?_⟩)))
      rw [nI_clamp (show s < 2 ^ 31 by omega), nI_clamp (show t < 2 ^ 31 by omega), R.2.2.1.2.2.2.2.2 s hs, R.2.2.1.2.2.2.2.2 t ht]
      refine xw_compare R.2.2.1.1 Ta.1 Tb.1 (nd_B R.2.2.1.1.1 Ta Tb) ?_
      intro fn' lf' rt' wh' fd' f' hR
      refine ys_t hs (br_t rfl (ys_t ht (br_t rfl ?_)))
      exact yw_diffs R.2.2.1.1.1 (by omega) (by omega) ca cb Ta Tb hR ⟨rfl, ir_mk R⟩
    · exact xs_t hs (br_f (by decide) (xs_f hb (br_t rfl (ys_t hs (br_t rfl (ys_f hb (br_f (by decide) ⟨rfl, ir_mk R⟩)))))))
  · exact xs_f hb (br_t rfl (ys_f hb (br_f (by decide) ⟨rfl, ir_mk R⟩)))
theorem i_vc_difference {k : Nat} {u : SX} {v : SY} (I : i_Rel k u v) (hk : k + 4 ≤ 2048) (v1 : Int32) (v2 : Int32) (v3 : Int32) : wpX_difference (fun r u' => wpY_difference (fun r' => r' = r ∧ i_Rel (k + 4) u' v) v v1 v2 v3) u v1 v2 v3 := by
  refine ir_el (P := fun u v => wpX_difference (fun r u' => wpY_difference (fun r' => r' = r ∧ i_Rel (k + 4) u' v) v v1 v2 v3) u v1 v2 v3) ?_ I
  intro fc ec ex pa nm fi co no kn cn ch nx bk mk dr sn lf rt wh fd ym ps fs cs ct R
  unfold wpX_difference wpY_difference
  dsimp only
  rcases rl_shot v1 with ⟨s, hs, rfl⟩ | hb
  · rcases rl_shot v2 with ⟨t, ht, rfl⟩ | hb
    · obtain ⟨na, ca, Ta⟩ := R.2.2.2 s hs
      obtain ⟨nb, cb, Tb⟩ := R.2.2.2 t ht
      refine xs_t hs (br_f (by decide) (xs_t ht (br_f (by decide) ⟨pk_in s 3 hs, pk_in t 3 ht, ?_⟩)))
      rw [nI_clamp (show s < 2 ^ 31 by omega), nI_clamp (show t < 2 ^ 31 by omega), R.2.2.1.2.2.2.2.2 s hs, R.2.2.1.2.2.2.2.2 t ht]
      refine xw_compare R.2.2.1.1 Ta.1 Tb.1 (nd_B R.2.2.1.1.1 Ta Tb) ?_
      intro fn' lf' rt' wh' fd' f' hR
      have hfn := hR.1
      have RR : i_Rel (k + 4) ((nI fn'), ec, ex, pa, nm, fi, co, no, kn, cn, ch, nx, bk, mk, dr, sn, lf', rt', wh', fd') (ex, fi, pa, nm, co, ym, ps, fs, cs, ct) := ir_mk R
      rcases pk_ix v3 (n := fn') (by omega) with q | q | ⟨j, hj, rfl⟩
      · refine br_t q (ys_t hs (br_t rfl (ys_t ht (br_t rfl ?_))))
        refine yw_diff24 R.2.2.1.1.1 (by omega) (by omega) ca cb Ta Tb hR (fun j hj e => ?_) (fun _ => ⟨rfl, RR⟩)
        rw [e] at q; exact absurd q (nI_pos (by omega))
      · refine br_f (Int32.not_lt.mpr (Int32.le_trans (nI_pos' (by omega)) q)) (br_t q (ys_t hs (br_t rfl (ys_t ht (br_t rfl ?_)))))
        refine yw_diff24 R.2.2.1.1.1 (by omega) (by omega) ca cb Ta Tb hR (fun j hj e => ?_) (fun _ => ⟨rfl, RR⟩)
        rw [e] at q; exact absurd q (nI_ge hj (by omega))
      · refine pk_lt j 0 (fun w => absurd w (by omega)) (fun _ => pk_le fn' j (fun w => absurd w (by omega)) (fun _ => ⟨pk_in j 64 (by omega), ?_⟩))
        refine ys_t hs (br_t rfl (ys_t ht (br_t rfl ?_)))
        refine yw_diff24 R.2.2.1.1.1 (by omega) (by omega) ca cb Ta Tb hR (fun i hi e => ⟨?_, RR⟩) (fun hh => absurd rfl (hh j hj))
        have ei : j = i := (nI_eq (by omega) (by omega)).mp e
        subst ei
        show nI (f' j) = fd' (nI j).toNatClampNeg
        rw [nI_clamp (by omega), (hR.2.1 j hj).1]
    · exact xs_t hs (br_f (by decide) (xs_f hb (br_t rfl (ys_t hs (br_t rfl (ys_f hb (br_f (by decide) ⟨rfl, ir_mk R⟩)))))))
  · exact xs_f hb (br_t rfl (ys_f hb (br_f (by decide) ⟨rfl, ir_mk R⟩)))
theorem i_vc_changed {k : Nat} {u : SX} {v : SY} (I : i_Rel k u v) (hk : k + 4 ≤ 2048) (v1 : Int32) : wpX_changed (fun r u' => wpY_changed (fun r' v' => r' = r ∧ i_Rel (k + 4) u' v') v v1) u v1 := by
  refine ir_el (P := fun u v => wpX_changed (fun r u' => wpY_changed (fun r' v' => r' = r ∧ i_Rel (k + 4) u' v') v v1) u v1) ?_ I
  intro fc ec ex pa nm fi co no kn cn ch nx bk mk dr sn lf rt wh fd ym ps fs cs ct R
  have H := R.1
  unfold wpX_changed wpY_changed
  dsimp only
  rcases rl_shot v1 with ⟨t, ht, rfl⟩ | hb
  · refine xs_t ht (br_f (by decide) (xw_refresh H R.2.2.1 ?_))
    intro no' kn' cn' ch' nx' bk' mk' dr' I' hK F
    obtain ⟨_, he, _, hT⟩ := R
    refine ⟨pk_in t 3 ht, ?_⟩
    dsimp only
    rw [nI_clamp (show t < 2 ^ 31 by omega), I'.2.2.2.2.2 t ht, I'.2.2.2.2.1 0 H.1.1]
    have L0 := I'.2.2.1 0 H.1.1 (F 0 H.1.1)
    obtain ⟨nb, cb, Tb0⟩ := hT t ht
    have Tb := sn_K ht Tb0 hK
    have hB : cp_B (sa_w (rs_c ch') (rl_N no' 0)) (sa_w (rs_c ch') (rl_N sn t)) := by
      intro n q h hq
      have hnb := Tb.2.2.1
      refine pg_i (fun j => if j < 23 then ea_c (rl_N pa) (rl_N nm) (j + 1) else rl_N ps (24 * t + (j - 23))) q 46 n ?_ hq
      intro i hi
      obtain ⟨h0, hd⟩ := h i hi
      by_cases z : sa_w (rs_c ch') (rl_N no' 0) (q i) = 0
      · have z' : sa_w (rs_c ch') (rl_N sn t) (q i) ≠ 0 := fun w => hd (z.trans w.symm)
        obtain ⟨j, hj, e⟩ := Tb.2.2.2.2.1 _ h0 z'
        have := sa_wlt I'.1.1 Tb.1 z'
        refine ⟨j + 23, by omega, ?_⟩
        show (if j + 23 < 23 then _ else rl_N ps (24 * t + (j + 23 - 23))) = q i
        rw [if_neg (by omega), Nat.add_sub_cancel]
        exact rb_N e (by omega)
      · obtain ⟨e, he, hr, _⟩ := la_w2 H.1 I'.2.2.1 F I'.1.1.2.1 H.1.1 (q i) z
        have hc : ea_c (rl_N pa) (rl_N nm) e = q i := Option.some.inj ((ea_c_r H.1 e he).symm.trans hr)
        have he0 : e ≠ 0 := by
          intro w; rw [w, ea_c_0] at hc; exact h0 hc.symm
        have := he.1
        refine ⟨e - 1, by omega, ?_⟩
        show (if e - 1 < 23 then ea_c (rl_N pa) (rl_N nm) (e - 1 + 1) else _) = q i
        rw [if_pos (by omega), show e - 1 + 1 = e by omega]
        exact hc
    refine xw_compare I'.1 L0.1 Tb.1 hB ?_
    intro fn' lf' rt' wh' fd' f' hR
    refine ys_t ht (br_t rfl (yw_wo (t := 3) H (by omega) ?_))
    intro m ps' fs' cs' hm hW hA
    have Ta := wo_T H I'.1.1 I'.2.2.1 F hm hW
    have T' : ∀ t', t' < 3 → ∃ n, (upd ct 3 (nI m)) t' = nI n ∧ sn_T kn' cn' (rs_c ch') (rl_N sn t') n ps' fs' cs' (24 * t') := by
      intro t' ht'
      rw [pk_un (by omega)]
      obtain ⟨n, e1, e2⟩ := hT t' ht'
      exact ⟨n, e1, sn_ag (sn_K ht' e2 hK) (fun i hi => hA _ (by omega))⟩
    obtain ⟨nb', cb', Tb'⟩ := T' t ht
    exact yw_diffs (s := 3) I'.1.1 (by omega) (by omega) pk_us cb' Ta Tb' hR ⟨rfl, ir_mk ⟨H, he, I', T'⟩⟩
  · exact xs_f hb (br_t rfl (ys_f hb (br_f (by decide) ⟨rfl, ir_mk R⟩)))
end
section
/-! listContents and repeated -/
def lc_I (A : Nat → Nat) (K C : Nat → Int32) (lf fd : Nat → Int32) (qn fn k m : Nat) (qs f : Nat → Nat) : Prop :=
  (∀ i, i < qn → lf i = nI (A (qs i)) ∧ A (qs i) ≠ 0) ∧
  qs 0 = 0 ∧ (∀ i j, i < j → j < qn → qs i < qs j) ∧
  (k < qn → ∀ i, i < qn → qs i ≤ 9 * qs k + m) ∧
  (∀ j n, j < qn → n < 8 → (j < k ∨ (j = k ∧ n < m)) → A (9 * qs j + n + 1) ≠ 0 → (K (A (9 * qs j + n + 1)) = 1 → ∃ i, i < fn ∧ f i = 9 * qs j + n + 1) ∧ (K (A (9 * qs j + n + 1)) ≠ 1 → ∃ i, i < qn ∧ qs i = 9 * qs j + n + 1)) ∧
  (∀ i, i < fn → fd i = C (A (f i)) ∧ f i ≠ 0 ∧ K (A (f i)) = 1 ∧ A (f i) ≠ 0 ∧ (k < qn → f i ≤ 9 * qs k + m)) ∧
  (∀ i j, i < j → j < fn → f i < f j)
section
variable {A : Nat → Nat} {K C : Nat → Int32} {lf fd : Nat → Int32} {qn fn k m : Nat} {qs f : Nat → Nat}
theorem lc_skip (h : lc_I A K C lf fd qn fn k m qs f) (hm : m < 8) (he : A (9 * qs k + m + 1) = 0) : lc_I A K C lf fd qn fn k (m + 1) qs f := by
  obtain ⟨h1, h2, h3, h4, h5, h6, h7⟩ := h
  refine ⟨h1, h2, h3, fun q i hi => by have := h4 q i hi; omega, ?_, ?_, h7⟩
  · intro j n hj hn hc hne
    by_cases w : j = k ∧ n = m
    · rw [w.1, w.2] at hne; exact absurd he hne
    · exact h5 j n hj hn (by omega) hne
  · intro i hi
    obtain ⟨a1, a2, a3, a4, a5⟩ := h6 i hi
    exact ⟨a1, a2, a3, a4, fun q => by have := a5 q; omega⟩
theorem lc_next (h : lc_I A K C lf fd qn fn k 8 qs f) (hk : k < qn) : lc_I A K C lf fd qn fn (k + 1) 0 qs f := by
  obtain ⟨h1, h2, h3, h4, h5, h6, h7⟩ := h
  refine ⟨h1, h2, h3, ?_, ?_, ?_, h7⟩
  · intro q i hi
    have a := h4 hk i hi
    have b := h3 k (k + 1) (by omega) q
    omega
  · intro j n hj hn hc hne
    exact h5 j n hj hn (by omega) hne
  · intro i hi
    obtain ⟨a1, a2, a3, a4, a5⟩ := h6 i hi
    refine ⟨a1, a2, a3, a4, fun q => ?_⟩
    have a := a5 hk
    have b := h3 k (k + 1) (by omega) q
    omega
theorem lc_push (h : lc_I A K C lf fd qn fn k m qs f) (hk : k < qn) (hm : m < 8) (he : A (9 * qs k + m + 1) ≠ 0) (hb : K (A (9 * qs k + m + 1)) ≠ 1) :
    lc_I A K C (upd lf qn (nI (A (9 * qs k + m + 1)))) fd (qn + 1) fn k (m + 1) (fun i => if i = qn then 9 * qs k + m + 1 else qs i) f := by
  obtain ⟨h1, h2, h3, h4, h5, h6, h7⟩ := h
  have h4' := h4 hk
  have e0 : ∀ i, i < qn → (if i = qn then 9 * qs k + m + 1 else qs i) = qs i := fun i hi => if_neg (by omega)
  have e1 : (if qn = qn then 9 * qs k + m + 1 else qs qn) = 9 * qs k + m + 1 := if_pos rfl
  refine ⟨?_, ?_, ?_, ?_, ?_, ?_, h7⟩
  · intro i hi
    by_cases q : i = qn
    · subst q
      dsimp only
      rw [e1, pk_us]; exact ⟨rfl, he⟩
    · dsimp only
      rw [e0 i (by omega), pk_un q]; exact h1 i (by omega)
  · dsimp only
    rw [e0 0 (by omega)]; exact h2
  · intro i j hij hj
    dsimp only
    by_cases q : j = qn
    · rw [e0 i (by omega), q, e1]; have := h4' i (by omega); omega
    · rw [e0 i (by omega), e0 j (by omega)]; exact h3 i j hij (by omega)
  · intro _ i hi
    dsimp only
    rw [e0 k hk]
    by_cases q : i = qn
    · rw [q, e1]; omega
    · rw [e0 i (by omega)]; have := h4' i (by omega); omega
  · intro j n hj hn hc hne
    dsimp only at hne ⊢
    have hj' : j < qn := by omega
    rw [e0 j hj'] at hne ⊢
    by_cases w : j = k ∧ n = m
    · rw [w.1, w.2]
      exact ⟨fun q => absurd q hb, fun _ => ⟨qn, by omega, e1⟩⟩
    · have := h5 j n hj' hn (by omega) hne
      refine ⟨this.1, fun q => ?_⟩
      obtain ⟨i, hi, e⟩ := this.2 q
      exact ⟨i, by omega, by rw [e0 i hi]; exact e⟩
  · intro i hi
    obtain ⟨a1, a2, a3, a4, a5⟩ := h6 i hi
    refine ⟨a1, a2, a3, a4, fun _ => ?_⟩
    dsimp only
    rw [e0 k hk]
    have := a5 hk
    omega
theorem lc_find (h : lc_I A K C lf fd qn fn k m qs f) (hk : k < qn) (hm : m < 8) (he : A (9 * qs k + m + 1) ≠ 0) (hb : K (A (9 * qs k + m + 1)) = 1) :
    lc_I A K C lf (upd fd fn (C (A (9 * qs k + m + 1)))) qn (fn + 1) k (m + 1) qs (fun i => if i = fn then 9 * qs k + m + 1 else f i) := by
  obtain ⟨h1, h2, h3, h4, h5, h6, h7⟩ := h
  have h4' := h4 hk
  have g0 : ∀ i, i < fn → (if i = fn then 9 * qs k + m + 1 else f i) = f i := fun i hi => if_neg (by omega)
  have g1 : (if fn = fn then 9 * qs k + m + 1 else f fn) = 9 * qs k + m + 1 := if_pos rfl
  refine ⟨h1, h2, h3, fun q i hi => by have := h4 q i hi; omega, ?_, ?_, ?_⟩
  · intro j n hj hn hc hne
    by_cases w : j = k ∧ n = m
    · rw [w.1, w.2]
      exact ⟨fun _ => ⟨fn, by omega, g1⟩, fun q => absurd hb q⟩
    · have := h5 j n hj hn (by omega) hne
      refine ⟨fun q => ?_, this.2⟩
      obtain ⟨i, hi, e⟩ := this.1 q
      exact ⟨i, by omega, by dsimp only; rw [g0 i hi]; exact e⟩
  · intro i hi
    dsimp only
    by_cases q : i = fn
    · rw [q, g1, pk_us]; exact ⟨rfl, by omega, hb, he, fun _ => by omega⟩
    · rw [g0 i (by omega), pk_un q]
      obtain ⟨a1, a2, a3, a4, a5⟩ := h6 i (by omega)
      exact ⟨a1, a2, a3, a4, fun _ => by have := a5 hk; omega⟩
  · intro i j hij hj
    dsimp only
    by_cases q : j = fn
    · rw [g0 i (by omega), q, g1]; have := (h6 i (by omega)).2.2.2.2 hk; omega
    · rw [g0 i (by omega), g0 j (by omega)]; exact h7 i j hij (by omega)
def lc_B (A : Nat → Nat) : Prop := ∀ (n : Nat) (q : Nat → Nat), (∀ i, i < n → q i ≠ 0 ∧ A (q i) ≠ 0) → (∀ i j, i < n → j < n → q i = q j → i = j) → n ≤ 23
theorem lc_qn (h : lc_I A K C lf fd qn fn k m qs f) (hB : lc_B A) : qn ≤ 24 := by
  obtain ⟨h1, h2, h3, h4, h5, h6, h7⟩ := h
  have := hB (qn - 1) (fun i => qs (i + 1)) (by
    intro i hi
    have a := h3 0 (i + 1) (by omega) (by omega)
    exact ⟨by show qs (i + 1) ≠ 0; omega, (h1 (i + 1) (by omega)).2⟩) (by
    intro i j hi hj e
    have := cp_mi h3 (i + 1) (j + 1) (by omega) (by omega) e
    omega)
  omega
theorem lc_fn (h : lc_I A K C lf fd qn fn k m qs f) (hB : lc_B A) : fn ≤ 23 := by
  obtain ⟨h1, h2, h3, h4, h5, h6, h7⟩ := h
  exact hB fn f (fun i hi => ⟨(h6 i hi).2.1, (h6 i hi).2.2.2.1⟩) (cp_mi h7)
end
def lc_R (A : Nat → Nat) (K C : Nat → Int32) (fd : Nat → Int32) (n : Nat) (f : Nat → Nat) : Prop :=
  n ≤ 23 ∧ (∀ i, i < n → fd i = C (A (f i)) ∧ f i ≠ 0 ∧ K (A (f i)) = 1 ∧ A (f i) ≠ 0) ∧ (∀ i j, i < n → j < n → f i = f j → i = j) ∧ (∀ p, p ≠ 0 → A p ≠ 0 → K (A p) = 1 → ∃ i, i < n ∧ f i = p)
theorem lc_done {kn cn : Nat → Int32} {c : Nat → Nat → Nat} (S : sa_S kn cn c) {a : Nat} (ha : sa_V kn a) (ha2 : kn a = 2) {lf fd : Nat → Int32} {qn fn : Nat} {qs f : Nat → Nat} (hB : lc_B (sa_w c a)) (hq : 1 ≤ qn)
    (h : lc_I (sa_w c a) kn cn lf fd qn fn qn 0 qs f) : lc_R (sa_w c a) kn cn fd fn f := by
  have hfn := lc_fn h hB
  obtain ⟨h1, h2, h3, h4, h5, h6, h7⟩ := h
  have all : ∀ p, sa_w c a p ≠ 0 → kn (sa_w c a p) = 2 → ∃ i, i < qn ∧ qs i = p := by
    refine sa_ind ?_ ?_ ?_
    · intro _ _; exact ⟨0, hq, h2⟩
    · intro p hp h9 hne; exact absurd (sa_w_9 hp h9) hne
    · intro q m hm ih hne h2'
      have up := sa_wup S (Or.inr ha) (show 9 * q + m + 1 ≠ 0 by omega) hne
      rw [show (9 * q + m + 1) / 9 = q by omega] at up
      obtain ⟨j, hj, ej⟩ := ih up.2.1 up.2.2
      rw [← ej] at hne h2' ⊢
      exact (h5 j m hj hm (Or.inl hj) hne).2 (by rw [h2']; decide)
  refine ⟨hfn, fun i hi => ⟨(h6 i hi).1, (h6 i hi).2.1, (h6 i hi).2.2.1, (h6 i hi).2.2.2.1⟩, cp_mi h7, ?_⟩
  intro p h0 hne hk
  have up := sa_wup S (Or.inr ha) h0 hne
  obtain ⟨j, hj, ej⟩ := all (p / 9) up.2.1 up.2.2
  have e : p = 9 * qs j + (p % 9 - 1) + 1 := by rw [ej]; omega
  rw [e] at hne hk ⊢
  exact (h5 j (p % 9 - 1) hj (by omega) (Or.inl hj) hne).1 hk
section
variable {fc ec : Int32} {ex pa nm fi co no kn cn ch nx bk mk dr sn lf rt wh fd : Nat → Int32}
theorem xw_lc30 (S : rs_S kn cn ch) {post : SX → Prop} {J : Int32 → Int32 → Int32 → (Nat → Int32) → (Nat → Int32) → (Nat → Int32) → (Nat → Int32) → (Nat → Int32) → (Nat → Int32) → (Nat → Int32) → (Nat → Int32) → (Nat → Int32) → (Nat → Int32) → (Nat → Int32) → (Nat → Int32) → (Nat → Int32) → (Nat → Int32) → (Nat → Int32) → (Nat → Int32) → (Nat → Int32) → (Nat → Int32) → Prop}
    {a k : Nat} (ha : sa_V kn a) (hB : lc_B (sa_w (rs_c ch) a)) :
    ∀ n m qn fn lf fd qs f, m ≤ 8 → 8 < n + m → k < qn → lc_I (sa_w (rs_c ch) a) kn cn lf fd qn fn k m qs f →
    (∀ qn' fn' lf' fd' qs' f', k < qn' → lc_I (sa_w (rs_c ch) a) kn cn lf' fd' qn' fn' (k + 1) 0 qs' f' →
      J (nI qn') (nI (k + 1)) (nI fn') ex pa nm fi co no kn cn ch nx bk mk dr sn lf' rt wh fd') → wX_listContents_30 post J (nI k) ec n (nI qn) (nI m) (nI fn) ex pa nm fi co no kn cn ch nx bk mk dr sn lf rt wh fd := by
  intro n
  induction n with
  | zero => intro m qn fn lf fd qs f h1 h2; omega
  | succ n ih =>
    intro m qn fn lf fd qs f h1 h2 hk hI hp
    have hqn := lc_qn hI hB
    have hfn := lc_fn hI hB
    refine pk_le 8 m (fun h => ?_) (fun h => ?_)
    · have z : m = 8 := by omega
      rw [z] at hI
      exact nm_r (nI_1 k) (hp qn fn lf fd qs f hk (lc_next hI hk))
    · obtain ⟨i1, i4⟩ := hI.1 k hk
      have vA := sa_wV S.1 (Or.inr ha) (qs k)
      have vA' := sa_wV S.1 (Or.inr ha) (9 * qs k + m + 1)
      have eA : rs_c ch (sa_w (rs_c ch) a (qs k)) m = sa_w (rs_c ch) a (9 * qs k + m + 1) := (sa_w_s h).symm
      have lA : sa_w (rs_c ch) a (9 * qs k + m + 1) < 128 := by
        rcases vA' with z | z
        · omega
        · exact z.2.1
      refine ⟨pk_in k 64 (by omega), ?_⟩
      rw [nI_clamp (show k < 2 ^ 31 by omega), i1]
      refine xw_childOf S vA h ?_
      rw [eA]
      refine pk_eq _ 0 (fun w => ?_) (fun w => ?_)
      · unfold wX_listContents_96
        refine pk_eq _ 0 (fun _ => nm_r (nI_1 m) ?_) (fun q => absurd w q)
        exact ih (m + 1) qn fn lf fd qs f (by omega) (by omega) hk (lc_skip hI h w) hp
      · rw [nI_clamp (show sa_w (rs_c ch) a (9 * qs k + m + 1) < 2 ^ 31 by omega)]
        refine ⟨pk_in _ 128 lA, br_c (fun q => ?_) (fun q => ?_)⟩
        · rw [nI_clamp (show fn < 2 ^ 31 by omega)]
          refine ⟨pk_in _ 128 lA, pk_in fn 64 (by omega), nm_e (nm_r (nI_1 fn) (nm_r (nI_1 m) ?_))⟩
          exact ih (m + 1) qn (fn + 1) lf _ qs _ (by omega) (by omega) hk (lc_find hI hk h w q) hp
        · unfold wX_listContents_96
          refine pk_eq _ 0 (fun r => absurd r w) (fun _ => ?_)
          rw [nI_clamp (show qn < 2 ^ 31 by omega)]
          refine ⟨pk_in qn 64 (by omega), nm_e (nm_r (nI_1 qn) (nm_r (nI_1 m) ?_))⟩
          exact ih (m + 1) (qn + 1) fn _ fd _ f (by omega) (by omega) (by omega) (lc_push hI hk h w q) hp
theorem xw_lc16 (S : rs_S kn cn ch) {post : SX → Prop} {a : Nat} (ha : sa_V kn a) (ha2 : kn a = 2) (hB : lc_B (sa_w (rs_c ch) a)) :
    ∀ n k qn fn lf fd qs f, k ≤ qn → 64 < n + k → 1 ≤ qn → lc_I (sa_w (rs_c ch) a) kn cn lf fd qn fn k 0 qs f →
    (∀ fn' lf' fd' f', lc_R (sa_w (rs_c ch) a) kn cn fd' fn' f' → post ((nI fn'), ec, ex, pa, nm, fi, co, no, kn, cn, ch, nx, bk, mk, dr, sn, lf', rt, wh, fd')) → wX_listContents_16 post ec n (nI qn) (nI k) (nI fn) ex pa nm fi co no kn cn ch nx bk mk dr sn lf rt wh fd := by
  intro n
  induction n with
  | zero => intro k qn fn lf fd qs f h1 h2 _ hI; have := lc_qn hI hB; omega
  | succ n ih =>
    intro k qn fn lf fd qs f h1 h2 hq hI hp
    have hqn := lc_qn hI hB
    refine pk_le 64 k (fun h => absurd h (by omega)) (fun h => pk_le qn k (fun h' => ?_) (fun h' => ⟨9, ?_⟩))
    · have z : k = qn := by omega
      subst z
      exact hp fn lf fd f (lc_done S.1 ha ha2 hB hq hI)
    · refine xw_lc30 S ha hB 9 0 qn fn lf fd qs f (by omega) (by omega) h' hI ?_
      intro qn' fn' lf' fd' qs' f' hk hI'
      exact ih (k + 1) qn' fn' lf' fd' qs' f' hk (by omega) (by omega) hI' hp
theorem xw_list (S : rs_S kn cn ch) {post : SX → Prop} {a : Nat} (ha : sa_V kn a) (ha2 : kn a = 2) (hB : lc_B (sa_w (rs_c ch) a))
    (hp : ∀ fn' lf' fd' f', lc_R (sa_w (rs_c ch) a) kn cn fd' fn' f' → post ((nI fn'), ec, ex, pa, nm, fi, co, no, kn, cn, ch, nx, bk, mk, dr, sn, lf', rt, wh, fd')) : wpX_listContents post (fc, ec, ex, pa, nm, fi, co, no, kn, cn, ch, nx, bk, mk, dr, sn, lf, rt, wh, fd) (nI a) := by
  unfold wpX_listContents
  dsimp only
  refine nm_e ⟨65, xw_lc16 S ha ha2 hB 65 0 1 0 _ fd (fun _ => 0) (fun _ => 0) (by omega) (by omega) (by omega) ?_ hp⟩
  refine ⟨fun i hi => ?_, rfl, fun i j _ hj => absurd hj (by omega), fun _ i _ => Nat.zero_le _, fun j n hj hn hc => absurd hc (by omega), fun i hi => absurd hi (by omega), fun i j _ hj => absurd hj (by omega)⟩
  have e : i = 0 := by omega
  subst e
  rw [pk_us, sa_w_0]
  exact ⟨rfl, ha.1⟩
end
/-! the least value that stands twice -/
def rp_J (Sn Pr : Nat → Nat → Prop) (v : Nat → Int32) (best any : Int32) : Prop :=
  (any = 0 ∧ best = 0 ∧ ∀ i k, Sn i k → ¬ Pr i k) ∨ (any = 1 ∧ (∃ i k, Sn i k ∧ Pr i k ∧ v i = best) ∧ ∀ i k, Sn i k → Pr i k → best ≤ v i)
def rp_S (i0 k0 i k : Nat) : Prop := k < i ∧ (i < i0 ∨ (i = i0 ∧ k < k0))
theorem rp_S1 {i0 k0 i k : Nat} (h : rp_S i0 (k0 + 1) i k) : rp_S i0 k0 i k ∨ (i = i0 ∧ k = k0) := by
  unfold rp_S at *; omega
theorem rp_S2 {i0 k0 i k : Nat} (h : rp_S i0 k0 i k) : rp_S i0 (k0 + 1) i k := by unfold rp_S at *; omega
theorem rp_S3 {i0 k0 : Nat} (h : k0 < i0) : rp_S i0 (k0 + 1) i0 k0 := by unfold rp_S; omega
theorem rp_S4 {i0 i k : Nat} : rp_S (i0 + 1) 0 i k ↔ rp_S i0 i0 i k := by unfold rp_S; omega
section
variable {Pr : Nat → Nat → Prop} {v : Nat → Int32} {best any : Int32} {i0 k0 : Nat}
theorem rp_no (h : rp_J (rp_S i0 k0) Pr v best any) (hn : ¬ Pr i0 k0) : rp_J (rp_S i0 (k0 + 1)) Pr v best any := by
  rcases h with ⟨h1, h2, h3⟩ | ⟨h1, ⟨i, k, a1, a2, a3⟩, h3⟩
  · refine Or.inl ⟨h1, h2, fun i k hs => ?_⟩
    rcases rp_S1 hs with w | ⟨w1, w2⟩
    · exact h3 i k w
    · rw [w1, w2]; exact hn
  · refine Or.inr ⟨h1, ⟨i, k, rp_S2 a1, a2, a3⟩, fun i k hs hp => ?_⟩
    rcases rp_S1 hs with w | ⟨w1, w2⟩
    · exact h3 i k w hp
    · rw [w1, w2] at hp; exact absurd hp hn
theorem rp_new (h : rp_J (rp_S i0 k0) Pr v best any) (hk : k0 < i0) (hp : Pr i0 k0) (hb : any = 0 ∨ ¬ best ≤ v i0) : rp_J (rp_S i0 (k0 + 1)) Pr v (v i0) 1 := by
  refine Or.inr ⟨rfl, ⟨i0, k0, rp_S3 hk, hp, rfl⟩, fun i k hs hp' => ?_⟩
  rcases rp_S1 hs with w | ⟨w1, w2⟩
  · rcases h with ⟨h1, h2, h3⟩ | ⟨h1, _, h3⟩
    · exact absurd hp' (h3 i k w)
    · have hb' : ¬ best ≤ v i0 := hb.resolve_left (fun z => by rw [h1] at z; exact absurd z (by decide))
      exact Int32.le_trans (Int32.le_of_lt (Int32.not_le.mp hb')) (h3 i k w hp')
  · rw [w1]; exact Int32.le_refl _
theorem rp_old (h : rp_J (rp_S i0 k0) Pr v best any) (ha : any ≠ 0) (hb : best ≤ v i0) : rp_J (rp_S i0 (k0 + 1)) Pr v best any := by
  rcases h with ⟨h1, h2, h3⟩ | ⟨h1, ⟨i, k, a1, a2, a3⟩, h3⟩
  · exact absurd h1 ha
  · refine Or.inr ⟨h1, ⟨i, k, rp_S2 a1, a2, a3⟩, fun i k hs hp => ?_⟩
    rcases rp_S1 hs with w | ⟨w1, w2⟩
    · exact h3 i k w hp
    · rw [w1]; exact hb
theorem rp_row (h : rp_J (rp_S i0 i0) Pr v best any) : rp_J (rp_S (i0 + 1) 0) Pr v best any := by
  rcases h with ⟨h1, h2, h3⟩ | ⟨h1, ⟨i, k, a1, a2, a3⟩, h3⟩
  · exact Or.inl ⟨h1, h2, fun i k hs => h3 i k (rp_S4.mp hs)⟩
  · exact Or.inr ⟨h1, ⟨i, k, rp_S4.mpr a1, a2, a3⟩, fun i k hs => h3 i k (rp_S4.mp hs)⟩
end
def rp_F (Vs : Int32 → Prop) (r : Int32) : Prop := ((∀ c, ¬ Vs c) ∧ r = 0) ∨ (Vs r ∧ ∀ c, Vs c → r ≤ c)
theorem rp_fin {Pr : Nat → Nat → Prop} {v : Nat → Int32} {best any : Int32} {n : Nat} (h : rp_J (rp_S n 0) Pr v best any) : rp_F (fun c => ∃ i k, k < i ∧ i < n ∧ Pr i k ∧ v i = c) best := by
  have hs : ∀ i k, rp_S n 0 i k ↔ (k < i ∧ i < n) := by intro i k; unfold rp_S; omega
  rcases h with ⟨h1, h2, h3⟩ | ⟨h1, ⟨i, k, a1, a2, a3⟩, h3⟩
  · exact Or.inl ⟨fun c ⟨i, k, q1, q2, q3, q4⟩ => h3 i k ((hs i k).mpr ⟨q1, q2⟩) q3, h2⟩
  · refine Or.inr ⟨⟨i, k, ((hs i k).mp a1).1, ((hs i k).mp a1).2, a2, a3⟩, fun c ⟨i, k, q1, q2, q3, q4⟩ => ?_⟩
    rw [← q4]; exact h3 i k ((hs i k).mpr ⟨q1, q2⟩) q3
theorem rp_uniq {Vs Ws : Int32 → Prop} {r s : Int32} (h : rp_F Vs r) (h' : rp_F Ws s) (e : ∀ c, Vs c ↔ Ws c) : s = r := by
  rcases h with ⟨h1, h2⟩ | ⟨h1, h2⟩ <;> rcases h' with ⟨g1, g2⟩ | ⟨g1, g2⟩
  · rw [h2, g2]
  · exact absurd ((e s).mpr g1) (h1 s)
  · exact absurd ((e r).mp h1) (g1 r)
  · exact Int32.le_antisymm (g2 r ((e r).mp h1)) (h2 s ((e s).mpr g1))
section
variable {fc ec : Int32} {ex pa nm fi co no kn cn ch nx bk mk dr sn lf rt wh fd : Nat → Int32}
variable {ym ps fs cs ct : Nat → Int32}
theorem xw_rep38 {post : Int32 → SX → Prop} {J : Int32 → Int32 → Int32 → Prop} {i : Nat} (hi : i < 64) : ∀ n k best any, k ≤ i → i < n + k → rp_J (rp_S i k) (fun i k => fd i = fd k) fd best any →
    (∀ best' any', rp_J (rp_S (i + 1) 0) (fun i k => fd i = fd k) fd best' any' → J best' any' (nI (i + 1))) → wX_repeated_38 post J (nI i) fc ec ex pa nm fi co no kn cn ch nx bk mk dr sn lf rt wh fd n best any (nI k) := by
  intro n
  induction n with
  | zero => intro k best any h1 h2; omega
  | succ n ih =>
    intro k best any h1 h2 hJ hp
    refine pk_le i k (fun h => ?_) (fun h => ?_)
    · have z : k = i := by omega
      subst z
      exact nm_r (nI_1 k) (hp best any (rp_row hJ))
    · unfold wX_repeated_77
      rw [nI_clamp (show i < 2 ^ 31 by omega), nI_clamp (show k < 2 ^ 31 by omega)]
      refine ⟨pk_in i 64 hi, pk_in k 64 (by omega), br_c (fun q => br_c (fun z => ?_) (fun z => ⟨pk_in i 64 hi, br_c (fun w => ?_) (fun w => ?_)⟩)) (fun q => ?_)⟩
      · exact ⟨pk_in i 64 hi, nm_e (nm_r (nI_1 k) (ih (k + 1) _ _ (by omega) (by omega) (rp_new hJ h q (Or.inl z)) hp))⟩
      · exact nm_r (nI_1 k) (ih (k + 1) _ _ (by omega) (by omega) (rp_old hJ z w) hp)
      · exact ⟨pk_in i 64 hi, nm_e (nm_r (nI_1 k) (ih (k + 1) _ _ (by omega) (by omega) (rp_new hJ h q (Or.inr w)) hp))⟩
      · exact nm_r (nI_1 k) (ih (k + 1) _ _ (by omega) (by omega) (rp_no hJ q) hp)
theorem xw_rep26 {post : Int32 → SX → Prop} {fn : Nat} (hfn : fn ≤ 23) : ∀ n i best any, i ≤ fn → fn < n + i → rp_J (rp_S i 0) (fun i k => fd i = fd k) fd best any →
    (∀ best', rp_F (fun c => ∃ i k, k < i ∧ i < fn ∧ fd i = fd k ∧ fd i = c) best' → post best' ((nI fn), ec, ex, pa, nm, fi, co, no, kn, cn, ch, nx, bk, mk, dr, sn, lf, rt, wh, fd)) → wX_repeated_26 post (nI fn) ec ex pa nm fi co no kn cn ch nx bk mk dr sn lf rt wh fd n best any (nI i) := by
  intro n
  induction n with
  | zero => intro i best any h1 h2; omega
  | succ n ih =>
    intro i best any h1 h2 hJ hp
    refine pk_le fn i (fun h => ?_) (fun h => ⟨i + 1, ?_⟩)
    · have z : i = fn := by omega
      subst z
      exact hp best (rp_fin hJ)
    · refine xw_rep38 (by omega) (i + 1) 0 best any (by omega) (by omega) hJ ?_
      intro best' any' hJ'
      exact ih (i + 1) best' any' (by omega) (by omega) hJ' hp
theorem yw_rep38 {post : Int32 → Prop} {J : Int32 → Int32 → Int32 → Prop} {i t : Nat} (hi : i < 24) (ht : t < 4) : ∀ n k best any, k ≤ i → i < n + k →
    rp_J (rp_S i k) (fun i k => fs (24 * t + i) ≠ 0 ∧ fs (24 * t + k) ≠ 0 ∧ cs (24 * t + i) = cs (24 * t + k)) (fun i => cs (24 * t + i)) best any →
    (∀ best' any', rp_J (rp_S (i + 1) 0) (fun i k => fs (24 * t + i) ≠ 0 ∧ fs (24 * t + k) ≠ 0 ∧ cs (24 * t + i) = cs (24 * t + k)) (fun i => cs (24 * t + i)) best' any' → J any' best' (nI (i + 1))) →
    wY_repeated_38 post J (nI t) (nI i) ex fi pa nm co ym ps fs cs ct n any best (nI k) := by
  intro n
  induction n with
  | zero => intro k best any h1 h2; omega
  | succ n ih =>
    intro k best any h1 h2 hJ hp
    refine pk_le i k (fun h => ?_) (fun h => ?_)
    · have z : k = i := by omega
      subst z
      exact nm_r (nI_1 k) (hp best any (rp_row hJ))
    · have vi := pk_in (x := nI (24 * t + i)) (24 * t + i) 96 (by omega)
      have vk := pk_in (x := nI (24 * t + k)) (24 * t + k) 96 (by omega)
      unfold wY_repeated_93 wY_repeated_94
      rw [rb_24, rb_24, nI_clamp (show 24 * t + i < 2 ^ 31 by omega), nI_clamp (show 24 * t + k < 2 ^ 31 by omega)]
      have no : ¬ (fs (24 * t + i) ≠ 0 ∧ fs (24 * t + k) ≠ 0 ∧ cs (24 * t + i) = cs (24 * t + k)) → wY_repeated_38 post J (nI t) (nI i) ex fi pa nm co ym ps fs cs ct n any best (nI (k + 1)) := fun q => ih (k + 1) _ _ (by omega) (by omega) (rp_no hJ q) hp
      refine ⟨vi, nm_e ⟨vi, br_c (fun q => br_t rfl (nm_r (nI_1 k) (no (fun w => w.1 q)))) (fun q => ⟨vk, br_c (fun r => br_t rfl (nm_r (nI_1 k) (no (fun w => w.2.1 r)))) (fun r => br_f (by decide) ⟨vk, br_c (fun s => ?_) (fun s => nm_r (nI_1 k) (no (fun w => s w.2.2)))⟩)⟩)⟩⟩
      refine br_c (fun z => nm_r (nI_1 k) (ih (k + 1) _ _ (by omega) (by omega) (rp_new hJ h ⟨q, r, s⟩ (Or.inl z)) hp)) (fun z => br_c (fun w => nm_r (nI_1 k) (ih (k + 1) _ _ (by omega) (by omega) (rp_old hJ z w) hp)) (fun w => nm_r (nI_1 k) (ih (k + 1) _ _ (by omega) (by omega) (rp_new hJ h ⟨q, r, s⟩ (Or.inr w)) hp)))
theorem yw_rep17 {post : Int32 → Prop} {t na : Nat} (ht : t < 4) (hct : ct t = nI na) (hna : na ≤ 23) : ∀ n i best any, i ≤ na → na < n + i →
    rp_J (rp_S i 0) (fun i k => fs (24 * t + i) ≠ 0 ∧ fs (24 * t + k) ≠ 0 ∧ cs (24 * t + i) = cs (24 * t + k)) (fun i => cs (24 * t + i)) best any →
    (∀ best', rp_F (fun c => ∃ i k, k < i ∧ i < na ∧ (fs (24 * t + i) ≠ 0 ∧ fs (24 * t + k) ≠ 0 ∧ cs (24 * t + i) = cs (24 * t + k)) ∧ cs (24 * t + i) = c) best' → post best') → wY_repeated_17 post (nI t) ex fi pa nm co ym ps fs cs ct n any best (nI i) := by
  intro n
  induction n with
  | zero => intro i best any h1 h2; omega
  | succ n ih =>
    intro i best any h1 h2 hJ hp
    refine ⟨pk_in t 4 ht, pk_le na i (fun h => ?_) (fun h => ?_) (by rw [nI_clamp (by omega)]; exact hct)⟩
    · have z : i = na := by omega
      subst z
      exact hp best (rp_fin hJ)
    · refine pk_le 24 i (fun q => absurd q (by omega)) (fun _ => ⟨i + 1, ?_⟩)
      refine yw_rep38 (by omega) ht (i + 1) 0 best any (by omega) (by omega) hJ ?_
      intro best' any' hJ'
      exact ih (i + 1) best' any' (by omega) (by omega) hJ' hp
end
theorem rp_J0 {Pr : Nat → Nat → Prop} {v : Nat → Int32} : rp_J (rp_S 0 0) Pr v 0 0 := Or.inl ⟨rfl, rfl, fun i k h => by unfold rp_S at h; omega⟩
theorem lc_T {kn cn ps fs cs : Nat → Int32} {c : Nat → Nat → Nat} (S : sa_S kn cn c) {a na o : Nat} (Ta : sn_T kn cn c a na ps fs cs o) : lc_B (sa_w c a) := by
  intro n q h hq
  have hna := Ta.2.2.1
  refine pg_i (fun j => rl_N ps (o + j)) q 23 n ?_ hq
  intro i hi
  obtain ⟨h0, hd⟩ := h i hi
  obtain ⟨j, hj, e⟩ := Ta.2.2.2.2.1 _ h0 hd
  have := sa_wlt S Ta.1 hd
  exact ⟨j, by omega, rb_N e (by omega)⟩
/-- the same values stand twice on both sides -/
theorem rp_same {kn cn ps fs cs fd : Nat → Int32} {c : Nat → Nat → Nat} (S : sa_S kn cn c) {a na o n : Nat} {f : Nat → Nat} (Ta : sn_T kn cn c a na ps fs cs o) (R : lc_R (sa_w c a) kn cn fd n f) (x : Int32) :
    (∃ i k, k < i ∧ i < n ∧ fd i = fd k ∧ fd i = x) ↔ (∃ i k, k < i ∧ i < na ∧ (fs (o + i) ≠ 0 ∧ fs (o + k) ≠ 0 ∧ cs (o + i) = cs (o + k)) ∧ cs (o + i) = x) := by
  have toY : ∀ i, i < n → ∃ j, j < na ∧ ps (o + j) = nI (f i) ∧ fs (o + j) ≠ 0 ∧ cs (o + j) = fd i := by
    intro i hi
    obtain ⟨r1, r2, r3, r4⟩ := R.2.1 i hi
    obtain ⟨j, hj, e⟩ := Ta.2.2.2.2.1 _ r2 r4
    obtain ⟨p, a1, a2, a3, a4, a5⟩ := Ta.2.2.2.1 j hj
    have b1 := sa_wlt S Ta.1 r4
    have b2 := sa_wlt S Ta.1 a3
    have e2 : p = f i := (nI_eq (by omega) (by omega)).mp (a2.symm.trans e)
    subst e2
    refine ⟨j, hj, e, ?_, ?_⟩
    · rw [a4, if_pos r3]; decide
    · rw [a5, r1]
  have toX : ∀ j, j < na → fs (o + j) ≠ 0 → ∃ i, i < n ∧ ps (o + j) = nI (f i) ∧ fd i = cs (o + j) := by
    intro j hj hf
    obtain ⟨p, a1, a2, a3, a4, a5⟩ := Ta.2.2.2.1 j hj
    have k1 : kn (sa_w c a p) = 1 := by
      by_cases q : kn (sa_w c a p) = 1
      · exact q
      · rw [a4, if_neg q] at hf; exact absurd rfl hf
    obtain ⟨i, hi, e⟩ := R.2.2.2 p a1 a3 k1
    refine ⟨i, hi, by rw [e]; exact a2, ?_⟩
    rw [(R.2.1 i hi).1, e, a5]
  have f59 : ∀ i, i < n → f i < 59049 := fun i hi => sa_wlt S Ta.1 (R.2.1 i hi).2.2.2
  constructor
  · intro ⟨i, k, hk, hi, e1, e2⟩
    obtain ⟨j, j1, j2, j3, j4⟩ := toY i hi
    obtain ⟨l, l1, l2, l3, l4⟩ := toY k (by omega)
    have hne : j ≠ l := by
      intro z
      rw [z, l2] at j2
      have b1 := f59 i hi
      have b2 := f59 k (by omega)
      have := R.2.2.1 k i (by omega) hi ((nI_eq (by omega) (by omega)).mp j2)
      omega
    rcases Nat.lt_or_ge l j with w | w
    · exact ⟨j, l, w, j1, ⟨j3, l3, by rw [j4, l4, e1]⟩, by rw [j4, e2]⟩
    · exact ⟨l, j, by omega, l1, ⟨l3, j3, by rw [j4, l4, e1]⟩, by rw [l4, ← e1, e2]⟩
  · intro ⟨j, l, hl, hj, ⟨g1, g2, g3⟩, e2⟩
    obtain ⟨i, i1, i2, i3⟩ := toX j hj g1
    obtain ⟨k, k1, k2, k3⟩ := toX l (by omega) g2
    have hne : i ≠ k := by
      intro z
      rw [z, ← k2] at i2
      have := Ta.2.2.2.2.2 j l hj (by omega) i2
      omega
    rcases Nat.lt_or_ge k i with w | w
    · exact ⟨i, k, w, i1, by rw [i3, k3, g3], by rw [i3, e2]⟩
    · exact ⟨k, i, by omega, k1, by rw [i3, k3, g3], by rw [k3, ← g3, e2]⟩
theorem i_vc_repeated {k : Nat} {u : SX} {v : SY} (I : i_Rel k u v) (hk : k + 4 ≤ 2048) (v1 : Int32) : wpX_repeated (fun r u' => wpY_repeated (fun r' => r' = r ∧ i_Rel (k + 4) u' v) v v1) u v1 := by
  refine ir_el (P := fun u v => wpX_repeated (fun r u' => wpY_repeated (fun r' => r' = r ∧ i_Rel (k + 4) u' v) v v1) u v1) ?_ I
  intro fc ec ex pa nm fi co no kn cn ch nx bk mk dr sn lf rt wh fd ym ps fs cs ct R
  unfold wpX_repeated wpY_repeated
  dsimp only
  rcases rl_shot v1 with ⟨t, ht, rfl⟩ | hb
  · obtain ⟨na, ca, Ta⟩ := R.2.2.2 t ht
    refine xs_t ht (br_f (by decide) ⟨pk_in t 3 ht, ?_⟩)
    rw [nI_clamp (show t < 2 ^ 31 by omega), R.2.2.1.2.2.2.2.2 t ht]
    refine xw_list R.2.2.1.1 Ta.1 Ta.2.1 (lc_T R.2.2.1.1.1 Ta) ?_
    intro fn' lf' fd' f' hR
    refine ⟨fn' + 1, xw_rep26 hR.1 (fn' + 1) 0 0 0 (by omega) (by omega) rp_J0 ?_⟩
    intro best hF
    refine ys_t ht (br_t rfl ⟨na + 1, yw_rep17 (by omega) ca Ta.2.2.1 (na + 1) 0 0 0 (by omega) (by omega) rp_J0 ?_⟩)
    intro best' hF'
    exact ⟨rp_uniq hF hF' (fun x => rp_same R.2.2.1.1.1 Ta hR x), ir_mk R⟩
  · exact xs_f hb (br_t rfl (ys_f hb (br_f (by decide) ⟨rfl, ir_mk R⟩)))
end
section
/-! restore: the entries are made one by one, in the order of their codes -/
def st_u (f0 g : Nat → Int32) : Nat → (Nat → Int32)
  | 0 => f0
  | k + 1 => if k = 0 then f0 else upd (st_u f0 g k) k (g k)
theorem st_1 {f0 g : Nat → Int32} : st_u f0 g 1 = f0 := by simp [st_u]
theorem st_s {f0 g : Nat → Int32} {k : Nat} (h : 1 ≤ k) : st_u f0 g (k + 1) = upd (st_u f0 g k) k (g k) := by
  have h' : k ≠ 0 := by omega
  simp [st_u, h']
theorem st_c {f0 g g' : Nat → Int32} : ∀ k, (∀ i, 1 ≤ i → i < k → g i = g' i) → st_u f0 g k = st_u f0 g' k := by
  intro k
  induction k with
  | zero => intro _; rfl
  | succ k ih =>
    intro h
    by_cases z : k = 0
    · subst z; rw [st_1, st_1]
    · rw [st_s (by omega), st_s (by omega), ih (fun i h1 h2 => h i h1 (by omega)), h k (by omega) (by omega)]
theorem st_lo {f0 g : Nat → Int32} : ∀ k i, 1 ≤ i → i < k → st_u f0 g k i = g i := by
  intro k
  induction k with
  | zero => intro i _ h; omega
  | succ k ih =>
    intro i h1 h2
    rw [st_s (by omega)]
    by_cases q : i = k
    · rw [q, pk_us]
    · rw [pk_un q]; exact ih i h1 (by omega)
theorem st_hi {f0 g : Nat → Int32} : ∀ k i, (i = 0 ∨ k ≤ i) → st_u f0 g k i = f0 i := by
  intro k
  induction k with
  | zero => intro i _; rfl
  | succ k ih =>
    intro i h
    by_cases z : k = 0
    · subst z; rw [st_1]
    · rw [st_s (by omega), pk_un (by omega)]; exact ih i (by omega)
/-- codes before and after a new entry -/
theorem mk_c {E E' : Nat → Prop} {P M P' M' : Nat → Nat} {D D' : Nat → Prop} (W : ea_W E P M D) (W' : ea_W E' P' M' D') {e0 b m0 : Nat} (h0 : ¬ E e0) (hb : E b)
    (kE : ∀ e, E' e ↔ (E e ∨ e = e0)) (kP : ∀ e, P' e = if e = e0 then b else P e) (kM : ∀ e, M' e = if e = e0 then m0 else M e) :
    (∀ e, E e → ea_c P' M' e = ea_c P M e) ∧ ea_c P' M' e0 = 9 * ea_c P M b + m0 + 1 := by
  have ne : ∀ e, E e → e ≠ e0 := fun e he z => h0 (z ▸ he)
  have old : ∀ e, E e → ea_c P' M' e = ea_c P M e := by
    refine ea_ind W (by rw [ea_c_0, ea_c_0]) ?_
    intro e he hne ih
    have hP : P' e = P e := by rw [kP, if_neg (ne e he)]
    have hM : M' e = M e := by rw [kM, if_neg (ne e he)]
    rw [ea_c_s W he hne, ea_c_s W' ((kE e).mpr (Or.inl he)) hne, hP, hM, ih]
  refine ⟨old, ?_⟩
  have z0 : e0 ≠ 0 := fun z => h0 (z ▸ W.1)
  have hP : P' e0 = b := by rw [kP, if_pos rfl]
  have hM : M' e0 = m0 := by rw [kM, if_pos rfl]
  rw [ea_c_s W' ((kE e0).mpr (Or.inr rfl)) z0, hP, hM, old b hb]
theorem ea_clo {E : Nat → Prop} {P M : Nat → Nat} {D : Nat → Prop} (W : ea_W E P M D) : ∀ e, E e → e ≠ 0 → 9 ^ (ea_d P e - 1) ≤ ea_c P M e := by
  refine ea_ind W (fun h => absurd rfl h) ?_
  intro e he h0 ih _
  have hc := ea_c_s W he h0
  have hd := ea_d_s W he h0
  by_cases z : P e = 0
  · rw [z, ea_d_0] at hd
    rw [hd]
    have : (9 : Nat) ^ (0 + 1 - 1) = 1 := by decide
    omega
  · have a := ih z
    have hd' := ea_d_s W (ea_P W he h0) z
    have e1 : ea_d P e - 1 = (ea_d P (P e) - 1) + 1 := by omega
    rw [e1, Nat.pow_succ]
    omega
/-- the order of the codes -/
def rt_H (A : Nat → Nat) (n : Nat) (qs jp : Nat → Nat) : Prop :=
  qs 0 = 0 ∧ (∀ i j, i < j → j < n → qs i < qs j) ∧ (∀ i, 1 ≤ i → i < n → jp i < i ∧ qs i / 9 = qs (jp i) ∧ qs i % 9 ≠ 0) ∧ (∀ i, i < n → A (qs i) ≠ 0) ∧ n ≤ 24 ∧ 1 ≤ n
def rt_F (kn : Nat → Int32) (A qs : Nat → Nat) (i : Nat) : Int32 := if kn (A (qs i)) = 1 then 1 else 0
theorem rt_F01 {kn : Nat → Int32} {A qs : Nat → Nat} {i : Nat} : rt_F kn A qs i = 0 ∨ rt_F kn A qs i = 1 := by
  unfold rt_F
  by_cases h : kn (A (qs i)) = 1
  · rw [if_pos h]; exact Or.inr rfl
  · rw [if_neg h]; exact Or.inl rfl
section
variable {ex pa nm fi kn cn : Nat → Int32} {c : Nat → Nat → Nat} {a n : Nat} {qs jp : Nat → Nat}
theorem rt_stage (S : sa_S kn cn c) (ha : sa_V kn a) (hq : rt_H (sa_w c a) n qs jp) (e0 : ex 0 ≠ 0) (e1 : ∀ e, 1 ≤ e → e < 24 → ex e = 0) (f0 : fi 0 = 0) (f1 : ∀ e, e < 24 → fi e = 0 ∨ fi e = 1) :
    ∀ k, 1 ≤ k → k ≤ n →
    (rl_W (st_u ex (fun _ => vp_nar .boolean 1) k) (st_u pa (fun i => nI (jp i)) k) (st_u nm (fun i => nI (qs i % 9 - 1)) k) (st_u fi (fun i => vp_nar .boolean (rt_F kn (sa_w c a) qs i)) k) ∧
    (∀ i, i < k → ea_c (rl_N (st_u pa (fun i => nI (jp i)) k)) (rl_N (st_u nm (fun i => nI (qs i % 9 - 1)) k)) i = qs i)) ∧ (∀ e, rl_E (st_u ex (fun _ => vp_nar .boolean 1) k) e ↔ e < k) ∧
    (k < n → mk_G (st_u ex (fun _ => vp_nar .boolean 1) k) (st_u pa (fun i => nI (jp i)) k) (st_u nm (fun i => nI (qs i % 9 - 1)) k) (st_u fi (fun i => vp_nar .boolean (rt_F kn (sa_w c a) qs i)) k) (jp k) (qs k % 9 - 1) k) := by
  obtain ⟨q0, q1, q2, q3, q4, q5⟩ := hq
  have hE : ∀ k, 1 ≤ k → k ≤ n → ∀ e, rl_E (st_u ex (fun _ => vp_nar .boolean 1) k) e ↔ e < k := by
    intro k hk hkn e
    unfold rl_E
    by_cases z : e = 0
    · rw [z, st_hi k 0 (Or.inl rfl)]; exact ⟨fun _ => by omega, fun _ => ⟨by omega, e0⟩⟩
    · by_cases w : e < k
      · rw [st_lo k e (by omega) w]; exact ⟨fun _ => w, fun _ => ⟨by omega, by decide⟩⟩
      · rw [st_hi k e (Or.inr (by omega))]
        exact ⟨fun q => absurd (e1 e (by omega) q.1) q.2, fun q => absurd q w⟩
  have G : ∀ k, 1 ≤ k → k < n → (rl_W (st_u ex (fun _ => vp_nar .boolean 1) k) (st_u pa (fun i => nI (jp i)) k) (st_u nm (fun i => nI (qs i % 9 - 1)) k) (st_u fi (fun i => vp_nar .boolean (rt_F kn (sa_w c a) qs i)) k) ∧
      (∀ i, i < k → ea_c (rl_N (st_u pa (fun i => nI (jp i)) k)) (rl_N (st_u nm (fun i => nI (qs i % 9 - 1)) k)) i = qs i)) →
      mk_G (st_u ex (fun _ => vp_nar .boolean 1) k) (st_u pa (fun i => nI (jp i)) k) (st_u nm (fun i => nI (qs i % 9 - 1)) k) (st_u fi (fun i => vp_nar .boolean (rt_F kn (sa_w c a) qs i)) k) (jp k) (qs k % 9 - 1) k := by
    intro k hk hkn ⟨H, hc⟩
    obtain ⟨j1, j2, j3⟩ := q2 k hk hkn
    have hb : rl_E (st_u ex (fun _ => vp_nar .boolean 1) k) (jp k) := (hE k hk (by omega) _).mpr j1
    have up := sa_wup S (Or.inr ha) (show qs k ≠ 0 by have := q1 0 k (by omega) hkn; omega) (q3 k hkn)
    rw [j2] at up
    have hlt := sa_wlt S ha (q3 k hkn)
    refine ⟨hb, ?_, by omega, ?_, ?_, hk, by omega, ?_, ?_⟩
    · by_cases z : jp k = 0
      · rw [z, st_hi k 0 (Or.inl rfl)]; exact f0
      · rw [st_lo k (jp k) (by omega) j1]
        unfold rt_F
        rw [up.2.2, if_neg (by decide)]; exact rb_b0
    · intro e he h0 hp hm
      have he' := (hE k hk (by omega) e).mp he
      have cs := ea_c_s H.1 he h0
      rw [hp, hm, hc e he', hc (jp k) j1] at cs
      have := q1 e k he' hkn
      omega
    · intro hd
      have cb := hc (jp k) j1
      by_cases z : jp k = 0
      · rw [z, ea_d_0] at hd; omega
      · have lo := ea_clo H.1 (jp k) hb z
        rw [hd, cb] at lo
        have : (9 : Nat) ^ (5 - 1) = 6561 := by decide
        omega
    · rw [st_hi k k (Or.inr (Nat.le_refl _))]; exact e1 k hk (by omega)
    · intro j h1 h2
      rw [st_lo k j h1 h2]; decide
  have main : ∀ k, 1 ≤ k → k ≤ n → (rl_W (st_u ex (fun _ => vp_nar .boolean 1) k) (st_u pa (fun i => nI (jp i)) k) (st_u nm (fun i => nI (qs i % 9 - 1)) k) (st_u fi (fun i => vp_nar .boolean (rt_F kn (sa_w c a) qs i)) k) ∧
      (∀ i, i < k → ea_c (rl_N (st_u pa (fun i => nI (jp i)) k)) (rl_N (st_u nm (fun i => nI (qs i % 9 - 1)) k)) i = qs i)) := by
    intro k
    induction k with
    | zero => intro h; omega
    | succ k ih =>
      intro _ hkn
      by_cases z : k = 0
      · subst z
        have hE1 := hE 1 (by omega) (by omega)
        have only : ∀ e, rl_E (st_u ex (fun _ => vp_nar .boolean 1) 1) e → e = 0 := fun e he => by have := (hE1 e).mp he; omega
        refine ⟨⟨⟨(hE1 0).mpr (by omega), ?_, fun e he => he.1, fun e he h0 => absurd (only e he) h0, fun e e' he _ h0 => absurd (only e he) h0, fun e he => ?_⟩, fun e he h0 => absurd (only e he) h0, ?_⟩, ?_⟩
        · show st_u fi _ 1 0 = 0
          rw [st_1]; exact f0
        · rw [only e he, ea_dF_0]; omega
        · intro e he; rw [st_1]; exact f1 e he
        · intro i hi
          have : i = 0 := by omega
          rw [this, ea_c_0, q0]
      · have hs := ih (by omega) (by omega)
        have g := G k (by omega) (by omega) hs
        obtain ⟨W', kE⟩ := mk_W hs.1 g (rt_F01 (kn := kn) (A := sa_w c a) (qs := qs) (i := k))
        obtain ⟨j1, j2, j3⟩ := q2 k (by omega) (by omega)
        have cc := mk_c hs.1.1 W'.1 (e0 := k) (b := jp k) (m0 := qs k % 9 - 1) (fun q => q.2 g.2.2.2.2.2.2.2.1) g.1 kE (fun e => rb_Nu (by omega) e) (fun e => rb_Nu (by omega) e)
        rw [st_s (by omega), st_s (by omega), st_s (by omega), st_s (by omega)]
        refine ⟨W', ?_⟩
        intro i hi
        by_cases w : i = k
        · rw [w, cc.2, hs.2 (jp k) j1]; omega
        · rw [cc.1 i ((hE k (by omega) (by omega) i).mpr (by omega))]; exact hs.2 i (by omega)
  intro k hk hkn
  exact ⟨main k hk hkn, hE k hk hkn, fun h => G k hk h (main k hk hkn)⟩
end
section
variable {fc ec : Int32} {ex pa nm fi co no kn cn ch nx bk mk dr sn lf rt wh fd : Nat → Int32}
theorem xw_rs11 {post : Int32 → SX → Prop} {t : Nat} {ex0 : Nat → Int32} (ht : t < 3) : ∀ n i ex, 1 ≤ i → i ≤ 24 → 24 < n + i → (∀ e, (e = 0 ∨ 24 ≤ e) → ex e = ex0 e) → (∀ e, 1 ≤ e → e < i → ex e = 0) → (∀ e, i ≤ e → e < 24 → ex e = ex0 e) →
    (∃ n46, wX_restore_46 post n46 1 0 fc ec (fun e => if 1 ≤ e ∧ e < 24 then 0 else ex0 e) pa nm fi co (upd no 0 (sn t)) kn cn ch nx bk mk dr sn lf rt wh fd) → wX_restore_11 post (nI t) fc ec n (nI i) ex pa nm fi co no kn cn ch nx bk mk dr sn lf rt wh fd := by
  intro n
  induction n with
  | zero => intro i ex _ h1 h2; omega
  | succ n ih =>
    intro i ex h0 h1 h2 g1 g2 g3 hp
    refine pk_le 24 i (fun h => ?_) (fun h => ?_)
    · have e1 : (fun e => if 1 ≤ e ∧ e < 24 then 0 else ex0 e) = ex := by
        funext e
        by_cases q : 1 ≤ e ∧ e < 24
        · rw [if_pos q, g2 e q.1 (by omega)]
        · rw [if_neg q, g1 e (by omega)]
      rw [e1] at hp
      refine ⟨pk_in t 3 ht, nm_r (e' := upd no 0 (sn t)) (by rw [nI_clamp (by omega)]) hp⟩
    · refine ⟨pk_in i 24 h, nm_r (e' := upd ex i 0) (by rw [nI_clamp (by omega), rb_b0]) (nm_r (nI_1 i) (ih (i + 1) _ (by omega) (by omega) (by omega) ?_ ?_ ?_ hp))⟩
      · intro e he; rw [pk_un (by omega)]; exact g1 e he
      · intro e h3 h4
        by_cases q : e = i
        · rw [q, pk_us]
        · rw [pk_un q]; exact g2 e h3 (by omega)
      · intro e h3 h4; rw [pk_un (by omega)]; exact g3 e (by omega) h4
theorem xw_setUp {post : SX → Prop} {e b m x : Nat} (he : e < 24) (hx : x < 128)
    (hp : post (fc, ec, (upd ex e (vp_nar .boolean 1)), (upd pa e (nI b)), (upd nm e (nI m)), (upd fi e (vp_nar .boolean (if kn x = 1 then 1 else 0))), (upd co e (cn x)), (upd no e (nI x)), kn, cn, ch, nx, bk, mk, dr, sn, lf, rt, wh, fd)) : wpX_setUp post (fc, ec, ex, pa, nm, fi, co, no, kn, cn, ch, nx, bk, mk, dr, sn, lf, rt, wh, fd) (nI e) (nI b) (nI m) (nI x) := by
  unfold wpX_setUp wX_setUp_50
  dsimp only
  rw [nI_clamp (show e < 2 ^ 31 by omega), nI_clamp (show x < 2 ^ 31 by omega)]
  have v := pk_in (x := nI e) e 24 he
  have w := pk_in (x := nI x) x 128 hx
  refine ⟨v, nm_e ⟨v, nm_e ⟨v, nm_e ⟨v, nm_e ⟨w, br_c (fun q => ?_) (fun q => ?_)⟩⟩⟩⟩⟩
  · rw [if_pos q] at hp
    exact ⟨v, nm_e ⟨w, v, nm_e hp⟩⟩
  · rw [if_neg q] at hp
    exact ⟨v, nm_e ⟨w, v, nm_e hp⟩⟩
theorem xw_rs68 (S : rs_S kn cn ch) {post : Int32 → SX → Prop} {J : Int32 → Int32 → Int32 → Int32 → (Nat → Int32) → (Nat → Int32) → (Nat → Int32) → (Nat → Int32) → (Nat → Int32) → (Nat → Int32) → (Nat → Int32) → (Nat → Int32) → (Nat → Int32) → (Nat → Int32) → (Nat → Int32) → (Nat → Int32) → (Nat → Int32) → (Nat → Int32) → (Nat → Int32) → (Nat → Int32) → (Nat → Int32) → (Nat → Int32) → Prop}
    {a k nd : Nat} (ha : sa_V kn a) (hB : lc_B (sa_w (rs_c ch) a)) {f0 : Nat → Nat} :
    ∀ (n m qn : Nat) (no : Nat → Int32) (qs jp : Nat → Nat), m ≤ 8 → 8 < n + m → k < qn → nd = sa_w (rs_c ch) a (qs k) → lc_I (sa_w (rs_c ch) a) (fun _ => 2) cn no fd qn 0 k m qs f0 → (∀ i, 1 ≤ i → i < qn → jp i < i ∧ qs i / 9 = qs (jp i) ∧ qs i % 9 ≠ 0) →
    (∀ (qn' : Nat) (no' : Nat → Int32) (qs' jp' : Nat → Nat), k < qn' → lc_I (sa_w (rs_c ch) a) (fun _ => 2) cn no' fd qn' 0 (k + 1) 0 qs' f0 → (∀ i, 1 ≤ i → i < qn' → jp' i < i ∧ qs' i / 9 = qs' (jp' i) ∧ qs' i % 9 ≠ 0) →
      J (nI qn') (nI (k + 1)) fc ec (st_u ex (fun _ => vp_nar .boolean 1) qn') (st_u pa (fun i => nI (jp' i)) qn') (st_u nm (fun i => nI (qs' i % 9 - 1)) qn') (st_u fi (fun i => vp_nar .boolean (rt_F kn (sa_w (rs_c ch) a) qs' i)) qn') (st_u co (fun i => cn (sa_w (rs_c ch) a (qs' i))) qn') no' kn cn ch nx bk mk dr sn lf rt wh fd) →
    wX_restore_68 post J (nI k) (nI nd) n (nI qn) (nI m) fc ec (st_u ex (fun _ => vp_nar .boolean 1) qn) (st_u pa (fun i => nI (jp i)) qn) (st_u nm (fun i => nI (qs i % 9 - 1)) qn) (st_u fi (fun i => vp_nar .boolean (rt_F kn (sa_w (rs_c ch) a) qs i)) qn) (st_u co (fun i => cn (sa_w (rs_c ch) a (qs i))) qn) no kn cn ch nx bk mk dr sn lf rt wh fd := by
  intro n
  induction n with
  | zero => intro m qn no qs jp h1 h2; omega
  | succ n ih =>
    intro m qn no qs jp h1 h2 hk hnd hI hj hp
    have hqn := lc_qn hI hB
    refine pk_le 8 m (fun h => ?_) (fun h => ?_)
    · have z : m = 8 := by omega
      rw [z] at hI
      exact nm_r (nI_1 k) (hp qn no qs jp hk (lc_next hI hk) hj)
    · have vA := sa_wV S.1 (Or.inr ha) (qs k)
      have vA0 := (hI.1 k hk).2
      have vV := vA.resolve_left vA0
      have n128 : nd < 128 := by rw [hnd]; exact vV.2.1
      have at1 := rs_at S n128 h
      have eA : rs_c ch nd m = sa_w (rs_c ch) a (9 * qs k + m + 1) := by rw [hnd]; exact (sa_w_s h).symm
      rw [rb_8, nI_clamp (show 8 * nd + m < 2 ^ 31 by omega)]
      refine ⟨pk_in (8 * nd + m) 1024 (by omega), nm_r (e' := nI (sa_w (rs_c ch) a (9 * qs k + m + 1))) (by rw [at1.1, eA]) ?_⟩
      have lA : sa_w (rs_c ch) a (9 * qs k + m + 1) < 128 := by rw [← eA]; exact at1.2
      refine pk_eq _ 0 (fun w => nm_r (nI_1 m) ?_) (fun w => ?_)
      · exact ih (m + 1) qn no qs jp (by omega) (by omega) hk hnd (lc_skip hI h w) hj hp
      · have hI' := lc_push hI hk h w (show (2 : Int32) ≠ 1 by decide)
        have hqn' := lc_qn hI' hB
        refine pk_le 24 qn (fun q => absurd q (by omega)) (fun _ => ?_)
        refine xw_setUp (by omega) lA (nm_r (nI_1 qn) (nm_r (nI_1 m) ?_))
        have nxt := ih (m + 1) (qn + 1) _ (fun i => if i = qn then 9 * qs k + m + 1 else qs i) (fun i => if i = qn then k else jp i) (by omega) (by omega) (by omega) (by rw [hnd, if_neg (by omega)]) hI' (by
          intro i hi1 hi2
          by_cases q : i = qn
          · rw [q, if_pos rfl, if_pos rfl, if_neg (by omega)]
            refine ⟨hk, by omega, by omega⟩
          · have := hj i hi1 (by omega)
            rw [if_neg q, if_neg q, if_neg (by omega)]
            exact this) hp
        rw [st_s (by omega), st_s (by omega), st_s (by omega), st_s (by omega), st_s (by omega)] at nxt
        have c1 : st_u pa (fun i => nI (if i = qn then k else jp i)) qn = st_u pa (fun i => nI (jp i)) qn := st_c qn (fun i _ q => by rw [if_neg (by omega)])
        have c2 : st_u nm (fun i => nI ((if i = qn then 9 * qs k + m + 1 else qs i) % 9 - 1)) qn = st_u nm (fun i => nI (qs i % 9 - 1)) qn := st_c qn (fun i _ q => by rw [if_neg (by omega)])
        have c3 : st_u fi (fun i => vp_nar .boolean (rt_F kn (sa_w (rs_c ch) a) (fun i => if i = qn then 9 * qs k + m + 1 else qs i) i)) qn = st_u fi (fun i => vp_nar .boolean (rt_F kn (sa_w (rs_c ch) a) qs i)) qn := st_c qn (fun i _ q => by
          have : rt_F kn (sa_w (rs_c ch) a) (fun i => if i = qn then 9 * qs k + m + 1 else qs i) i = rt_F kn (sa_w (rs_c ch) a) qs i := by
            have e : (if i = qn then 9 * qs k + m + 1 else qs i) = qs i := if_neg (by omega)
            show (if kn (sa_w (rs_c ch) a (if i = qn then 9 * qs k + m + 1 else qs i)) = 1 then (1 : Int32) else 0) = (if kn (sa_w (rs_c ch) a (qs i)) = 1 then 1 else 0)
            rw [e]
          rw [this])
        have c4 : st_u co (fun i => cn (sa_w (rs_c ch) a (if i = qn then 9 * qs k + m + 1 else qs i))) qn = st_u co (fun i => cn (sa_w (rs_c ch) a (qs i))) qn := st_c qn (fun i _ q => by rw [if_neg (by omega)])
        rw [c1, c2, c3, c4] at nxt
        have v1 : (if qn = qn then k else jp qn) = k := if_pos rfl
        have v2 : (if qn = qn then 9 * qs k + m + 1 else qs qn) = 9 * qs k + m + 1 := if_pos rfl
        have v3 : rt_F kn (sa_w (rs_c ch) a) (fun i => if i = qn then 9 * qs k + m + 1 else qs i) qn = (if kn (sa_w (rs_c ch) a (9 * qs k + m + 1)) = 1 then 1 else 0) := by
          show (if kn (sa_w (rs_c ch) a (if qn = qn then 9 * qs k + m + 1 else qs qn)) = 1 then (1 : Int32) else 0) = _
          rw [v2]
        rw [v3, v1, v2, show (9 * qs k + m + 1) % 9 - 1 = m by omega] at nxt
        exact nxt
end
end
section
/-! restore, both sides -/
section
variable {fc ec : Int32} {ex pa nm fi co no kn cn ch nx bk mk dr sn lf rt wh fd : Nat → Int32}
theorem xw_rs46 (S : rs_S kn cn ch) {post : Int32 → SX → Prop} {a : Nat} (ha : sa_V kn a) (hB : lc_B (sa_w (rs_c ch) a)) {f0 : Nat → Nat} :
    ∀ (n k qn : Nat) (no : Nat → Int32) (qs jp : Nat → Nat), k ≤ qn → 24 < n + k → 1 ≤ qn → lc_I (sa_w (rs_c ch) a) (fun _ => 2) cn no fd qn 0 k 0 qs f0 → (∀ i, 1 ≤ i → i < qn → jp i < i ∧ qs i / 9 = qs (jp i) ∧ qs i % 9 ≠ 0) →
    (∀ (qn' : Nat) (no' : Nat → Int32) (qs' jp' : Nat → Nat), 1 ≤ qn' → lc_I (sa_w (rs_c ch) a) (fun _ => 2) cn no' fd qn' 0 qn' 0 qs' f0 → (∀ i, 1 ≤ i → i < qn' → jp' i < i ∧ qs' i / 9 = qs' (jp' i) ∧ qs' i % 9 ≠ 0) →
      post (nI qn' - 1) (fc, (nI qn'), (st_u ex (fun _ => vp_nar .boolean 1) qn'), (st_u pa (fun i => nI (jp' i)) qn'), (st_u nm (fun i => nI (qs' i % 9 - 1)) qn'), (st_u fi (fun i => vp_nar .boolean (rt_F kn (sa_w (rs_c ch) a) qs' i)) qn'), (st_u co (fun i => cn (sa_w (rs_c ch) a (qs' i))) qn'), no', kn, cn, ch, nx, bk, mk, dr, sn, lf, rt, wh, fd)) →
    wX_restore_46 post n (nI qn) (nI k) fc ec (st_u ex (fun _ => vp_nar .boolean 1) qn) (st_u pa (fun i => nI (jp i)) qn) (st_u nm (fun i => nI (qs i % 9 - 1)) qn) (st_u fi (fun i => vp_nar .boolean (rt_F kn (sa_w (rs_c ch) a) qs i)) qn) (st_u co (fun i => cn (sa_w (rs_c ch) a (qs i))) qn) no kn cn ch nx bk mk dr sn lf rt wh fd := by
  intro n
  induction n with
  | zero => intro k qn no qs jp h1 h2 _ hI; have := lc_qn hI hB; omega
  | succ n ih =>
    intro k qn no qs jp h1 h2 hq hI hj hp
    have hqn := lc_qn hI hB
    refine pk_le 24 k (fun h => ?_) (fun h => pk_le qn k (fun h' => ?_) (fun h' => ?_))
    · have z : k = qn := by omega
      subst z
      exact hp k no qs jp hq hI hj
    · have z : k = qn := by omega
      subst z
      exact hp k no qs jp hq hI hj
    · refine ⟨pk_in k 24 h, nm_r (e' := nI (sa_w (rs_c ch) a (qs k))) (by rw [nI_clamp (by omega)]; exact (hI.1 k h').1) ⟨9, ?_⟩⟩
      refine xw_rs68 S ha hB 9 0 qn no qs jp (by omega) (by omega) h' rfl hI hj ?_
      intro qn' no' qs' jp' hk hI' hj'
      exact ih (k + 1) qn' no' qs' jp' hk (by omega) (by omega) hI' hj' hp
end
theorem rt_all {c : Nat → Nat → Nat} {a : Nat} {C no fd : Nat → Int32} {qn : Nat} {qs f0 : Nat → Nat} (c0 : ∀ m, m < 8 → c 0 m = 0) (hq : 1 ≤ qn) (h : lc_I (sa_w c a) (fun _ => 2) C no fd qn 0 qn 0 qs f0) : ∀ p, sa_w c a p ≠ 0 → ∃ i, i < qn ∧ qs i = p := by
  obtain ⟨h1, h2, h3, h4, h5, h6, h7⟩ := h
  refine sa_ind ?_ ?_ ?_
  · intro _; exact ⟨0, hq, h2⟩
  · intro p hp h9 hne; exact absurd (sa_w_9 hp h9) hne
  · intro q m hm ih hne
    have hq' : sa_w c a q ≠ 0 := by
      intro z
      rw [sa_w_s hm, z, c0 m hm] at hne
      exact hne rfl
    obtain ⟨j, hj, ej⟩ := ih hq'
    rw [← ej] at hne ⊢
    exact (h5 j m hj hm (Or.inl hj) hne).2 (show (2 : Int32) ≠ 1 by decide)
section
variable {ex fi pa nm co ym ps fs cs ct : Nat → Int32}
theorem yw_rs12 {post : Int32 → SY → Prop} {t : Nat} {ex0 : Nat → Int32} : ∀ n i ex, 1 ≤ i → i ≤ 24 → 24 < n + i → (∀ e, (e = 0 ∨ 24 ≤ e) → ex e = ex0 e) → (∀ e, 1 ≤ e → e < i → ex e = 0) → (∀ e, i ≤ e → e < 24 → ex e = ex0 e) →
    (∃ n35, wY_restore_35 post (nI t) n35 0 0 (fun e => if 1 ≤ e ∧ e < 24 then 0 else ex0 e) fi pa nm co ym ps fs cs ct) → wY_restore_12 post (nI t) n (nI i) ex fi pa nm co ym ps fs cs ct := by
  intro n
  induction n with
  | zero => intro i ex _ h1 h2; omega
  | succ n ih =>
    intro i ex h0 h1 h2 g1 g2 g3 hp
    refine pk_le 24 i (fun h => ?_) (fun h => ?_)
    · have e1 : (fun e => if 1 ≤ e ∧ e < 24 then 0 else ex0 e) = ex := by
        funext e
        by_cases q : 1 ≤ e ∧ e < 24
        · rw [if_pos q, g2 e q.1 (by omega)]
        · rw [if_neg q, g1 e (by omega)]
      rw [e1] at hp
      exact hp
    · refine ⟨pk_in i 24 h, nm_r (e' := upd ex i 0) (by rw [nI_clamp (by omega), rb_b0]) (nm_r (nI_1 i) (ih (i + 1) _ (by omega) (by omega) (by omega) ?_ ?_ ?_ hp))⟩
      · intro e he; rw [pk_un (by omega)]; exact g1 e he
      · intro e h3 h4
        by_cases q : e = i
        · rw [q, pk_us]
        · rw [pk_un q]; exact g2 e h3 (by omega)
      · intro e h3 h4; rw [pk_un (by omega)]; exact g3 e (by omega) h4
/-- above: x is -1 and nothing is above, or the least one's place -/
def ab_I (pt : Nat → Nat) (last i : Nat) (x : Int32) : Prop :=
  (x = -1 ∧ ∀ j, j < i → pt j ≤ last) ∨ (∃ b, x = nI b ∧ b < i ∧ last < pt b ∧ ∀ j, j < i → last < pt j → pt b ≤ pt j)
theorem yw_above {post : Int32 → Prop} {t na last : Nat} {pt : Nat → Nat} (ht : t < 4) (hct : ct t = nI na) (hna : na ≤ 23) (hl : last < 59049) (hpt : ∀ j, j < na → ps (24 * t + j) = nI (pt j) ∧ pt j < 59049)
    (hp : ∀ x, ab_I pt last na x → post x) : wpY_above post (ex, fi, pa, nm, co, ym, ps, fs, cs, ct) (nI t) (nI last) := by
  have key : ∀ n i x, i ≤ na → na < n + i → ab_I pt last i x → wY_above_5 post (nI t) (nI last) ex fi pa nm co ym ps fs cs ct n x (nI i) := by
    intro n
    induction n with
    | zero => intro i x h1 h2; omega
    | succ n ih =>
      intro i x h1 h2 hI
      refine ⟨pk_in t 4 ht, pk_le na i (fun h => ?_) (fun h => ?_) (by rw [nI_clamp (by omega)]; exact hct)⟩
      · have z : i = na := by omega
        subst z; exact hp x hI
      · refine pk_le 24 i (fun q => absurd q (by omega)) (fun _ => ?_)
        obtain ⟨e1, e2⟩ := hpt i h
        have vi := pk_in (x := nI (24 * t + i)) (24 * t + i) 96 (by omega)
        rw [rb_24, nI_clamp (show 24 * t + i < 2 ^ 31 by omega)]
        refine ⟨vi, nm_r e1 (pk_le (pt i) last (fun q => nm_r (nI_1 i) (ih (i + 1) x (by omega) (by omega) ?_)) (fun q => ?_))⟩
        · rcases hI with ⟨a1, a2⟩ | ⟨b, a1, a2, a3, a4⟩
          · refine Or.inl ⟨a1, fun j hj => ?_⟩
            by_cases w : j = i
            · rw [w]; exact q
            · exact a2 j (by omega)
          · refine Or.inr ⟨b, a1, by omega, a3, fun j hj hlt => ?_⟩
            by_cases w : j = i
            · rw [w] at hlt; omega
            · exact a4 j (by omega) hlt
        · have new : (∀ j, j < i → last < pt j → pt i ≤ pt j) → ab_I pt last (i + 1) (nI i) := by
            intro hh
            refine Or.inr ⟨i, rfl, by omega, q, fun j hj hlt => ?_⟩
            by_cases w : j = i
            · rw [w]; exact Nat.le_refl _
            · exact hh j (by omega) hlt
          rcases hI with ⟨a1, a2⟩ | ⟨b, a1, a2, a3, a4⟩
          · refine br_t (by rw [a1]; exact rb_m1') (nm_r (nI_1 i) (ih (i + 1) _ (by omega) (by omega) (new (fun j hj hlt => ?_))))
            have := a2 j hj; omega
          · subst a1
            obtain ⟨f1, f2⟩ := hpt b (by omega)
            have vb := pk_in (x := nI (24 * t + b)) (24 * t + b) 96 (by omega)
            refine br_f (nI_pos (by omega)) ?_
            rw [rb_24, nI_clamp (show 24 * t + b < 2 ^ 31 by omega), f1]
            refine ⟨vb, pk_le (pt b) (pt i) (fun w => nm_r (nI_1 i) (ih (i + 1) _ (by omega) (by omega) ?_)) (fun w => nm_r (nI_1 i) (ih (i + 1) _ (by omega) (by omega) (new (fun j hj hlt => ?_))))⟩
            · refine Or.inr ⟨b, rfl, by omega, a3, fun j hj hlt => ?_⟩
              by_cases r : j = i
              · rw [r]; exact w
              · exact a4 j (by omega) hlt
            · have := a4 j hj hlt; omega
  exact ⟨na + 1, key (na + 1) 0 (-1) (by omega) (by omega) (Or.inl ⟨rfl, fun j hj => absurd hj (by omega)⟩)⟩
theorem yw_rs35 {kn cn : Nat → Int32} {c : Nat → Nat → Nat} {a na t : Nat} {qs jp : Nat → Nat} {post : Int32 → SY → Prop} (S : sa_S kn cn c) (ha : sa_V kn a) (ht : t < 4) (hct : ct t = nI na) (T : sn_T kn cn c a na ps fs cs (24 * t))
    (hq : rt_H (sa_w c a) (na + 1) qs jp) (hall : ∀ p, sa_w c a p ≠ 0 → ∃ i, i < na + 1 ∧ qs i = p) (e0 : ex 0 ≠ 0) (e1 : ∀ e, 1 ≤ e → e < 24 → ex e = 0) (f0 : fi 0 = 0) (f1 : ∀ e, e < 24 → fi e = 0 ∨ fi e = 1)
    (hp : post (nI na) ((st_u ex (fun _ => vp_nar .boolean 1) (na + 1)), (st_u fi (fun i => vp_nar .boolean (rt_F kn (sa_w c a) qs i)) (na + 1)), (st_u pa (fun i => nI (jp i)) (na + 1)), (st_u nm (fun i => nI (qs i % 9 - 1)) (na + 1)), (st_u co (fun i => cn (sa_w c a (qs i))) (na + 1)), ym, ps, fs, cs, ct)) :
    ∀ n k, k ≤ na → na < n + k → wY_restore_35 post (nI t) n (nI (qs k)) (nI k) (st_u ex (fun _ => vp_nar .boolean 1) (k + 1)) (st_u fi (fun i => vp_nar .boolean (rt_F kn (sa_w c a) qs i)) (k + 1)) (st_u pa (fun i => nI (jp i)) (k + 1)) (st_u nm (fun i => nI (qs i % 9 - 1)) (k + 1)) (st_u co (fun i => cn (sa_w c a (qs i))) (k + 1)) ym ps fs cs ct := by
  have stage := rt_stage (pa := pa) (nm := nm) S ha hq e0 e1 f0 f1
  obtain ⟨q0, q1, q2, q3, q4, q5⟩ := hq
  have hna := T.2.2.1
  have q59 : ∀ i, i < na + 1 → qs i < 59049 := fun i hi => sa_wlt S ha (q3 i hi)
  have hpt : ∀ j, j < na → ps (24 * t + j) = nI (rl_N ps (24 * t + j)) ∧ rl_N ps (24 * t + j) < 59049 := by
    intro j hj
    obtain ⟨p, a1, a2, a3, _, _⟩ := T.2.2.2.1 j hj
    have := sa_wlt S ha a3
    rw [rb_N a2 (by omega)]
    exact ⟨a2, this⟩
  intro n
  induction n with
  | zero => intro k h1 h2; omega
  | succ n ih =>
    intro k h1 h2
    refine ⟨pk_in t 4 ht, pk_le na k (fun h => ?_) (fun h => ?_) (by rw [nI_clamp (by omega)]; exact hct)⟩
    · have z : k = na := by omega
      subst z
      refine ⟨pk_in t 4 ht, ?_⟩
      rw [nI_clamp (by omega), hct]
      exact hp
    · refine pk_le 24 k (fun q => absurd q (by omega)) (fun _ => ?_)
      have k59 := q59 k (by omega)
      refine yw_above ht hct hna k59 hpt ?_
      intro x hx
      have hlt := q1 k (k + 1) (by omega) (by omega)
      have kk0 : qs (k + 1) ≠ 0 := by omega
      obtain ⟨j0, hj0, ej0⟩ := T.2.2.2.2.1 (qs (k + 1)) kk0 (q3 (k + 1) (by omega))
      have b59 := q59 (k + 1) (by omega)
      have ej0' : rl_N ps (24 * t + j0) = qs (k + 1) := rb_N ej0 (by omega)
      have hx' : (x = -1 ∧ ∀ j, j < na → rl_N ps (24 * t + j) ≤ qs k) ∨ (∃ b, x = nI b ∧ b < na ∧ qs k < rl_N ps (24 * t + b) ∧ ∀ j, j < na → qs k < rl_N ps (24 * t + j) → rl_N ps (24 * t + b) ≤ rl_N ps (24 * t + j)) := hx
      rcases hx' with ⟨x1, x2⟩ | ⟨b, x1, x2, x3, x4⟩
      · have := x2 j0 hj0; omega
      · subst x1
        obtain ⟨p, a1, a2, a3, a4, a5⟩ := T.2.2.2.1 b x2
        have p59 := sa_wlt S ha a3
        have eb : rl_N ps (24 * t + b) = p := rb_N a2 (by omega)
        have hle := x4 j0 hj0 (by omega)
        obtain ⟨i, hi, ei⟩ := hall p a3
        have hik : k < i := by
          rcases Nat.lt_or_ge k i with w | w
          · exact w
          · rcases Nat.lt_or_ge i k with w' | w'
            · have := q1 i k w' (by omega); omega
            · have e : i = k := by omega
              rw [e] at ei; omega
        have ep : p = qs (k + 1) := by
          rcases Nat.lt_or_ge (k + 1) i with w | w
          · have := q1 (k + 1) i w hi; omega
          · have e : i = k + 1 := by omega
            rw [e] at ei; exact ei.symm
        subst ep
        obtain ⟨j1, j2, j3⟩ := q2 (k + 1) (by omega) (by omega)
        obtain ⟨⟨HW, hc⟩, hE, hG⟩ := stage (k + 1) (by omega) (by omega)
        have G := hG (by omega)
        have vb := pk_in (x := nI (24 * t + b)) (24 * t + b) 96 (by omega)
        refine br_f (nI_pos (by omega)) ?_
        rw [rb_24, nI_clamp (show 24 * t + b < 2 ^ 31 by omega)]
        refine ⟨vb, nm_r a2 ⟨by decide, ?_⟩⟩
        have ediv : nI (qs (k + 1)) / 9 = nI (qs (k + 1) / 9) := pk_div (d := 9) (by omega) (by omega) (by omega)
        have erem : nI (qs (k + 1)) - nI (qs (k + 1) / 9) * 9 - 1 = nI (qs (k + 1) % 9 - 1) := by
          have r1 : nI (qs (k + 1)) - nI (qs (k + 1)) / 9 * 9 = nI (qs (k + 1) % 9) := pk_rem (d := 9) (by omega) (by omega) (by omega)
          rw [ediv] at r1
          rw [r1]
          exact pk_sub (b := 1) (by omega)
        rw [ediv, erem, a4, a5]
        refine yw_find HW (fun e he q => ?_) (fun hh => ?_)
        · have he' := (hE e).mp he
          rw [hc e he', j2] at q
          have c1 := q59 e (by omega)
          have c2 := q59 (jp (k + 1)) (by omega)
          have e2 : qs e = qs (jp (k + 1)) := (nI_eq (by omega) (by omega)).mp q
          have e3 : e = jp (k + 1) := cp_mi q1 e (jp (k + 1)) (by omega) (by omega) e2
          subst e3
          refine ⟨by decide, vb, vb, yw_make_ok HW G (nm_r (nI_1 k) ?_)⟩
          have nxt := ih (k + 1) (by omega) (by omega)
          rw [st_s (k := k + 1) (by omega), st_s (k := k + 1) (by omega), st_s (k := k + 1) (by omega), st_s (k := k + 1) (by omega), st_s (k := k + 1) (by omega)] at nxt
          exact nxt
        · refine absurd ?_ (hh (jp (k + 1)) ((hE _).mpr j1))
          rw [hc _ j1, j2]
end
theorem ct_lt {f : Nat → Int32} {n : Nat} : ∀ k, (∀ j, j < k → (f j ≠ 0 ↔ j < n)) → k ≤ n → ct_n f k = k := by
  intro k h hk
  exact ct_all k (fun j hj => (h j hj).mpr (by omega))
theorem ct_ge {f : Nat → Int32} {n : Nat} : ∀ d, (∀ j, j < n + d → (f j ≠ 0 ↔ j < n)) → ct_n f (n + d) = n := by
  intro d
  induction d with
  | zero => intro h; exact ct_lt n h (Nat.le_refl _)
  | succ d ih =>
    intro h
    have z : f (n + d) = 0 := Classical.not_not.mp (fun q => by have := (h (n + d) (by omega)).mp q; omega)
    rw [← Nat.add_assoc, ct_z z]
    exact ih (fun j hj => h j (by omega))
theorem i_vc_restore {k : Nat} {u : SX} {v : SY} (I : i_Rel k u v) (hk : k + 4 ≤ 2048) (v1 : Int32) : wpX_restore (fun r u' => wpY_restore (fun r' v' => r' = r ∧ i_Rel (k + 4) u' v') v v1) u v1 := by
  refine ir_el (P := fun u v => wpX_restore (fun r u' => wpY_restore (fun r' v' => r' = r ∧ i_Rel (k + 4) u' v') v v1) u v1) ?_ I
  intro fc ec ex pa nm fi co no kn cn ch nx bk mk dr sn lf rt wh fd ym ps fs cs ct R
  unfold wpX_restore wpY_restore
  dsimp only
  rcases rl_shot v1 with ⟨t, ht, rfl⟩ | hb
  · obtain ⟨H, he, hI, hT⟩ := R
    obtain ⟨na, ca, T⟩ := hT t ht
    have S := hI.1
    have hB := lc_T S.1 T
    have hna := T.2.2.1
    have esn : sn t = nI (rl_N sn t) := hI.2.2.2.2.2 t ht
    have F0 : fi 0 = 0 := H.1.2.1
    have E0 : (fun e => if 1 ≤ e ∧ e < 24 then (0 : Int32) else ex e) 0 ≠ 0 := by
      show (if 1 ≤ 0 ∧ 0 < 24 then (0 : Int32) else ex 0) ≠ 0
      rw [if_neg (by omega)]; exact H.1.1.2
    have E1 : ∀ e, 1 ≤ e → e < 24 → (fun e => if 1 ≤ e ∧ e < 24 then (0 : Int32) else ex e) e = 0 := by
      intro e h1 h2
      show (if 1 ≤ e ∧ e < 24 then (0 : Int32) else ex e) = 0
      rw [if_pos ⟨h1, h2⟩]
    refine xs_t ht (br_f (by decide) ⟨24, xw_rs11 (ex0 := ex) ht 24 1 ex (by omega) (by omega) (by omega) (fun _ _ => rfl) (fun e h1 h2 => absurd h2 (by omega)) (fun _ _ _ => rfl) ⟨25, ?_⟩⟩)
    have start := xw_rs46 (fc := fc) (ec := ec) (ex := fun e => if 1 ≤ e ∧ e < 24 then 0 else ex e) (pa := pa) (nm := nm) (fi := fi) (co := co) (nx := nx) (bk := bk) (mk := mk) (dr := dr) (sn := sn) (lf := lf) (rt := rt) (wh := wh) (fd := fd)
      (post := fun r u' => wpY_badShot (fun r_1 => (((r_1 = 0 → (∃ n12 : Nat, wY_restore_12 (fun r' v' => r' = r ∧ i_Rel (k + 4) u' v') (nI t) n12 1 ex fi pa nm co ym ps fs cs ct)) ∧ (¬ r_1 = 0 → ((-1) = r ∧ i_Rel (k + 4) u' (ex, fi, pa, nm, co, ym, ps, fs, cs, ct)))))) (ex, fi, pa, nm, co, ym, ps, fs, cs, ct) (nI t))
      S T.1 hB (f0 := fun _ => 0) 25 0 1 (upd no 0 (sn t)) (fun _ => 0) (fun _ => 0) (by omega) (by omega) (by omega) (by
        refine ⟨fun i hi => ?_, rfl, fun i j _ hj => absurd hj (by omega), fun _ i _ => Nat.zero_le _, fun j n hj hn hc => absurd hc (by omega), fun i hi => absurd hi (by omega), fun i j _ hj => absurd hj (by omega)⟩
        have e : i = 0 := by omega
        subst e
        rw [pk_us, sa_w_0]
        exact ⟨esn, T.1.1⟩) (fun i h1 h2 => absurd h2 (by omega)) (by
        intro qn no' qs jp hq hL hj
        have hqn := lc_qn hL hB
        have hall := rt_all S.1.2.1 hq hL
        have hqH : rt_H (sa_w (rs_c ch) (rl_N sn t)) qn qs jp := ⟨hL.2.1, hL.2.2.1, hj, fun i hi => (hL.1 i hi).2, hqn, hq⟩
        have q59 : ∀ i, i < qn → qs i < 59049 := fun i hi => sa_wlt S.1 T.1 (hL.1 i hi).2
        have hcard : qn = na + 1 := by
          have l1 : qn - 1 ≤ na := by
            refine pg_i (fun j => rl_N ps (24 * t + j)) (fun i => qs (i + 1)) na (qn - 1) ?_ ?_
            · intro i hi
              have := hL.2.2.1 0 (i + 1) (by omega) (by omega)
              obtain ⟨j, hj', ej⟩ := T.2.2.2.2.1 (qs (i + 1)) (by omega) (hL.1 (i + 1) (by omega)).2
              have := q59 (i + 1) (by omega)
              exact ⟨j, hj', rb_N ej (by omega)⟩
            · intro i j hi hj' e
              have := cp_mi hL.2.2.1 (i + 1) (j + 1) (by omega) (by omega) e
              omega
          have l2 : na ≤ qn - 1 := by
            refine pg_i (fun j => qs (j + 1)) (fun i => rl_N ps (24 * t + i)) (qn - 1) na ?_ ?_
            · intro i hi
              obtain ⟨p, a1, a2, a3, _, _⟩ := T.2.2.2.1 i hi
              obtain ⟨j, hj', ej⟩ := hall p a3
              have := sa_wlt S.1 T.1 a3
              have j0 : j ≠ 0 := by
                intro z
                rw [z, hL.2.1] at ej
                exact a1 ej.symm
              refine ⟨j - 1, by omega, ?_⟩
              show qs (j - 1 + 1) = rl_N ps (24 * t + i)
              rw [show j - 1 + 1 = j by omega, ej, rb_N a2 (by omega)]
            · intro i j hi hj' e
              obtain ⟨p, a1, a2, a3, _, _⟩ := T.2.2.2.1 i hi
              obtain ⟨p', b1, b2, b3, _, _⟩ := T.2.2.2.1 j hj'
              have c1 := sa_wlt S.1 T.1 a3
              have c2 := sa_wlt S.1 T.1 b3
              have e' : rl_N ps (24 * t + i) = rl_N ps (24 * t + j) := e
              rw [rb_N a2 (by omega), rb_N b2 (by omega)] at e'
              refine T.2.2.2.2.2 i j hi hj' ?_
              rw [a2, b2, e']
          omega
        subst hcard
        refine ys_t ht (br_t rfl ⟨24, yw_rs12 (ex0 := ex) 24 1 ex (by omega) (by omega) (by omega) (fun _ _ => rfl) (fun e h1 h2 => absurd h2 (by omega)) (fun _ _ _ => rfl) ⟨na + 1, ?_⟩⟩)
        have go := yw_rs35 (ex := fun e => if 1 ≤ e ∧ e < 24 then 0 else ex e) (fi := fi) (pa := pa) (nm := nm) (co := co) (ym := ym)
          (post := fun r' v' => r' = nI (na + 1) - 1 ∧ i_Rel (k + 4) (fc, (nI (na + 1)), (st_u (fun e => if 1 ≤ e ∧ e < 24 then 0 else ex e) (fun _ => vp_nar .boolean 1) (na + 1)), (st_u pa (fun i => nI (jp i)) (na + 1)), (st_u nm (fun i => nI (qs i % 9 - 1)) (na + 1)), (st_u fi (fun i => vp_nar .boolean (rt_F kn (sa_w (rs_c ch) (rl_N sn t)) qs i)) (na + 1)), (st_u co (fun i => cn (sa_w (rs_c ch) (rl_N sn t) (qs i))) (na + 1)), no', kn, cn, ch, nx, bk, mk, dr, sn, lf, rt, wh, fd) v')
          S.1 T.1 (by omega) ca T hqH hall E0 E1 F0 H.2.2 ?_ (na + 1) 0 (by omega) (by omega)
        · rw [hL.2.1, st_1, st_1, st_1, st_1, st_1] at go
          exact go
        · refine ⟨(nI_pred na).symm, ir_mk ?_⟩
          obtain ⟨⟨W', hc⟩, hE, _⟩ := rt_stage (ex := fun e => if 1 ≤ e ∧ e < 24 then 0 else ex e) (pa := pa) (nm := nm) (fi := fi) S.1 T.1 hqH E0 E1 F0 H.2.2 (na + 1) (by omega) (by omega)
          have hN : ∀ e, e < na + 1 → rl_N no' e = sa_w (rs_c ch) (rl_N sn t) (qs e) ∧ no' e = nI (sa_w (rs_c ch) (rl_N sn t) (qs e)) := by
            intro e he
            have a1 := hL.1 e he
            have v := (sa_wV S.1 (Or.inr T.1) (qs e)).resolve_left a1.2
            have := v.2.1
            exact ⟨rb_N a1.1 (by omega), a1.1⟩
          refine ⟨W', ?_, ⟨S, hI.2.1, ?_, hI.2.2.2.1, ?_, hI.2.2.2.2.2⟩, hT⟩
          · have := ct_ge (f := st_u (fun e => if 1 ≤ e ∧ e < 24 then 0 else ex e) (fun _ => vp_nar .boolean 1) (na + 1)) (n := na + 1) (23 - na) (by
              intro j hj'
              have := hE j
              unfold rl_E at this
              constructor
              · intro q; exact this.mp ⟨by omega, q⟩
              · intro q; exact (this.mpr q).2)
            rw [show na + 1 + (23 - na) = 24 by omega] at this
            rw [this]
          · intro e he hn
            have he' := (hE e).mp he
            obtain ⟨n1, n2⟩ := hN e he'
            have v := (sa_wV S.1 (Or.inr T.1) (qs e)).resolve_left (hL.1 e he').2
            have st := S.1.2.2.1 _ v
            have hfi : (st_u fi (fun i => vp_nar .boolean (rt_F kn (sa_w (rs_c ch) (rl_N sn t)) qs i)) (na + 1) e = 0 ∧ kn (sa_w (rs_c ch) (rl_N sn t) (qs e)) = 2) ∨ (st_u fi (fun i => vp_nar .boolean (rt_F kn (sa_w (rs_c ch) (rl_N sn t)) qs i)) (na + 1) e ≠ 0 ∧ kn (sa_w (rs_c ch) (rl_N sn t) (qs e)) = 1 ∧ 1 ≤ e) := by
              by_cases z : e = 0
              · left
                rw [z, st_hi (na + 1) 0 (Or.inl rfl), hL.2.1, sa_w_0]
                exact ⟨F0, T.2.1⟩
              · rw [st_lo (na + 1) e (by omega) he']
                unfold rt_F
                rcases st.1 with q | q
                · right
                  rw [q, if_pos rfl]
                  exact ⟨by decide, rfl, by omega⟩
                · left
                  rw [q, if_neg (by decide)]
                  exact ⟨rb_b0, rfl⟩
            rw [n1]
            refine ⟨v, ?_, ?_, ?_, ?_⟩
            · rcases hfi with ⟨q1, q2⟩ | ⟨q1, q2, _⟩
              · rw [if_pos q1, q2]
              · rw [if_neg q1, q2]
            · rcases hfi with ⟨q1, q2⟩ | ⟨q1, q2, q3⟩
              · rw [if_pos q1]; exact st.2.2.2.1 q2
              · rw [if_neg q1, st_lo (na + 1) e q3 he']
            · intro e' g1 g2 g3
              have g1' := (hE e').mp g1
              obtain ⟨m1, m2⟩ := hN e' g1'
              have cs := ea_c_s W'.1 g1 g2
              have hM := ea_M W'.1 g1 g2
              rw [g3, hc e' g1', hc e he'] at cs
              rw [m1]
              refine ⟨(hL.1 e' g1').2, ?_⟩
              rw [cs, sa_w_s hM]
            · intro m hm hno
              apply Classical.byContradiction
              intro hne
              rw [← sa_w_s (c := rs_c ch) (r := rl_N sn t) (p := qs e) hm] at hne
              obtain ⟨i, hi, ei⟩ := hall _ hne
              have i0 : i ≠ 0 := by
                intro z
                rw [z, hL.2.1] at ei
                omega
              have hEi := (hE i).mpr hi
              have cs := ea_c_s W'.1 hEi i0
              have hM := ea_M W'.1 hEi i0
              have hP := (hE _).mp (ea_P W'.1 hEi i0)
              rw [hc i hi, hc _ hP, ei] at cs
              have e3 : rl_N (st_u pa (fun i => nI (jp i)) (na + 1)) i = e := cp_mi hL.2.2.1 _ e hP he' (by omega)
              exact hno i hEi i0 e3 (by omega)
          · intro e he
            obtain ⟨n1, n2⟩ := hN e ((hE e).mp he)
            rw [n1]; exact n2)
    rw [st_1, st_1, st_1, st_1, st_1] at start
    exact start
  · exact xs_f hb (br_t rfl (ys_f hb (br_f (by decide) ⟨rfl, ir_mk R⟩)))
end
section
/-! the constructors -/
theorem it_0 : ∀ e, rl_N (fun _ => (0 : Int32)) e = 0 := fun e => show (0 : Int32).toNatClampNeg = 0 by decide
section
variable {fc ec : Int32} {ex pa nm fi co no kn cn ch nx bk mk dr sn lf rt wh fd : Nat → Int32}
theorem xw_in170 {post : SX → Prop} : ∀ n i sn, i ≤ 3 → 3 < n + i → (∀ t, t < i → sn t = no 0) → (∀ sn', (∀ t, t < 3 → sn' t = no 0) → post (fc, ec, ex, pa, nm, fi, co, no, kn, cn, ch, nx, bk, mk, dr, sn', lf, rt, wh, fd)) → wX_init_170 post fc ec n (nI i) ex pa nm fi co no kn cn ch nx bk mk dr sn lf rt wh fd := by
  intro n
  induction n with
  | zero => intro i sn h1 h2; omega
  | succ n ih =>
    intro i sn h1 h2 hD hp
    refine pk_le 3 i (fun h => hp sn (fun t ht => hD t (by omega))) (fun h => ?_)
    refine ⟨pk_in i 3 h, nm_r (e' := upd sn i (no 0)) (by rw [nI_clamp (by omega)]) (nm_r (nI_1 i) (ih (i + 1) _ (by omega) (by omega) ?_ hp))⟩
    intro t ht
    by_cases q : t = i
    · rw [q, pk_us]
    · rw [pk_un q]; exact hD t (by omega)
end
theorem it_E (e : Nat) : rl_E (upd (fun _ => 0) 0 (vp_nar .boolean 1)) e ↔ e = 0 := by
  unfold rl_E
  by_cases q : e = 0
  · rw [q, pk_us]; exact ⟨fun _ => rfl, fun _ => ⟨by omega, by decide⟩⟩
  · rw [pk_un q]; exact ⟨fun w => absurd rfl w.2, fun w => absurd w q⟩
theorem it_W : rl_W (upd (fun _ => 0) 0 (vp_nar .boolean 1)) (fun _ => 0) (fun _ => 0) (fun _ => 0) := by
  have only : ∀ e, rl_E (upd (fun _ => 0) 0 (vp_nar .boolean 1)) e → e = 0 := fun e he => (it_E e).mp he
  refine ⟨⟨(it_E 0).mpr rfl, rfl, fun e he => he.1, fun e he h0 => absurd (only e he) h0, fun e e' he _ h0 => absurd (only e he) h0, fun e he => ?_⟩, fun e he h0 => absurd (only e he) h0, fun e _ => Or.inl rfl⟩
  rw [only e he, ea_dF_0]; omega
theorem it_c (m : Nat) (n : Nat) : rs_c (fun _ => 0) n m = 0 := it_0 _
theorem it_I : rf_I (upd (fun _ => 0) 0 (vp_nar .boolean 1)) (fun _ => 0) (fun _ => 0) (fun _ => 0) (fun _ => 0) (fun _ => 0) (fun _ => 0) (fun _ => 0) (fun _ => 0) (fun _ => 0) (fun _ => 0) (fun _ => 0) := by
  have nv : ∀ n, ¬ sa_V (fun _ => (0 : Int32)) n := fun n h => h.2.2 rfl
  refine ⟨⟨⟨rfl, fun m _ => it_c m 0, fun n h => absurd h (nv n), fun n n' h => absurd h (nv n)⟩, fun i _ => ⟨0, by omega, rfl⟩⟩, ⟨fun _ => [], fun k _ => ⟨rfl, List.nodup_nil, fun a => ⟨(fun q => nomatch q), fun q => absurd q.1 (nv a)⟩⟩⟩, fun e _ hn => absurd (it_0 e) hn, fun t _ => ⟨Or.inl (it_0 t), fun _ => 0, fun p hp => ?_⟩, fun e _ => ?_, fun t _ => ?_⟩
  · rw [it_0 t] at hp
    exact absurd (sa_w0 (fun m _ => it_c m 0) p) hp
  · rw [it_0 e]; rfl
  · rw [it_0 t]; rfl
theorem i_vc0 : wpX_init (fun u => wpY_init (fun v => i_Rel 0 u v)) := by
  unfold wpX_init
  refine nm_e (xw_refresh it_W it_I ?_)
  intro no kn cn ch nx bk mk dr I' hK F
  refine ⟨4, xw_in170 4 0 _ (by omega) (by omega) (fun t ht => absurd ht (by omega)) ?_⟩
  intro sn hsn
  unfold wpY_init
  refine nm_e ?_
  have hct : ct_n (upd (fun _ => 0) 0 (vp_nar .boolean 1)) 24 = 1 := by
    refine ct_ge (n := 1) 23 ?_
    intro j hj
    have := it_E j
    unfold rl_E at this
    constructor
    · intro q
      have := this.mp ⟨by omega, q⟩
      omega
    · intro q; exact (this.mpr (by omega)).2
  have e0 : (0 : Nat) < 24 := by omega
  have E0 : rl_E (upd (fun _ => 0) 0 (vp_nar .boolean 1)) 0 := (it_E 0).mpr rfl
  have n0 : no 0 = nI (rl_N no 0) := I'.2.2.2.2.1 0 E0
  have v0 := rf_no128 I' E0
  have hN : ∀ t, t < 3 → rl_N sn t = rl_N no 0 := fun t ht => by unfold rl_N; rw [hsn t ht]
  have T : ∀ t, t < 3 → ∃ n, (fun _ => (0 : Int32)) t = nI n ∧ sn_T kn cn (rs_c ch) (rl_N sn t) n (fun _ => 0) (fun _ => 0) (fun _ => 0) (24 * t) := by
    intro t ht
    refine ⟨0, rfl, ?_⟩
    rw [hN t ht]
    refine wo_T it_W I'.1.1 I'.2.2.1 F (by rw [hct]) ?_
    exact ⟨fun _ => 0, fun j hj => absurd hj (by omega), fun e he h0 _ => absurd ((it_E e).mp he) h0, fun j _ hj => absurd hj (by omega)⟩
  refine ir_mk ⟨it_W, by rw [hct]; rfl, ⟨I'.1, I'.2.1, I'.2.2.1, sp_of I'.1.1 T, I'.2.2.2.2.1, ?_⟩, T⟩
  intro t ht
  rw [hN t ht, hsn t ht]; exact n0
end
